section
-- ===== PART A: goes FIRST, ahead of the names: the tables' words, and 'selects' of the private methods out of them =====
/-- a private method of a class that the tables say can be made, by its rows of tables_1 -/
def lw_okq (q : MethodName × Nat) : Prop := (q.1.cls ≠ "java/lang/invoke/MethodHandle" ∧ q.1.cls ≠ "java/lang/invoke/VarHandle") ∧ Cond.instantiable q.1.cls q.2 ∈ tables_1 ∧ Cond.privateMethod q.1 ∈ tables_1 ∧ Cond.instanceMethod q.1 ∈ tables_1
set_option maxRecDepth 100000
theorem lw_t1 {w : Cond} (h : w ∈ tables_1_1) : w ∈ tables_1 := List.mem_append_left _ h
theorem lw_t2 {w : Cond} (h : w ∈ tables_1_2) : w ∈ tables_1 := List.mem_append_right _ h
theorem lw_p0 : lw_okq (⟨"LogStore", "append", "(IZI)V"⟩, 17) := ⟨⟨by decide +kernel, by decide +kernel⟩, lw_t1 (List.mem_of_getElem? (i := 4) rfl), lw_t1 (List.mem_of_getElem? (i := 78) rfl), lw_t1 (List.mem_of_getElem? (i := 79) rfl)⟩
theorem lw_p1 : lw_okq (⟨"LogStore", "rewrite", "()V"⟩, 17) := ⟨⟨by decide +kernel, by decide +kernel⟩, lw_t1 (List.mem_of_getElem? (i := 4) rfl), lw_t1 (List.mem_of_getElem? (i := 82) rfl), lw_t1 (List.mem_of_getElem? (i := 83) rfl)⟩
theorem lw_p2 : lw_okq (⟨"LogStore", "before", "(II)I"⟩, 17) := ⟨⟨by decide +kernel, by decide +kernel⟩, lw_t1 (List.mem_of_getElem? (i := 4) rfl), lw_t1 (List.mem_of_getElem? (i := 86) rfl), lw_t1 (List.mem_of_getElem? (i := 87) rfl)⟩
theorem lw_p3 : lw_okq (⟨"LogStore", "holds", "(I)Z"⟩, 17) := ⟨⟨by decide +kernel, by decide +kernel⟩, lw_t1 (List.mem_of_getElem? (i := 4) rfl), lw_t1 (List.mem_of_getElem? (i := 90) rfl), lw_t1 (List.mem_of_getElem? (i := 91) rfl)⟩
theorem lw_p4 : lw_okq (⟨"LogStore", "carryOver", "(II)I"⟩, 17) := ⟨⟨by decide +kernel, by decide +kernel⟩, lw_t1 (List.mem_of_getElem? (i := 4) rfl), lw_t1 (List.mem_of_getElem? (i := 94) rfl), lw_t1 (List.mem_of_getElem? (i := 95) rfl)⟩
theorem lw_p5 : lw_okq (⟨"LogStore", "cutTo", "(I)V"⟩, 17) := ⟨⟨by decide +kernel, by decide +kernel⟩, lw_t1 (List.mem_of_getElem? (i := 4) rfl), lw_t1 (List.mem_of_getElem? (i := 114) rfl), lw_t1 (List.mem_of_getElem? (i := 115) rfl)⟩
theorem lw_p6 : lw_okq (⟨"LogStore", "differs", "(I)Z"⟩, 17) := ⟨⟨by decide +kernel, by decide +kernel⟩, lw_t1 (List.mem_of_getElem? (i := 4) rfl), lw_t1 (List.mem_of_getElem? (i := 155) rfl), lw_t1 (List.mem_of_getElem? (i := 156) rfl)⟩
theorem lw_p7 : lw_okq (⟨"LogStoreModel", "key", "(I)Z"⟩, 8) := ⟨⟨by decide +kernel, by decide +kernel⟩, lw_t1 (List.mem_of_getElem? (i := 163) rfl), lw_t1 (List.mem_of_getElem? (i := 202) rfl), lw_t1 (List.mem_of_getElem? (i := 203) rfl)⟩
theorem lw_p8 : lw_okq (⟨"LogStoreModel", "change", "()V"⟩, 8) := ⟨⟨by decide +kernel, by decide +kernel⟩, lw_t1 (List.mem_of_getElem? (i := 163) rfl), lw_t1 (List.mem_of_getElem? (i := 206) rfl), lw_t1 (List.mem_of_getElem? (i := 207) rfl)⟩
theorem lw_p9 : lw_okq (⟨"LogStoreModel", "settle", "()V"⟩, 8) := ⟨⟨by decide +kernel, by decide +kernel⟩, lw_t1 (List.mem_of_getElem? (i := 163) rfl), lw_t1 (List.mem_of_getElem? (i := 210) rfl), lw_t1 (List.mem_of_getElem? (i := 211) rfl)⟩
theorem lw_p10 : lw_okq (⟨"LogStoreModel", "back", "()V"⟩, 8) := ⟨⟨by decide +kernel, by decide +kernel⟩, lw_t1 (List.mem_of_getElem? (i := 163) rfl), lw_t1 (List.mem_of_getElem? (i := 230) rfl), lw_t1 (List.mem_of_getElem? (i := 231) rfl)⟩
def lw_privs_1 : List (MethodName × Nat) := [(⟨"LogStore", "append", "(IZI)V"⟩, 17), (⟨"LogStore", "rewrite", "()V"⟩, 17), (⟨"LogStore", "before", "(II)I"⟩, 17), (⟨"LogStore", "holds", "(I)Z"⟩, 17), (⟨"LogStore", "carryOver", "(II)I"⟩, 17), (⟨"LogStore", "cutTo", "(I)V"⟩, 17), (⟨"LogStore", "differs", "(I)Z"⟩, 17), (⟨"LogStoreModel", "key", "(I)Z"⟩, 8), (⟨"LogStoreModel", "change", "()V"⟩, 8), (⟨"LogStoreModel", "settle", "()V"⟩, 8), (⟨"LogStoreModel", "back", "()V"⟩, 8)]
theorem lw_r1 : ∀ q ∈ lw_privs_1, lw_okq q := List.forall_mem_cons.mpr ⟨lw_p0, List.forall_mem_cons.mpr ⟨lw_p1, List.forall_mem_cons.mpr ⟨lw_p2, List.forall_mem_cons.mpr ⟨lw_p3, List.forall_mem_cons.mpr ⟨lw_p4, List.forall_mem_cons.mpr ⟨lw_p5, List.forall_mem_cons.mpr ⟨lw_p6, List.forall_mem_cons.mpr ⟨lw_p7, List.forall_mem_cons.mpr ⟨lw_p8, List.forall_mem_cons.mpr ⟨lw_p9, List.forall_mem_cons.mpr ⟨lw_p10, fun _ h => absurd h List.not_mem_nil⟩⟩⟩⟩⟩⟩⟩⟩⟩⟩⟩
def lw_privs : List (MethodName × Nat) := lw_privs_1
def lw_tbl : List Cond := k2_sels lw_privs ++ tables_1
theorem lw_privs_ok : ∀ q ∈ lw_privs, lw_okq q := lw_r1
-- ===== ONE list of words for every method: the tables' words that hold all through a run =====
def lw_all : List Cond := lw_tbl.filter goodWord
/-- a word of the tables by its place: claim/WORDS.tsv -/
theorem lw_w {w : Cond} (i : Nat) (h : lw_tbl[i]? = some w) (g : goodWord w = true) : w ∈ lw_all := List.mem_filter.mpr ⟨List.mem_of_getElem? h, g⟩
theorem lw_all_tbl {w : Cond} (h : w ∈ lw_all) : w ∈ lw_tbl := (List.mem_filter.mp h).1
theorem lw_self : GoodIn lw_all lw_all := fun w h => ⟨h, good_of_word (List.mem_filter.mp h).2⟩
/-- a class's field words, by their places -/
theorem lw_in (ws : List Cond) (ps : List Nat) (hp : ws = ps.filterMap (fun i => lw_tbl[i]?)) (hg : ws.all goodWord = true) : ∀ w ∈ ws, w ∈ lw_all := by
  intro w h
  have h1 := List.all_eq_true.mp hg w h
  rw [hp] at h
  obtain ⟨i, -, hi⟩ := List.mem_filterMap.mp h
  exact lw_w i hi h1
/-- the words of a contract for the method y with code b, L locals, answer r -/
abbrev ws_ (y : MethodName) (b : ByteArray) (L : Nat) (r : Option FieldType) : List Cond := Cond.code y b L r :: lw_all
theorem lw_meth {y : MethodName} {b : ByteArray} {L : Nat} {r : Option FieldType} (h : Cond.code y b L r ∈ lw_all) : GoodIn lw_all (ws_ y b L r) := by
  intro w hw
  rcases List.mem_cons.mp hw with e | e
  · rw [e]
    exact lw_self _ h
  · exact lw_self _ e
theorem lw_app {a c : List Cond} (ha : ∀ w ∈ a, w ∈ lw_all) (hc : GoodIn lw_all c) : GoodIn lw_all (a ++ c) := by
  intro w hw
  rcases List.mem_append.mp hw with e | e
  · exact lw_self w (ha w e)
  · exact hc w e
/-- what a call through an object asks: cwV n hts (lw_V ..) -/
theorem lw_V {own : String} {idx : Nat} {C : String} {y : MethodName} {b : ByteArray} {L : Nat} {r : Option FieldType} (h1 : Cond.methodLink own idx y ∈ lw_all) (h2 : Cond.instanceMethod y ∈ lw_all) (h3 : Cond.selects C y y ∈ lw_all) (h4 : Cond.initialized C ∈ lw_all) (h5 : Cond.code y b L r ∈ lw_all) : GoodIn lw_all (wsV own idx C y (ws_ y b L r)) := by
  refine lw_app ?_ (lw_meth h5)
  intro w hw
  simp only [List.mem_cons, List.not_mem_nil, or_false] at hw
  rcases hw with e | e | e | e
  · rw [e]; exact h1
  · rw [e]; exact h2
  · rw [e]; exact h3
  · rw [e]; exact h4
/-- what a static call asks: va_cwS n hts (lw_S ..) -/
theorem lw_S {own : String} {idx : Nat} {y : MethodName} {b : ByteArray} {L : Nat} {r : Option FieldType} (h1 : Cond.methodLink own idx y ∈ lw_all) (h2 : Cond.static y ∈ lw_all) (h3 : Cond.initialized y.cls ∈ lw_all) (h4 : Cond.code y b L r ∈ lw_all) : GoodIn lw_all (va_wsS own idx y (ws_ y b L r)) := by
  refine lw_app ?_ (lw_meth h4)
  intro w hw
  simp only [List.mem_cons, List.not_mem_nil, or_false] at hw
  rcases hw with e | e | e
  · rw [e]; exact h1
  · rw [e]; exact h2
  · rw [e]; exact h3
/-- the words of a contract for a method WITH HANDLERS (hh: its table) -/
abbrev wsW_ (y : MethodName) (b : ByteArray) (L : Nat) (r : Option FieldType) (hh : List (Nat × Nat × Nat × Nat)) : List Cond := Cond.codeWith y b L r hh :: lw_all
theorem lw_methW {y : MethodName} {b : ByteArray} {L : Nat} {r : Option FieldType} {hh : List (Nat × Nat × Nat × Nat)} (h : Cond.codeWith y b L r hh ∈ lw_all) : GoodIn lw_all (wsW_ y b L r hh) := by
  intro w hw
  rcases List.mem_cons.mp hw with e | e
  · rw [e]
    exact lw_self _ h
  · exact lw_self _ e
/-- any list of words by their places (lw_in), good -/
theorem lw_good {ws : List Cond} (h : ∀ w ∈ ws, w ∈ lw_all) : GoodIn lw_all ws := fun w hw => lw_self w (h w hw)
/-- what a call of a method with handlers asks: vx_cwVW n hts (lw_VW ..), vx_cwSW n hts (lw_SW ..) -/
theorem lw_VW {own : String} {idx : Nat} {C : String} {y : MethodName} {b : ByteArray} {L : Nat} {r : Option FieldType} {hh : List (Nat × Nat × Nat × Nat)} (h1 : Cond.methodLink own idx y ∈ lw_all) (h2 : Cond.instanceMethod y ∈ lw_all) (h3 : Cond.selects C y y ∈ lw_all) (h4 : Cond.initialized C ∈ lw_all) (h5 : Cond.codeWith y b L r hh ∈ lw_all) : GoodIn lw_all (wsV own idx C y (wsW_ y b L r hh)) := by
  refine lw_app ?_ (lw_methW h5)
  intro w hw
  simp only [List.mem_cons, List.not_mem_nil, or_false] at hw
  rcases hw with e | e | e | e
  · rw [e]; exact h1
  · rw [e]; exact h2
  · rw [e]; exact h3
  · rw [e]; exact h4
theorem lw_SW {own : String} {idx : Nat} {y : MethodName} {b : ByteArray} {L : Nat} {r : Option FieldType} {hh : List (Nat × Nat × Nat × Nat)} (h1 : Cond.methodLink own idx y ∈ lw_all) (h2 : Cond.static y ∈ lw_all) (h3 : Cond.initialized y.cls ∈ lw_all) (h4 : Cond.codeWith y b L r hh ∈ lw_all) : GoodIn lw_all (va_wsS own idx y (wsW_ y b L r hh)) := by
  refine lw_app ?_ (lw_methW h4)
  intro w hw
  simp only [List.mem_cons, List.not_mem_nil, or_false] at hw
  rcases hw with e | e | e
  · rw [e]; exact h1
  · rw [e]; exact h2
  · rw [e]; exact h3
/-- a word by its place in its run of the tables -/
theorem lw_at {r : List Cond} (hr : ∀ w ∈ r, w ∈ lw_tbl) {w : Cond} (i : Nat) (h : r[i]? = some w) : w ∈ lw_tbl := hr w (List.mem_of_getElem? h)
theorem lw_g {w : Cond} (h : w ∈ lw_tbl) (g : goodWord w = true) : w ∈ lw_all := List.mem_filter.mpr ⟨h, g⟩
theorem lw_ms : ∀ w ∈ k2_sels lw_privs, w ∈ lw_tbl := fun w h => show w ∈ k2_sels lw_privs ++ tables_1 from List.mem_append_left _ h
theorem lw_m1 : ∀ w ∈ tables_1_1, w ∈ lw_tbl := fun w h => show w ∈ k2_sels lw_privs ++ tables_1 from List.mem_append_right (k2_sels lw_privs) (show w ∈ tables_1 from List.mem_append_left _ h)
theorem lw_m2 : ∀ w ∈ tables_1_2, w ∈ lw_tbl := fun w h => show w ∈ k2_sels lw_privs ++ tables_1 from List.mem_append_right (k2_sels lw_privs) (show w ∈ tables_1 from List.mem_append_right _ h)
theorem qs0 : (Cond.selects "LogStore" ⟨"LogStore", "append", "(IZI)V"⟩ ⟨"LogStore", "append", "(IZI)V"⟩) ∈ lw_all := lw_g (lw_at lw_ms 0 rfl) rfl
theorem qs1 : (Cond.selects "LogStore" ⟨"LogStore", "rewrite", "()V"⟩ ⟨"LogStore", "rewrite", "()V"⟩) ∈ lw_all := lw_g (lw_at lw_ms 1 rfl) rfl
theorem qs2 : (Cond.selects "LogStore" ⟨"LogStore", "before", "(II)I"⟩ ⟨"LogStore", "before", "(II)I"⟩) ∈ lw_all := lw_g (lw_at lw_ms 2 rfl) rfl
theorem qs3 : (Cond.selects "LogStore" ⟨"LogStore", "holds", "(I)Z"⟩ ⟨"LogStore", "holds", "(I)Z"⟩) ∈ lw_all := lw_g (lw_at lw_ms 3 rfl) rfl
theorem qs4 : (Cond.selects "LogStore" ⟨"LogStore", "carryOver", "(II)I"⟩ ⟨"LogStore", "carryOver", "(II)I"⟩) ∈ lw_all := lw_g (lw_at lw_ms 4 rfl) rfl
theorem qs5 : (Cond.selects "LogStore" ⟨"LogStore", "cutTo", "(I)V"⟩ ⟨"LogStore", "cutTo", "(I)V"⟩) ∈ lw_all := lw_g (lw_at lw_ms 5 rfl) rfl
theorem qs6 : (Cond.selects "LogStore" ⟨"LogStore", "differs", "(I)Z"⟩ ⟨"LogStore", "differs", "(I)Z"⟩) ∈ lw_all := lw_g (lw_at lw_ms 6 rfl) rfl
theorem qs7 : (Cond.selects "LogStoreModel" ⟨"LogStoreModel", "key", "(I)Z"⟩ ⟨"LogStoreModel", "key", "(I)Z"⟩) ∈ lw_all := lw_g (lw_at lw_ms 7 rfl) rfl
theorem qs8 : (Cond.selects "LogStoreModel" ⟨"LogStoreModel", "change", "()V"⟩ ⟨"LogStoreModel", "change", "()V"⟩) ∈ lw_all := lw_g (lw_at lw_ms 8 rfl) rfl
theorem qs9 : (Cond.selects "LogStoreModel" ⟨"LogStoreModel", "settle", "()V"⟩ ⟨"LogStoreModel", "settle", "()V"⟩) ∈ lw_all := lw_g (lw_at lw_ms 9 rfl) rfl
theorem qs10 : (Cond.selects "LogStoreModel" ⟨"LogStoreModel", "back", "()V"⟩ ⟨"LogStoreModel", "back", "()V"⟩) ∈ lw_all := lw_g (lw_at lw_ms 10 rfl) rfl
end
section
/-! LogStore -/
set_option maxRecDepth 100000
def RX0 : String := "LogStore"
def TX0 : u_T := fun k => match k with
  | 0 => ("LogStore", "keyOf", "[B", true)
  | 1 => ("LogStore", "removes", "[Z", true)
  | 2 => ("LogStore", "valueOf", "[I", true)
  | 3 => ("LogStore", "earlier", "[B", true)
  | 4 => ("LogStore", "end", "I", false)
  | 5 => ("LogStore", "safeEnd", "I", false)
  | 6 => ("LogStore", "open", "Z", false)
  | 7 => ("LogStore", "openStart", "I", false)
  | 8 => ("LogStore", "openChanges", "I", false)
  | 9 => ("LogStore", "latest", "[B", true)
  | 10 => ("LogStore", "keptSafe", "[B", true)
  | 11 => ("LogStore", "keptLater", "[B", true)
  | 12 => ("LogStore", "keptOpen", "[B", true)
  | 13 => ("LogStore", "newKey", "[B", true)
  | 14 => ("LogStore", "newRemoves", "[Z", true)
  | 15 => ("LogStore", "newValue", "[I", true)
  | _ => ("LogStore", "newEarlier", "[B", true)
def tyX0 : Nat → FieldType := fun k => match k with
  | 0 => .array .byte
  | 1 => .array .boolean
  | 2 => .array .int
  | 3 => .array .byte
  | 4 => .int
  | 5 => .int
  | 6 => .boolean
  | 7 => .int
  | 8 => .int
  | 9 => .array .byte
  | 10 => .array .byte
  | 11 => .array .byte
  | 12 => .array .byte
  | 13 => .array .byte
  | 14 => .array .boolean
  | 15 => .array .int
  | _ => .array .byte
abbrev wsX00 : List Cond := u_ws RX0 TX0 17
set_option maxRecDepth 100000 in
theorem nmX0 : ∀ a, a < 17 → ∀ b, b < 17 → a ≠ b → (TX0 a).2.1 ≠ (TX0 b).2.1 := by decide +kernel
set_option maxRecDepth 100000 in
theorem tyX0_ok : ∀ k, k < 17 → parseFieldDescriptor (TX0 k).2.2.1 = some (tyX0 k) := by decide +kernel
abbrev cX0_init : ByteArray := prog_1_method_1_code
def yX0_init : MethodName := ⟨RX0, "<init>", "()V"⟩
abbrev cX0_begin : ByteArray := prog_1_method_8_code
def yX0_begin : MethodName := ⟨RX0, "begin", "()I"⟩
abbrev cX0_put : ByteArray := prog_1_method_9_code
def yX0_put : MethodName := ⟨RX0, "put", "(II)Z"⟩
abbrev cX0_isKey : ByteArray := prog_1_method_2_code
def yX0_isKey : MethodName := ⟨RX0, "isKey", "(I)Z"⟩
abbrev cX0_append : ByteArray := prog_1_method_3_code
def yX0_append : MethodName := ⟨RX0, "append", "(IZI)V"⟩
abbrev cX0_rewrite : ByteArray := prog_1_method_6_code
def yX0_rewrite : MethodName := ⟨RX0, "rewrite", "()V"⟩
abbrev cX0_before : ByteArray := prog_1_method_4_code
def yX0_before : MethodName := ⟨RX0, "before", "(II)I"⟩
abbrev cX0_holds : ByteArray := prog_1_method_5_code
def yX0_holds : MethodName := ⟨RX0, "holds", "(I)Z"⟩
abbrev cX0_carryOver : ByteArray := prog_1_method_7_code
def yX0_carryOver : MethodName := ⟨RX0, "carryOver", "(II)I"⟩
abbrev cX0_remove : ByteArray := prog_1_method_10_code
def yX0_remove : MethodName := ⟨RX0, "remove", "(I)Z"⟩
abbrev cX0_has : ByteArray := prog_1_method_17_code
def yX0_has : MethodName := ⟨RX0, "has", "(I)Z"⟩
abbrev cX0_commit : ByteArray := prog_1_method_11_code
def yX0_commit : MethodName := ⟨RX0, "commit", "()I"⟩
abbrev cX0_abort : ByteArray := prog_1_method_12_code
def yX0_abort : MethodName := ⟨RX0, "abort", "()I"⟩
abbrev cX0_cutTo : ByteArray := prog_1_method_14_code
def yX0_cutTo : MethodName := ⟨RX0, "cutTo", "(I)V"⟩
abbrev cX0_sync : ByteArray := prog_1_method_13_code
def yX0_sync : MethodName := ⟨RX0, "sync", "()V"⟩
abbrev cX0_clean : ByteArray := prog_1_method_15_code
def yX0_clean : MethodName := ⟨RX0, "clean", "()V"⟩
abbrev cX0_crash : ByteArray := prog_1_method_16_code
def yX0_crash : MethodName := ⟨RX0, "crash", "()V"⟩
abbrev cX0_get : ByteArray := prog_1_method_18_code
def yX0_get : MethodName := ⟨RX0, "get", "(I)I"⟩
abbrev cX0_next : ByteArray := prog_1_method_19_code
def yX0_next : MethodName := ⟨RX0, "next", "(I)I"⟩
abbrev cX0_count : ByteArray := prog_1_method_20_code
def yX0_count : MethodName := ⟨RX0, "count", "()I"⟩
abbrev cX0_safeKeys : ByteArray := prog_1_method_21_code
def yX0_safeKeys : MethodName := ⟨RX0, "safeKeys", "()I"⟩
abbrev cX0_safeValue : ByteArray := prog_1_method_22_code
def yX0_safeValue : MethodName := ⟨RX0, "safeValue", "(I)I"⟩
abbrev cX0_unsafe : ByteArray := prog_1_method_23_code
def yX0_unsafe : MethodName := site_359
abbrev cX0_differs : ByteArray := prog_1_method_24_code
def yX0_differs : MethodName := ⟨RX0, "differs", "(I)Z"⟩
abbrev cX0_pending : ByteArray := prog_1_method_25_code
def yX0_pending : MethodName := ⟨RX0, "pending", "()I"⟩
theorem q12 : (Jvm.Cond.initialized "LogStore") ∈ lw_all := lw_g (lw_at lw_m1 1 rfl) rfl
theorem q15 : (Jvm.Cond.instantiable "LogStore" (17 : Nat)) ∈ lw_all := lw_g (lw_at lw_m1 4 rfl) rfl
theorem q17 : (Jvm.Cond.instanceMethod ({ cls := "LogStore", name := "<init>", desc := "()V" } : Jvm.MethodName)) ∈ lw_all := lw_g (lw_at lw_m1 6 rfl) rfl
theorem q18 : (Jvm.Cond.code ({ cls := "LogStore", name := "<init>", desc := "()V" } : Jvm.MethodName) prog_1_method_1_code (2 : Nat) (Option.none : Option Jvm.ClassFile.FieldType)) ∈ lw_all := lw_g (lw_at lw_m1 7 rfl) rfl
theorem q19 : (Jvm.Cond.methodLink "LogStore" (1 : Nat) ({ cls := "java/lang/Object", name := "<init>", desc := "()V" } : Jvm.MethodName)) ∈ lw_all := lw_g (lw_at lw_m1 8 rfl) rfl
theorem q22 : (Jvm.Cond.fieldLink "LogStore" (7 : Nat) "LogStore" "keyOf" "[B") ∈ lw_all := lw_g (lw_at lw_m1 11 rfl) rfl
theorem q23 : (Jvm.Cond.fieldLink "LogStore" (13 : Nat) "LogStore" "removes" "[Z") ∈ lw_all := lw_g (lw_at lw_m1 12 rfl) rfl
theorem q24 : (Jvm.Cond.fieldLink "LogStore" (17 : Nat) "LogStore" "valueOf" "[I") ∈ lw_all := lw_g (lw_at lw_m1 13 rfl) rfl
theorem q25 : (Jvm.Cond.fieldLink "LogStore" (21 : Nat) "LogStore" "earlier" "[B") ∈ lw_all := lw_g (lw_at lw_m1 14 rfl) rfl
theorem q26 : (Jvm.Cond.fieldLink "LogStore" (48 : Nat) "LogStore" "end" "I") ∈ lw_all := lw_g (lw_at lw_m1 15 rfl) rfl
theorem q27 : (Jvm.Cond.fieldLink "LogStore" (65 : Nat) "LogStore" "safeEnd" "I") ∈ lw_all := lw_g (lw_at lw_m1 16 rfl) rfl
theorem q28 : (Jvm.Cond.fieldLink "LogStore" (55 : Nat) "LogStore" "open" "Z") ∈ lw_all := lw_g (lw_at lw_m1 17 rfl) rfl
theorem q29 : (Jvm.Cond.fieldLink "LogStore" (62 : Nat) "LogStore" "openStart" "I") ∈ lw_all := lw_g (lw_at lw_m1 18 rfl) rfl
theorem q30 : (Jvm.Cond.fieldLink "LogStore" (59 : Nat) "LogStore" "openChanges" "I") ∈ lw_all := lw_g (lw_at lw_m1 19 rfl) rfl
theorem q31 : (Jvm.Cond.fieldLink "LogStore" (24 : Nat) "LogStore" "latest" "[B") ∈ lw_all := lw_g (lw_at lw_m1 20 rfl) rfl
theorem q32 : (Jvm.Cond.fieldLink "LogStore" (27 : Nat) "LogStore" "keptSafe" "[B") ∈ lw_all := lw_g (lw_at lw_m1 21 rfl) rfl
theorem q33 : (Jvm.Cond.fieldLink "LogStore" (30 : Nat) "LogStore" "keptLater" "[B") ∈ lw_all := lw_g (lw_at lw_m1 22 rfl) rfl
theorem q34 : (Jvm.Cond.fieldLink "LogStore" (33 : Nat) "LogStore" "keptOpen" "[B") ∈ lw_all := lw_g (lw_at lw_m1 23 rfl) rfl
theorem q35 : (Jvm.Cond.fieldLink "LogStore" (36 : Nat) "LogStore" "newKey" "[B") ∈ lw_all := lw_g (lw_at lw_m1 24 rfl) rfl
theorem q36 : (Jvm.Cond.fieldLink "LogStore" (39 : Nat) "LogStore" "newRemoves" "[Z") ∈ lw_all := lw_g (lw_at lw_m1 25 rfl) rfl
theorem q37 : (Jvm.Cond.fieldLink "LogStore" (42 : Nat) "LogStore" "newValue" "[I") ∈ lw_all := lw_g (lw_at lw_m1 26 rfl) rfl
theorem q38 : (Jvm.Cond.fieldLink "LogStore" (45 : Nat) "LogStore" "newEarlier" "[B") ∈ lw_all := lw_g (lw_at lw_m1 27 rfl) rfl
theorem q39 : (Jvm.Cond.laysFinal "LogStore" "LogStore" "keyOf" "[B") ∈ lw_all := lw_g (lw_at lw_m1 28 rfl) rfl
theorem q40 : (Jvm.Cond.soleField "LogStore" "keyOf") ∈ lw_all := lw_g (lw_at lw_m1 29 rfl) rfl
theorem q41 : (Jvm.Cond.laysFinal "LogStore" "LogStore" "removes" "[Z") ∈ lw_all := lw_g (lw_at lw_m1 30 rfl) rfl
theorem q42 : (Jvm.Cond.soleField "LogStore" "removes") ∈ lw_all := lw_g (lw_at lw_m1 31 rfl) rfl
theorem q43 : (Jvm.Cond.laysFinal "LogStore" "LogStore" "valueOf" "[I") ∈ lw_all := lw_g (lw_at lw_m1 32 rfl) rfl
theorem q44 : (Jvm.Cond.soleField "LogStore" "valueOf") ∈ lw_all := lw_g (lw_at lw_m1 33 rfl) rfl
theorem q45 : (Jvm.Cond.laysFinal "LogStore" "LogStore" "earlier" "[B") ∈ lw_all := lw_g (lw_at lw_m1 34 rfl) rfl
theorem q46 : (Jvm.Cond.soleField "LogStore" "earlier") ∈ lw_all := lw_g (lw_at lw_m1 35 rfl) rfl
theorem q47 : (Jvm.Cond.lays "LogStore" "LogStore" "end" "I") ∈ lw_all := lw_g (lw_at lw_m1 36 rfl) rfl
theorem q48 : (Jvm.Cond.soleField "LogStore" "end") ∈ lw_all := lw_g (lw_at lw_m1 37 rfl) rfl
theorem q49 : (Jvm.Cond.lays "LogStore" "LogStore" "safeEnd" "I") ∈ lw_all := lw_g (lw_at lw_m1 38 rfl) rfl
theorem q50 : (Jvm.Cond.soleField "LogStore" "safeEnd") ∈ lw_all := lw_g (lw_at lw_m1 39 rfl) rfl
theorem q51 : (Jvm.Cond.lays "LogStore" "LogStore" "open" "Z") ∈ lw_all := lw_g (lw_at lw_m1 40 rfl) rfl
theorem q52 : (Jvm.Cond.soleField "LogStore" "open") ∈ lw_all := lw_g (lw_at lw_m1 41 rfl) rfl
theorem q53 : (Jvm.Cond.lays "LogStore" "LogStore" "openStart" "I") ∈ lw_all := lw_g (lw_at lw_m1 42 rfl) rfl
theorem q54 : (Jvm.Cond.soleField "LogStore" "openStart") ∈ lw_all := lw_g (lw_at lw_m1 43 rfl) rfl
theorem q55 : (Jvm.Cond.lays "LogStore" "LogStore" "openChanges" "I") ∈ lw_all := lw_g (lw_at lw_m1 44 rfl) rfl
theorem q56 : (Jvm.Cond.soleField "LogStore" "openChanges") ∈ lw_all := lw_g (lw_at lw_m1 45 rfl) rfl
theorem q57 : (Jvm.Cond.laysFinal "LogStore" "LogStore" "latest" "[B") ∈ lw_all := lw_g (lw_at lw_m1 46 rfl) rfl
theorem q58 : (Jvm.Cond.soleField "LogStore" "latest") ∈ lw_all := lw_g (lw_at lw_m1 47 rfl) rfl
theorem q59 : (Jvm.Cond.laysFinal "LogStore" "LogStore" "keptSafe" "[B") ∈ lw_all := lw_g (lw_at lw_m1 48 rfl) rfl
theorem q60 : (Jvm.Cond.soleField "LogStore" "keptSafe") ∈ lw_all := lw_g (lw_at lw_m1 49 rfl) rfl
theorem q61 : (Jvm.Cond.laysFinal "LogStore" "LogStore" "keptLater" "[B") ∈ lw_all := lw_g (lw_at lw_m1 50 rfl) rfl
theorem q62 : (Jvm.Cond.soleField "LogStore" "keptLater") ∈ lw_all := lw_g (lw_at lw_m1 51 rfl) rfl
theorem q63 : (Jvm.Cond.laysFinal "LogStore" "LogStore" "keptOpen" "[B") ∈ lw_all := lw_g (lw_at lw_m1 52 rfl) rfl
theorem q64 : (Jvm.Cond.soleField "LogStore" "keptOpen") ∈ lw_all := lw_g (lw_at lw_m1 53 rfl) rfl
theorem q65 : (Jvm.Cond.laysFinal "LogStore" "LogStore" "newKey" "[B") ∈ lw_all := lw_g (lw_at lw_m1 54 rfl) rfl
theorem q66 : (Jvm.Cond.soleField "LogStore" "newKey") ∈ lw_all := lw_g (lw_at lw_m1 55 rfl) rfl
theorem q67 : (Jvm.Cond.laysFinal "LogStore" "LogStore" "newRemoves" "[Z") ∈ lw_all := lw_g (lw_at lw_m1 56 rfl) rfl
theorem q68 : (Jvm.Cond.soleField "LogStore" "newRemoves") ∈ lw_all := lw_g (lw_at lw_m1 57 rfl) rfl
theorem q69 : (Jvm.Cond.laysFinal "LogStore" "LogStore" "newValue" "[I") ∈ lw_all := lw_g (lw_at lw_m1 58 rfl) rfl
theorem q70 : (Jvm.Cond.soleField "LogStore" "newValue") ∈ lw_all := lw_g (lw_at lw_m1 59 rfl) rfl
theorem q71 : (Jvm.Cond.laysFinal "LogStore" "LogStore" "newEarlier" "[B") ∈ lw_all := lw_g (lw_at lw_m1 60 rfl) rfl
theorem q72 : (Jvm.Cond.soleField "LogStore" "newEarlier") ∈ lw_all := lw_g (lw_at lw_m1 61 rfl) rfl
theorem q73 : (Jvm.Cond.superclass "LogStore" "java/lang/Object") ∈ lw_all := lw_g (lw_at lw_m1 62 rfl) rfl
theorem q78 : (Jvm.Cond.instanceMethod ({ cls := "LogStore", name := "begin", desc := "()I" } : Jvm.MethodName)) ∈ lw_all := lw_g (lw_at lw_m1 67 rfl) rfl
theorem q79 : (Jvm.Cond.selects "LogStore" ({ cls := "LogStore", name := "begin", desc := "()I" } : Jvm.MethodName) ({ cls := "LogStore", name := "begin", desc := "()I" } : Jvm.MethodName)) ∈ lw_all := lw_g (lw_at lw_m1 68 rfl) rfl
theorem q80 : (Jvm.Cond.code ({ cls := "LogStore", name := "begin", desc := "()I" } : Jvm.MethodName) prog_1_method_8_code (1 : Nat) (Option.some Jvm.ClassFile.FieldType.int)) ∈ lw_all := lw_g (lw_at lw_m1 69 rfl) rfl
theorem q82 : (Jvm.Cond.instanceMethod ({ cls := "LogStore", name := "put", desc := "(II)Z" } : Jvm.MethodName)) ∈ lw_all := lw_g (lw_at lw_m1 71 rfl) rfl
theorem q83 : (Jvm.Cond.selects "LogStore" ({ cls := "LogStore", name := "put", desc := "(II)Z" } : Jvm.MethodName) ({ cls := "LogStore", name := "put", desc := "(II)Z" } : Jvm.MethodName)) ∈ lw_all := lw_g (lw_at lw_m1 72 rfl) rfl
theorem q84 : (Jvm.Cond.code ({ cls := "LogStore", name := "put", desc := "(II)Z" } : Jvm.MethodName) prog_1_method_9_code (3 : Nat) (Option.some Jvm.ClassFile.FieldType.boolean)) ∈ lw_all := lw_g (lw_at lw_m1 73 rfl) rfl
theorem q85 : (Jvm.Cond.methodLink "LogStore" (79 : Nat) ({ cls := "LogStore", name := "isKey", desc := "(I)Z" } : Jvm.MethodName)) ∈ lw_all := lw_g (lw_at lw_m1 74 rfl) rfl
theorem q86 : (Jvm.Cond.static ({ cls := "LogStore", name := "isKey", desc := "(I)Z" } : Jvm.MethodName)) ∈ lw_all := lw_g (lw_at lw_m1 75 rfl) rfl
theorem q87 : (Jvm.Cond.code ({ cls := "LogStore", name := "isKey", desc := "(I)Z" } : Jvm.MethodName) prog_1_method_2_code (1 : Nat) (Option.some Jvm.ClassFile.FieldType.boolean)) ∈ lw_all := lw_g (lw_at lw_m1 76 rfl) rfl
theorem q88 : (Jvm.Cond.methodLink "LogStore" (82 : Nat) ({ cls := "LogStore", name := "append", desc := "(IZI)V" } : Jvm.MethodName)) ∈ lw_all := lw_g (lw_at lw_m1 77 rfl) rfl
theorem q89 : (Jvm.Cond.privateMethod ({ cls := "LogStore", name := "append", desc := "(IZI)V" } : Jvm.MethodName)) ∈ lw_tbl := lw_at lw_m1 78 rfl
theorem q90 : (Jvm.Cond.instanceMethod ({ cls := "LogStore", name := "append", desc := "(IZI)V" } : Jvm.MethodName)) ∈ lw_all := lw_g (lw_at lw_m1 79 rfl) rfl
theorem q91 : (Jvm.Cond.code ({ cls := "LogStore", name := "append", desc := "(IZI)V" } : Jvm.MethodName) prog_1_method_3_code (4 : Nat) (Option.none : Option Jvm.ClassFile.FieldType)) ∈ lw_all := lw_g (lw_at lw_m1 80 rfl) rfl
theorem q92 : (Jvm.Cond.methodLink "LogStore" (52 : Nat) ({ cls := "LogStore", name := "rewrite", desc := "()V" } : Jvm.MethodName)) ∈ lw_all := lw_g (lw_at lw_m1 81 rfl) rfl
theorem q93 : (Jvm.Cond.privateMethod ({ cls := "LogStore", name := "rewrite", desc := "()V" } : Jvm.MethodName)) ∈ lw_tbl := lw_at lw_m1 82 rfl
theorem q94 : (Jvm.Cond.instanceMethod ({ cls := "LogStore", name := "rewrite", desc := "()V" } : Jvm.MethodName)) ∈ lw_all := lw_g (lw_at lw_m1 83 rfl) rfl
theorem q95 : (Jvm.Cond.code ({ cls := "LogStore", name := "rewrite", desc := "()V" } : Jvm.MethodName) prog_1_method_6_code (4 : Nat) (Option.none : Option Jvm.ClassFile.FieldType)) ∈ lw_all := lw_g (lw_at lw_m1 84 rfl) rfl
theorem q96 : (Jvm.Cond.methodLink "LogStore" (68 : Nat) ({ cls := "LogStore", name := "before", desc := "(II)I" } : Jvm.MethodName)) ∈ lw_all := lw_g (lw_at lw_m1 85 rfl) rfl
theorem q97 : (Jvm.Cond.privateMethod ({ cls := "LogStore", name := "before", desc := "(II)I" } : Jvm.MethodName)) ∈ lw_tbl := lw_at lw_m1 86 rfl
theorem q98 : (Jvm.Cond.instanceMethod ({ cls := "LogStore", name := "before", desc := "(II)I" } : Jvm.MethodName)) ∈ lw_all := lw_g (lw_at lw_m1 87 rfl) rfl
theorem q99 : (Jvm.Cond.code ({ cls := "LogStore", name := "before", desc := "(II)I" } : Jvm.MethodName) prog_1_method_4_code (5 : Nat) (Option.some Jvm.ClassFile.FieldType.int)) ∈ lw_all := lw_g (lw_at lw_m1 88 rfl) rfl
theorem q100 : (Jvm.Cond.methodLink "LogStore" (72 : Nat) ({ cls := "LogStore", name := "holds", desc := "(I)Z" } : Jvm.MethodName)) ∈ lw_all := lw_g (lw_at lw_m1 89 rfl) rfl
theorem q101 : (Jvm.Cond.privateMethod ({ cls := "LogStore", name := "holds", desc := "(I)Z" } : Jvm.MethodName)) ∈ lw_tbl := lw_at lw_m1 90 rfl
theorem q102 : (Jvm.Cond.instanceMethod ({ cls := "LogStore", name := "holds", desc := "(I)Z" } : Jvm.MethodName)) ∈ lw_all := lw_g (lw_at lw_m1 91 rfl) rfl
theorem q103 : (Jvm.Cond.code ({ cls := "LogStore", name := "holds", desc := "(I)Z" } : Jvm.MethodName) prog_1_method_5_code (2 : Nat) (Option.some Jvm.ClassFile.FieldType.boolean)) ∈ lw_all := lw_g (lw_at lw_m1 92 rfl) rfl
theorem q104 : (Jvm.Cond.methodLink "LogStore" (76 : Nat) ({ cls := "LogStore", name := "carryOver", desc := "(II)I" } : Jvm.MethodName)) ∈ lw_all := lw_g (lw_at lw_m1 93 rfl) rfl
theorem q105 : (Jvm.Cond.privateMethod ({ cls := "LogStore", name := "carryOver", desc := "(II)I" } : Jvm.MethodName)) ∈ lw_tbl := lw_at lw_m1 94 rfl
theorem q106 : (Jvm.Cond.instanceMethod ({ cls := "LogStore", name := "carryOver", desc := "(II)I" } : Jvm.MethodName)) ∈ lw_all := lw_g (lw_at lw_m1 95 rfl) rfl
theorem q107 : (Jvm.Cond.code ({ cls := "LogStore", name := "carryOver", desc := "(II)I" } : Jvm.MethodName) prog_1_method_7_code (4 : Nat) (Option.some Jvm.ClassFile.FieldType.int)) ∈ lw_all := lw_g (lw_at lw_m1 96 rfl) rfl
theorem q109 : (Jvm.Cond.instanceMethod ({ cls := "LogStore", name := "remove", desc := "(I)Z" } : Jvm.MethodName)) ∈ lw_all := lw_g (lw_at lw_m1 98 rfl) rfl
theorem q110 : (Jvm.Cond.selects "LogStore" ({ cls := "LogStore", name := "remove", desc := "(I)Z" } : Jvm.MethodName) ({ cls := "LogStore", name := "remove", desc := "(I)Z" } : Jvm.MethodName)) ∈ lw_all := lw_g (lw_at lw_m1 99 rfl) rfl
theorem q111 : (Jvm.Cond.code ({ cls := "LogStore", name := "remove", desc := "(I)Z" } : Jvm.MethodName) prog_1_method_10_code (2 : Nat) (Option.some Jvm.ClassFile.FieldType.boolean)) ∈ lw_all := lw_g (lw_at lw_m1 100 rfl) rfl
theorem q112 : (Jvm.Cond.methodLink "LogStore" (86 : Nat) ({ cls := "LogStore", name := "has", desc := "(I)Z" } : Jvm.MethodName)) ∈ lw_all := lw_g (lw_at lw_m1 101 rfl) rfl
theorem q113 : (Jvm.Cond.instanceMethod ({ cls := "LogStore", name := "has", desc := "(I)Z" } : Jvm.MethodName)) ∈ lw_all := lw_g (lw_at lw_m1 102 rfl) rfl
theorem q114 : (Jvm.Cond.selects "LogStore" ({ cls := "LogStore", name := "has", desc := "(I)Z" } : Jvm.MethodName) ({ cls := "LogStore", name := "has", desc := "(I)Z" } : Jvm.MethodName)) ∈ lw_all := lw_g (lw_at lw_m1 103 rfl) rfl
theorem q115 : (Jvm.Cond.code ({ cls := "LogStore", name := "has", desc := "(I)Z" } : Jvm.MethodName) prog_1_method_17_code (2 : Nat) (Option.some Jvm.ClassFile.FieldType.boolean)) ∈ lw_all := lw_g (lw_at lw_m1 104 rfl) rfl
theorem q117 : (Jvm.Cond.instanceMethod ({ cls := "LogStore", name := "commit", desc := "()I" } : Jvm.MethodName)) ∈ lw_all := lw_g (lw_at lw_m1 106 rfl) rfl
theorem q118 : (Jvm.Cond.selects "LogStore" ({ cls := "LogStore", name := "commit", desc := "()I" } : Jvm.MethodName) ({ cls := "LogStore", name := "commit", desc := "()I" } : Jvm.MethodName)) ∈ lw_all := lw_g (lw_at lw_m1 107 rfl) rfl
theorem q119 : (Jvm.Cond.code ({ cls := "LogStore", name := "commit", desc := "()I" } : Jvm.MethodName) prog_1_method_11_code (1 : Nat) (Option.some Jvm.ClassFile.FieldType.int)) ∈ lw_all := lw_g (lw_at lw_m1 108 rfl) rfl
theorem q121 : (Jvm.Cond.instanceMethod ({ cls := "LogStore", name := "abort", desc := "()I" } : Jvm.MethodName)) ∈ lw_all := lw_g (lw_at lw_m1 110 rfl) rfl
theorem q122 : (Jvm.Cond.selects "LogStore" ({ cls := "LogStore", name := "abort", desc := "()I" } : Jvm.MethodName) ({ cls := "LogStore", name := "abort", desc := "()I" } : Jvm.MethodName)) ∈ lw_all := lw_g (lw_at lw_m1 111 rfl) rfl
theorem q123 : (Jvm.Cond.code ({ cls := "LogStore", name := "abort", desc := "()I" } : Jvm.MethodName) prog_1_method_12_code (1 : Nat) (Option.some Jvm.ClassFile.FieldType.int)) ∈ lw_all := lw_g (lw_at lw_m1 112 rfl) rfl
theorem q124 : (Jvm.Cond.methodLink "LogStore" (89 : Nat) ({ cls := "LogStore", name := "cutTo", desc := "(I)V" } : Jvm.MethodName)) ∈ lw_all := lw_g (lw_at lw_m1 113 rfl) rfl
theorem q125 : (Jvm.Cond.privateMethod ({ cls := "LogStore", name := "cutTo", desc := "(I)V" } : Jvm.MethodName)) ∈ lw_tbl := lw_at lw_m1 114 rfl
theorem q126 : (Jvm.Cond.instanceMethod ({ cls := "LogStore", name := "cutTo", desc := "(I)V" } : Jvm.MethodName)) ∈ lw_all := lw_g (lw_at lw_m1 115 rfl) rfl
theorem q127 : (Jvm.Cond.code ({ cls := "LogStore", name := "cutTo", desc := "(I)V" } : Jvm.MethodName) prog_1_method_14_code (3 : Nat) (Option.none : Option Jvm.ClassFile.FieldType)) ∈ lw_all := lw_g (lw_at lw_m1 116 rfl) rfl
theorem q129 : (Jvm.Cond.instanceMethod ({ cls := "LogStore", name := "sync", desc := "()V" } : Jvm.MethodName)) ∈ lw_all := lw_g (lw_at lw_m1 118 rfl) rfl
theorem q130 : (Jvm.Cond.selects "LogStore" ({ cls := "LogStore", name := "sync", desc := "()V" } : Jvm.MethodName) ({ cls := "LogStore", name := "sync", desc := "()V" } : Jvm.MethodName)) ∈ lw_all := lw_g (lw_at lw_m1 119 rfl) rfl
theorem q131 : (Jvm.Cond.code ({ cls := "LogStore", name := "sync", desc := "()V" } : Jvm.MethodName) prog_1_method_13_code (1 : Nat) (Option.none : Option Jvm.ClassFile.FieldType)) ∈ lw_all := lw_g (lw_at lw_m1 120 rfl) rfl
theorem q133 : (Jvm.Cond.instanceMethod ({ cls := "LogStore", name := "clean", desc := "()V" } : Jvm.MethodName)) ∈ lw_all := lw_g (lw_at lw_m1 122 rfl) rfl
theorem q134 : (Jvm.Cond.selects "LogStore" ({ cls := "LogStore", name := "clean", desc := "()V" } : Jvm.MethodName) ({ cls := "LogStore", name := "clean", desc := "()V" } : Jvm.MethodName)) ∈ lw_all := lw_g (lw_at lw_m1 123 rfl) rfl
theorem q135 : (Jvm.Cond.code ({ cls := "LogStore", name := "clean", desc := "()V" } : Jvm.MethodName) prog_1_method_15_code (1 : Nat) (Option.none : Option Jvm.ClassFile.FieldType)) ∈ lw_all := lw_g (lw_at lw_m1 124 rfl) rfl
theorem q137 : (Jvm.Cond.instanceMethod ({ cls := "LogStore", name := "crash", desc := "()V" } : Jvm.MethodName)) ∈ lw_all := lw_g (lw_at lw_m1 126 rfl) rfl
theorem q138 : (Jvm.Cond.selects "LogStore" ({ cls := "LogStore", name := "crash", desc := "()V" } : Jvm.MethodName) ({ cls := "LogStore", name := "crash", desc := "()V" } : Jvm.MethodName)) ∈ lw_all := lw_g (lw_at lw_m1 127 rfl) rfl
theorem q139 : (Jvm.Cond.code ({ cls := "LogStore", name := "crash", desc := "()V" } : Jvm.MethodName) prog_1_method_16_code (3 : Nat) (Option.none : Option Jvm.ClassFile.FieldType)) ∈ lw_all := lw_g (lw_at lw_m1 128 rfl) rfl
theorem q142 : (Jvm.Cond.instanceMethod ({ cls := "LogStore", name := "get", desc := "(I)I" } : Jvm.MethodName)) ∈ lw_all := lw_g (lw_at lw_m1 131 rfl) rfl
theorem q143 : (Jvm.Cond.selects "LogStore" ({ cls := "LogStore", name := "get", desc := "(I)I" } : Jvm.MethodName) ({ cls := "LogStore", name := "get", desc := "(I)I" } : Jvm.MethodName)) ∈ lw_all := lw_g (lw_at lw_m1 132 rfl) rfl
theorem q144 : (Jvm.Cond.code ({ cls := "LogStore", name := "get", desc := "(I)I" } : Jvm.MethodName) prog_1_method_18_code (2 : Nat) (Option.some Jvm.ClassFile.FieldType.int)) ∈ lw_all := lw_g (lw_at lw_m1 133 rfl) rfl
theorem q146 : (Jvm.Cond.instanceMethod ({ cls := "LogStore", name := "next", desc := "(I)I" } : Jvm.MethodName)) ∈ lw_all := lw_g (lw_at lw_m1 135 rfl) rfl
theorem q147 : (Jvm.Cond.selects "LogStore" ({ cls := "LogStore", name := "next", desc := "(I)I" } : Jvm.MethodName) ({ cls := "LogStore", name := "next", desc := "(I)I" } : Jvm.MethodName)) ∈ lw_all := lw_g (lw_at lw_m1 136 rfl) rfl
theorem q148 : (Jvm.Cond.code ({ cls := "LogStore", name := "next", desc := "(I)I" } : Jvm.MethodName) prog_1_method_19_code (3 : Nat) (Option.some Jvm.ClassFile.FieldType.int)) ∈ lw_all := lw_g (lw_at lw_m1 137 rfl) rfl
theorem q150 : (Jvm.Cond.instanceMethod ({ cls := "LogStore", name := "count", desc := "()I" } : Jvm.MethodName)) ∈ lw_all := lw_g (lw_at lw_m1 139 rfl) rfl
theorem q151 : (Jvm.Cond.selects "LogStore" ({ cls := "LogStore", name := "count", desc := "()I" } : Jvm.MethodName) ({ cls := "LogStore", name := "count", desc := "()I" } : Jvm.MethodName)) ∈ lw_all := lw_g (lw_at lw_m1 140 rfl) rfl
theorem q152 : (Jvm.Cond.code ({ cls := "LogStore", name := "count", desc := "()I" } : Jvm.MethodName) prog_1_method_20_code (3 : Nat) (Option.some Jvm.ClassFile.FieldType.int)) ∈ lw_all := lw_g (lw_at lw_m1 141 rfl) rfl
theorem q154 : (Jvm.Cond.instanceMethod ({ cls := "LogStore", name := "safeKeys", desc := "()I" } : Jvm.MethodName)) ∈ lw_all := lw_g (lw_at lw_m1 143 rfl) rfl
theorem q155 : (Jvm.Cond.selects "LogStore" ({ cls := "LogStore", name := "safeKeys", desc := "()I" } : Jvm.MethodName) ({ cls := "LogStore", name := "safeKeys", desc := "()I" } : Jvm.MethodName)) ∈ lw_all := lw_g (lw_at lw_m1 144 rfl) rfl
theorem q156 : (Jvm.Cond.code ({ cls := "LogStore", name := "safeKeys", desc := "()I" } : Jvm.MethodName) prog_1_method_21_code (4 : Nat) (Option.some Jvm.ClassFile.FieldType.int)) ∈ lw_all := lw_g (lw_at lw_m1 145 rfl) rfl
theorem q158 : (Jvm.Cond.instanceMethod ({ cls := "LogStore", name := "safeValue", desc := "(I)I" } : Jvm.MethodName)) ∈ lw_all := lw_g (lw_at lw_m1 147 rfl) rfl
theorem q159 : (Jvm.Cond.selects "LogStore" ({ cls := "LogStore", name := "safeValue", desc := "(I)I" } : Jvm.MethodName) ({ cls := "LogStore", name := "safeValue", desc := "(I)I" } : Jvm.MethodName)) ∈ lw_all := lw_g (lw_at lw_m1 148 rfl) rfl
theorem q160 : (Jvm.Cond.code ({ cls := "LogStore", name := "safeValue", desc := "(I)I" } : Jvm.MethodName) prog_1_method_22_code (3 : Nat) (Option.some Jvm.ClassFile.FieldType.int)) ∈ lw_all := lw_g (lw_at lw_m1 149 rfl) rfl
theorem q162 : (Jvm.Cond.instanceMethod site_359) ∈ lw_all := lw_g (lw_at lw_m1 151 rfl) rfl
theorem q163 : (Jvm.Cond.selects "LogStore" site_359 site_359) ∈ lw_all := lw_g (lw_at lw_m1 152 rfl) rfl
theorem q164 : (Jvm.Cond.code site_359 prog_1_method_23_code (3 : Nat) (Option.some Jvm.ClassFile.FieldType.int)) ∈ lw_all := lw_g (lw_at lw_m1 153 rfl) rfl
theorem q165 : (Jvm.Cond.methodLink "LogStore" (93 : Nat) ({ cls := "LogStore", name := "differs", desc := "(I)Z" } : Jvm.MethodName)) ∈ lw_all := lw_g (lw_at lw_m1 154 rfl) rfl
theorem q166 : (Jvm.Cond.privateMethod ({ cls := "LogStore", name := "differs", desc := "(I)Z" } : Jvm.MethodName)) ∈ lw_tbl := lw_at lw_m1 155 rfl
theorem q167 : (Jvm.Cond.instanceMethod ({ cls := "LogStore", name := "differs", desc := "(I)Z" } : Jvm.MethodName)) ∈ lw_all := lw_g (lw_at lw_m1 156 rfl) rfl
theorem q168 : (Jvm.Cond.code ({ cls := "LogStore", name := "differs", desc := "(I)Z" } : Jvm.MethodName) prog_1_method_24_code (4 : Nat) (Option.some Jvm.ClassFile.FieldType.boolean)) ∈ lw_all := lw_g (lw_at lw_m1 157 rfl) rfl
theorem q170 : (Jvm.Cond.instanceMethod ({ cls := "LogStore", name := "pending", desc := "()I" } : Jvm.MethodName)) ∈ lw_all := lw_g (lw_at lw_m1 159 rfl) rfl
theorem q171 : (Jvm.Cond.selects "LogStore" ({ cls := "LogStore", name := "pending", desc := "()I" } : Jvm.MethodName) ({ cls := "LogStore", name := "pending", desc := "()I" } : Jvm.MethodName)) ∈ lw_all := lw_g (lw_at lw_m1 160 rfl) rfl
theorem q172 : (Jvm.Cond.code ({ cls := "LogStore", name := "pending", desc := "()I" } : Jvm.MethodName) prog_1_method_25_code (1 : Nat) (Option.some Jvm.ClassFile.FieldType.int)) ∈ lw_all := lw_g (lw_at lw_m1 161 rfl) rfl
theorem in_X0 : ∀ w ∈ wsX00, w ∈ lw_all := lw_in wsX00 [39, 41, 43, 45, 47, 49, 51, 53, 55, 57, 59, 61, 63, 65, 67, 69, 71] (by decide +kernel) (by decide +kernel)

/-! java/lang/Object -/
set_option maxRecDepth 100000
def RJ0 : String := "java/lang/Object"
abbrev cJ0_init : ByteArray := object_method_1_code
def yJ0_init : MethodName := ⟨RJ0, "<init>", "()V"⟩
theorem q20 : (Jvm.Cond.instanceMethod ({ cls := "java/lang/Object", name := "<init>", desc := "()V" } : Jvm.MethodName)) ∈ lw_all := lw_g (lw_at lw_m1 9 rfl) rfl
theorem q21 : (Jvm.Cond.code ({ cls := "java/lang/Object", name := "<init>", desc := "()V" } : Jvm.MethodName) object_method_1_code (1 : Nat) (Option.none : Option Jvm.ClassFile.FieldType)) ∈ lw_all := lw_g (lw_at lw_m1 10 rfl) rfl

theorem q74 : (Jvm.Cond.arrayClass Jvm.ClassFile.FieldType.byte) ∈ lw_all := lw_g (lw_at lw_m1 63 rfl) rfl
set_option maxRecDepth 100000
theorem q75 : (Jvm.Cond.arrayClass Jvm.ClassFile.FieldType.boolean) ∈ lw_all := lw_g (lw_at lw_m1 64 rfl) rfl
theorem q76 : (Jvm.Cond.arrayClass Jvm.ClassFile.FieldType.int) ∈ lw_all := lw_g (lw_at lw_m1 65 rfl) rfl
end
section
set_option maxRecDepth 100000
theorem dX0_init_0 : decode cX0_init 0 = .ok (.aload_n 0, 1) := by decide +kernel
theorem dX0_init_1 : decode cX0_init 1 = .ok (.invokespecial 1, 3) := by decide +kernel
theorem dX0_init_4 : decode cX0_init 4 = .ok (.aload_n 0, 1) := by decide +kernel
theorem dX0_init_5 : decode cX0_init 5 = .ok (.bipush 96, 2) := by decide +kernel
theorem dX0_init_7 : decode cX0_init 7 = .ok (.newarray .byte, 2) := by decide +kernel
theorem dX0_init_9 : decode cX0_init 9 = .ok (.putfield 7, 3) := by decide +kernel
theorem dX0_init_12 : decode cX0_init 12 = .ok (.aload_n 0, 1) := by decide +kernel
theorem dX0_init_13 : decode cX0_init 13 = .ok (.bipush 96, 2) := by decide +kernel
theorem dX0_init_15 : decode cX0_init 15 = .ok (.newarray .boolean, 2) := by decide +kernel
theorem dX0_init_17 : decode cX0_init 17 = .ok (.putfield 13, 3) := by decide +kernel
theorem dX0_init_20 : decode cX0_init 20 = .ok (.aload_n 0, 1) := by decide +kernel
theorem dX0_init_21 : decode cX0_init 21 = .ok (.bipush 96, 2) := by decide +kernel
theorem dX0_init_23 : decode cX0_init 23 = .ok (.newarray .int, 2) := by decide +kernel
theorem dX0_init_25 : decode cX0_init 25 = .ok (.putfield 17, 3) := by decide +kernel
theorem dX0_init_28 : decode cX0_init 28 = .ok (.aload_n 0, 1) := by decide +kernel
theorem dX0_init_29 : decode cX0_init 29 = .ok (.bipush 96, 2) := by decide +kernel
theorem dX0_init_31 : decode cX0_init 31 = .ok (.newarray .byte, 2) := by decide +kernel
theorem dX0_init_33 : decode cX0_init 33 = .ok (.putfield 21, 3) := by decide +kernel
theorem dX0_init_36 : decode cX0_init 36 = .ok (.aload_n 0, 1) := by decide +kernel
theorem dX0_init_37 : decode cX0_init 37 = .ok (.bipush 16, 2) := by decide +kernel
theorem dX0_init_39 : decode cX0_init 39 = .ok (.newarray .byte, 2) := by decide +kernel
theorem dX0_init_41 : decode cX0_init 41 = .ok (.putfield 24, 3) := by decide +kernel
theorem dX0_init_44 : decode cX0_init 44 = .ok (.aload_n 0, 1) := by decide +kernel
theorem dX0_init_45 : decode cX0_init 45 = .ok (.bipush 16, 2) := by decide +kernel
theorem dX0_init_47 : decode cX0_init 47 = .ok (.newarray .byte, 2) := by decide +kernel
theorem dX0_init_49 : decode cX0_init 49 = .ok (.putfield 27, 3) := by decide +kernel
theorem dX0_init_52 : decode cX0_init 52 = .ok (.aload_n 0, 1) := by decide +kernel
theorem dX0_init_53 : decode cX0_init 53 = .ok (.bipush 16, 2) := by decide +kernel
theorem dX0_init_55 : decode cX0_init 55 = .ok (.newarray .byte, 2) := by decide +kernel
theorem dX0_init_57 : decode cX0_init 57 = .ok (.putfield 30, 3) := by decide +kernel
theorem dX0_init_60 : decode cX0_init 60 = .ok (.aload_n 0, 1) := by decide +kernel
theorem dX0_init_61 : decode cX0_init 61 = .ok (.bipush 16, 2) := by decide +kernel
theorem dX0_init_63 : decode cX0_init 63 = .ok (.newarray .byte, 2) := by decide +kernel
theorem dX0_init_65 : decode cX0_init 65 = .ok (.putfield 33, 3) := by decide +kernel
theorem dX0_init_68 : decode cX0_init 68 = .ok (.aload_n 0, 1) := by decide +kernel
theorem dX0_init_69 : decode cX0_init 69 = .ok (.bipush 96, 2) := by decide +kernel
theorem dX0_init_71 : decode cX0_init 71 = .ok (.newarray .byte, 2) := by decide +kernel
theorem dX0_init_73 : decode cX0_init 73 = .ok (.putfield 36, 3) := by decide +kernel
theorem dX0_init_76 : decode cX0_init 76 = .ok (.aload_n 0, 1) := by decide +kernel
theorem dX0_init_77 : decode cX0_init 77 = .ok (.bipush 96, 2) := by decide +kernel
theorem dX0_init_79 : decode cX0_init 79 = .ok (.newarray .boolean, 2) := by decide +kernel
theorem dX0_init_81 : decode cX0_init 81 = .ok (.putfield 39, 3) := by decide +kernel
theorem dX0_init_84 : decode cX0_init 84 = .ok (.aload_n 0, 1) := by decide +kernel
theorem dX0_init_85 : decode cX0_init 85 = .ok (.bipush 96, 2) := by decide +kernel
theorem dX0_init_87 : decode cX0_init 87 = .ok (.newarray .int, 2) := by decide +kernel
theorem dX0_init_89 : decode cX0_init 89 = .ok (.putfield 42, 3) := by decide +kernel
theorem dX0_init_92 : decode cX0_init 92 = .ok (.aload_n 0, 1) := by decide +kernel
theorem dX0_init_93 : decode cX0_init 93 = .ok (.bipush 96, 2) := by decide +kernel
theorem dX0_init_95 : decode cX0_init 95 = .ok (.newarray .byte, 2) := by decide +kernel
theorem dX0_init_97 : decode cX0_init 97 = .ok (.putfield 45, 3) := by decide +kernel
theorem dX0_init_100 : decode cX0_init 100 = .ok (.iconst 0, 1) := by decide +kernel
theorem dX0_init_101 : decode cX0_init 101 = .ok (.istore_n 1, 1) := by decide +kernel
theorem dX0_init_102 : decode cX0_init 102 = .ok (.iload_n 1, 1) := by decide +kernel
theorem dX0_init_103 : decode cX0_init 103 = .ok (.bipush 16, 2) := by decide +kernel
theorem dX0_init_105 : decode cX0_init 105 = .ok (.if_icmp .ge 16, 3) := by decide +kernel
theorem dX0_init_108 : decode cX0_init 108 = .ok (.aload_n 0, 1) := by decide +kernel
theorem dX0_init_109 : decode cX0_init 109 = .ok (.getfield 24, 3) := by decide +kernel
theorem dX0_init_112 : decode cX0_init 112 = .ok (.iload_n 1, 1) := by decide +kernel
theorem dX0_init_113 : decode cX0_init 113 = .ok (.iconst (-1), 1) := by decide +kernel
theorem dX0_init_114 : decode cX0_init 114 = .ok (.bastore, 1) := by decide +kernel
theorem dX0_init_115 : decode cX0_init 115 = .ok (.iinc 1 1, 3) := by decide +kernel
theorem dX0_init_118 : decode cX0_init 118 = .ok (.goto (-16), 3) := by decide +kernel
theorem dX0_init_121 : decode cX0_init 121 = .ok (.return_, 1) := by decide +kernel
theorem dX0_begin_0 : decode cX0_begin 0 = .ok (.aload_n 0, 1) := by decide +kernel
theorem dX0_begin_1 : decode cX0_begin 1 = .ok (.getfield 55, 3) := by decide +kernel
theorem dX0_begin_4 : decode cX0_begin 4 = .ok (.ifCond .eq 6, 3) := by decide +kernel
theorem dX0_begin_7 : decode cX0_begin 7 = .ok (.bipush (-2), 2) := by decide +kernel
theorem dX0_begin_9 : decode cX0_begin 9 = .ok (.ireturn, 1) := by decide +kernel
theorem dX0_begin_10 : decode cX0_begin 10 = .ok (.aload_n 0, 1) := by decide +kernel
theorem dX0_begin_11 : decode cX0_begin 11 = .ok (.iconst 1, 1) := by decide +kernel
theorem dX0_begin_12 : decode cX0_begin 12 = .ok (.putfield 55, 3) := by decide +kernel
theorem dX0_begin_15 : decode cX0_begin 15 = .ok (.aload_n 0, 1) := by decide +kernel
theorem dX0_begin_16 : decode cX0_begin 16 = .ok (.aload_n 0, 1) := by decide +kernel
theorem dX0_begin_17 : decode cX0_begin 17 = .ok (.getfield 48, 3) := by decide +kernel
theorem dX0_begin_20 : decode cX0_begin 20 = .ok (.putfield 62, 3) := by decide +kernel
theorem dX0_begin_23 : decode cX0_begin 23 = .ok (.aload_n 0, 1) := by decide +kernel
theorem dX0_begin_24 : decode cX0_begin 24 = .ok (.iconst 0, 1) := by decide +kernel
theorem dX0_begin_25 : decode cX0_begin 25 = .ok (.putfield 59, 3) := by decide +kernel
theorem dX0_begin_28 : decode cX0_begin 28 = .ok (.iconst 0, 1) := by decide +kernel
theorem dX0_begin_29 : decode cX0_begin 29 = .ok (.ireturn, 1) := by decide +kernel
theorem dX0_put_0 : decode cX0_put 0 = .ok (.iload_n 1, 1) := by decide +kernel
theorem dX0_put_1 : decode cX0_put 1 = .ok (.invokestatic 79, 3) := by decide +kernel
theorem dX0_put_4 : decode cX0_put 4 = .ok (.ifCond .ne 5, 3) := by decide +kernel
theorem dX0_put_7 : decode cX0_put 7 = .ok (.iconst 0, 1) := by decide +kernel
theorem dX0_put_8 : decode cX0_put 8 = .ok (.ireturn, 1) := by decide +kernel
theorem dX0_put_9 : decode cX0_put 9 = .ok (.aload_n 0, 1) := by decide +kernel
theorem dX0_put_10 : decode cX0_put 10 = .ok (.iload_n 1, 1) := by decide +kernel
theorem dX0_put_11 : decode cX0_put 11 = .ok (.iconst 0, 1) := by decide +kernel
theorem dX0_put_12 : decode cX0_put 12 = .ok (.iload_n 2, 1) := by decide +kernel
theorem dX0_put_13 : decode cX0_put 13 = .ok (.invokevirtual 82, 3) := by decide +kernel
theorem dX0_put_16 : decode cX0_put 16 = .ok (.iconst 1, 1) := by decide +kernel
theorem dX0_put_17 : decode cX0_put 17 = .ok (.ireturn, 1) := by decide +kernel
theorem dX0_isKey_0 : decode cX0_isKey 0 = .ok (.iload_n 0, 1) := by decide +kernel
theorem dX0_isKey_1 : decode cX0_isKey 1 = .ok (.ifCond .lt 13, 3) := by decide +kernel
theorem dX0_isKey_4 : decode cX0_isKey 4 = .ok (.iload_n 0, 1) := by decide +kernel
theorem dX0_isKey_5 : decode cX0_isKey 5 = .ok (.bipush 16, 2) := by decide +kernel
theorem dX0_isKey_7 : decode cX0_isKey 7 = .ok (.if_icmp .ge 7, 3) := by decide +kernel
theorem dX0_isKey_10 : decode cX0_isKey 10 = .ok (.iconst 1, 1) := by decide +kernel
theorem dX0_isKey_11 : decode cX0_isKey 11 = .ok (.goto 4, 3) := by decide +kernel
theorem dX0_isKey_14 : decode cX0_isKey 14 = .ok (.iconst 0, 1) := by decide +kernel
theorem dX0_isKey_15 : decode cX0_isKey 15 = .ok (.ireturn, 1) := by decide +kernel
theorem dX0_append_0 : decode cX0_append 0 = .ok (.aload_n 0, 1) := by decide +kernel
theorem dX0_append_1 : decode cX0_append 1 = .ok (.getfield 48, 3) := by decide +kernel
theorem dX0_append_4 : decode cX0_append 4 = .ok (.bipush 96, 2) := by decide +kernel
theorem dX0_append_6 : decode cX0_append 6 = .ok (.if_icmp .lt 7, 3) := by decide +kernel
theorem dX0_append_9 : decode cX0_append 9 = .ok (.aload_n 0, 1) := by decide +kernel
theorem dX0_append_10 : decode cX0_append 10 = .ok (.invokevirtual 52, 3) := by decide +kernel
theorem dX0_append_13 : decode cX0_append 13 = .ok (.aload_n 0, 1) := by decide +kernel
theorem dX0_append_14 : decode cX0_append 14 = .ok (.getfield 7, 3) := by decide +kernel
theorem dX0_append_17 : decode cX0_append 17 = .ok (.aload_n 0, 1) := by decide +kernel
theorem dX0_append_18 : decode cX0_append 18 = .ok (.getfield 48, 3) := by decide +kernel
theorem dX0_append_21 : decode cX0_append 21 = .ok (.iload_n 1, 1) := by decide +kernel
theorem dX0_append_22 : decode cX0_append 22 = .ok (.i2b, 1) := by decide +kernel
theorem dX0_append_23 : decode cX0_append 23 = .ok (.bastore, 1) := by decide +kernel
theorem dX0_append_24 : decode cX0_append 24 = .ok (.aload_n 0, 1) := by decide +kernel
theorem dX0_append_25 : decode cX0_append 25 = .ok (.getfield 13, 3) := by decide +kernel
theorem dX0_append_28 : decode cX0_append 28 = .ok (.aload_n 0, 1) := by decide +kernel
theorem dX0_append_29 : decode cX0_append 29 = .ok (.getfield 48, 3) := by decide +kernel
theorem dX0_append_32 : decode cX0_append 32 = .ok (.iload_n 2, 1) := by decide +kernel
theorem dX0_append_33 : decode cX0_append 33 = .ok (.bastore, 1) := by decide +kernel
theorem dX0_append_34 : decode cX0_append 34 = .ok (.aload_n 0, 1) := by decide +kernel
theorem dX0_append_35 : decode cX0_append 35 = .ok (.getfield 17, 3) := by decide +kernel
theorem dX0_append_38 : decode cX0_append 38 = .ok (.aload_n 0, 1) := by decide +kernel
theorem dX0_append_39 : decode cX0_append 39 = .ok (.getfield 48, 3) := by decide +kernel
theorem dX0_append_42 : decode cX0_append 42 = .ok (.iload_n 3, 1) := by decide +kernel
theorem dX0_append_43 : decode cX0_append 43 = .ok (.iastore, 1) := by decide +kernel
theorem dX0_append_44 : decode cX0_append 44 = .ok (.aload_n 0, 1) := by decide +kernel
theorem dX0_append_45 : decode cX0_append 45 = .ok (.getfield 21, 3) := by decide +kernel
theorem dX0_append_48 : decode cX0_append 48 = .ok (.aload_n 0, 1) := by decide +kernel
theorem dX0_append_49 : decode cX0_append 49 = .ok (.getfield 48, 3) := by decide +kernel
theorem dX0_append_52 : decode cX0_append 52 = .ok (.aload_n 0, 1) := by decide +kernel
theorem dX0_append_53 : decode cX0_append 53 = .ok (.getfield 24, 3) := by decide +kernel
theorem dX0_append_56 : decode cX0_append 56 = .ok (.iload_n 1, 1) := by decide +kernel
theorem dX0_append_57 : decode cX0_append 57 = .ok (.baload, 1) := by decide +kernel
theorem dX0_append_58 : decode cX0_append 58 = .ok (.bastore, 1) := by decide +kernel
theorem dX0_append_59 : decode cX0_append 59 = .ok (.aload_n 0, 1) := by decide +kernel
theorem dX0_append_60 : decode cX0_append 60 = .ok (.getfield 24, 3) := by decide +kernel
theorem dX0_append_63 : decode cX0_append 63 = .ok (.iload_n 1, 1) := by decide +kernel
theorem dX0_append_64 : decode cX0_append 64 = .ok (.aload_n 0, 1) := by decide +kernel
theorem dX0_append_65 : decode cX0_append 65 = .ok (.getfield 48, 3) := by decide +kernel
theorem dX0_append_68 : decode cX0_append 68 = .ok (.i2b, 1) := by decide +kernel
theorem dX0_append_69 : decode cX0_append 69 = .ok (.bastore, 1) := by decide +kernel
theorem dX0_append_70 : decode cX0_append 70 = .ok (.aload_n 0, 1) := by decide +kernel
theorem dX0_append_71 : decode cX0_append 71 = .ok (.dup, 1) := by decide +kernel
theorem dX0_append_72 : decode cX0_append 72 = .ok (.getfield 48, 3) := by decide +kernel
theorem dX0_append_75 : decode cX0_append 75 = .ok (.iconst 1, 1) := by decide +kernel
theorem dX0_append_76 : decode cX0_append 76 = .ok (.iadd, 1) := by decide +kernel
theorem dX0_append_77 : decode cX0_append 77 = .ok (.putfield 48, 3) := by decide +kernel
theorem dX0_append_80 : decode cX0_append 80 = .ok (.aload_n 0, 1) := by decide +kernel
theorem dX0_append_81 : decode cX0_append 81 = .ok (.getfield 55, 3) := by decide +kernel
theorem dX0_append_84 : decode cX0_append 84 = .ok (.ifCond .eq 13, 3) := by decide +kernel
theorem dX0_append_87 : decode cX0_append 87 = .ok (.aload_n 0, 1) := by decide +kernel
theorem dX0_append_88 : decode cX0_append 88 = .ok (.dup, 1) := by decide +kernel
theorem dX0_append_89 : decode cX0_append 89 = .ok (.getfield 59, 3) := by decide +kernel
theorem dX0_append_92 : decode cX0_append 92 = .ok (.iconst 1, 1) := by decide +kernel
theorem dX0_append_93 : decode cX0_append 93 = .ok (.iadd, 1) := by decide +kernel
theorem dX0_append_94 : decode cX0_append 94 = .ok (.putfield 59, 3) := by decide +kernel
theorem dX0_append_97 : decode cX0_append 97 = .ok (.return_, 1) := by decide +kernel
theorem dX0_rewrite_0 : decode cX0_rewrite 0 = .ok (.aload_n 0, 1) := by decide +kernel
theorem dX0_rewrite_1 : decode cX0_rewrite 1 = .ok (.getfield 55, 3) := by decide +kernel
theorem dX0_rewrite_4 : decode cX0_rewrite 4 = .ok (.ifCond .eq 10, 3) := by decide +kernel
theorem dX0_rewrite_7 : decode cX0_rewrite 7 = .ok (.aload_n 0, 1) := by decide +kernel
theorem dX0_rewrite_8 : decode cX0_rewrite 8 = .ok (.getfield 62, 3) := by decide +kernel
theorem dX0_rewrite_11 : decode cX0_rewrite 11 = .ok (.goto 7, 3) := by decide +kernel
theorem dX0_rewrite_14 : decode cX0_rewrite 14 = .ok (.aload_n 0, 1) := by decide +kernel
theorem dX0_rewrite_15 : decode cX0_rewrite 15 = .ok (.getfield 48, 3) := by decide +kernel
theorem dX0_rewrite_18 : decode cX0_rewrite 18 = .ok (.istore_n 1, 1) := by decide +kernel
theorem dX0_rewrite_19 : decode cX0_rewrite 19 = .ok (.iconst 0, 1) := by decide +kernel
theorem dX0_rewrite_20 : decode cX0_rewrite 20 = .ok (.istore_n 2, 1) := by decide +kernel
theorem dX0_rewrite_21 : decode cX0_rewrite 21 = .ok (.iload_n 2, 1) := by decide +kernel
theorem dX0_rewrite_22 : decode cX0_rewrite 22 = .ok (.bipush 16, 2) := by decide +kernel
theorem dX0_rewrite_24 : decode cX0_rewrite 24 = .ok (.if_icmp .ge 85, 3) := by decide +kernel
theorem dX0_rewrite_27 : decode cX0_rewrite 27 = .ok (.aload_n 0, 1) := by decide +kernel
theorem dX0_rewrite_28 : decode cX0_rewrite 28 = .ok (.getfield 27, 3) := by decide +kernel
theorem dX0_rewrite_31 : decode cX0_rewrite 31 = .ok (.iload_n 2, 1) := by decide +kernel
theorem dX0_rewrite_32 : decode cX0_rewrite 32 = .ok (.aload_n 0, 1) := by decide +kernel
theorem dX0_rewrite_33 : decode cX0_rewrite 33 = .ok (.iload_n 2, 1) := by decide +kernel
theorem dX0_rewrite_34 : decode cX0_rewrite 34 = .ok (.aload_n 0, 1) := by decide +kernel
theorem dX0_rewrite_35 : decode cX0_rewrite 35 = .ok (.getfield 65, 3) := by decide +kernel
theorem dX0_rewrite_38 : decode cX0_rewrite 38 = .ok (.invokevirtual 68, 3) := by decide +kernel
theorem dX0_rewrite_41 : decode cX0_rewrite 41 = .ok (.i2b, 1) := by decide +kernel
theorem dX0_rewrite_42 : decode cX0_rewrite 42 = .ok (.bastore, 1) := by decide +kernel
theorem dX0_rewrite_43 : decode cX0_rewrite 43 = .ok (.aload_n 0, 1) := by decide +kernel
theorem dX0_rewrite_44 : decode cX0_rewrite 44 = .ok (.iload_n 2, 1) := by decide +kernel
theorem dX0_rewrite_45 : decode cX0_rewrite 45 = .ok (.iload_n 1, 1) := by decide +kernel
theorem dX0_rewrite_46 : decode cX0_rewrite 46 = .ok (.invokevirtual 68, 3) := by decide +kernel
theorem dX0_rewrite_49 : decode cX0_rewrite 49 = .ok (.istore_n 3, 1) := by decide +kernel
theorem dX0_rewrite_50 : decode cX0_rewrite 50 = .ok (.aload_n 0, 1) := by decide +kernel
theorem dX0_rewrite_51 : decode cX0_rewrite 51 = .ok (.getfield 30, 3) := by decide +kernel
theorem dX0_rewrite_54 : decode cX0_rewrite 54 = .ok (.iload_n 2, 1) := by decide +kernel
theorem dX0_rewrite_55 : decode cX0_rewrite 55 = .ok (.iload_n 3, 1) := by decide +kernel
theorem dX0_rewrite_56 : decode cX0_rewrite 56 = .ok (.aload_n 0, 1) := by decide +kernel
theorem dX0_rewrite_57 : decode cX0_rewrite 57 = .ok (.getfield 65, 3) := by decide +kernel
theorem dX0_rewrite_60 : decode cX0_rewrite 60 = .ok (.if_icmp .lt 7, 3) := by decide +kernel
theorem dX0_rewrite_63 : decode cX0_rewrite 63 = .ok (.iload_n 3, 1) := by decide +kernel
theorem dX0_rewrite_64 : decode cX0_rewrite 64 = .ok (.goto 4, 3) := by decide +kernel
theorem dX0_rewrite_67 : decode cX0_rewrite 67 = .ok (.iconst (-1), 1) := by decide +kernel
theorem dX0_rewrite_68 : decode cX0_rewrite 68 = .ok (.i2b, 1) := by decide +kernel
theorem dX0_rewrite_69 : decode cX0_rewrite 69 = .ok (.bastore, 1) := by decide +kernel
theorem dX0_rewrite_70 : decode cX0_rewrite 70 = .ok (.aload_n 0, 1) := by decide +kernel
theorem dX0_rewrite_71 : decode cX0_rewrite 71 = .ok (.getfield 33, 3) := by decide +kernel
theorem dX0_rewrite_74 : decode cX0_rewrite 74 = .ok (.iload_n 2, 1) := by decide +kernel
theorem dX0_rewrite_75 : decode cX0_rewrite 75 = .ok (.aload_n 0, 1) := by decide +kernel
theorem dX0_rewrite_76 : decode cX0_rewrite 76 = .ok (.getfield 24, 3) := by decide +kernel
theorem dX0_rewrite_79 : decode cX0_rewrite 79 = .ok (.iload_n 2, 1) := by decide +kernel
theorem dX0_rewrite_80 : decode cX0_rewrite 80 = .ok (.baload, 1) := by decide +kernel
theorem dX0_rewrite_81 : decode cX0_rewrite 81 = .ok (.iload_n 1, 1) := by decide +kernel
theorem dX0_rewrite_82 : decode cX0_rewrite 82 = .ok (.if_icmp .lt 12, 3) := by decide +kernel
theorem dX0_rewrite_85 : decode cX0_rewrite 85 = .ok (.aload_n 0, 1) := by decide +kernel
theorem dX0_rewrite_86 : decode cX0_rewrite 86 = .ok (.getfield 24, 3) := by decide +kernel
theorem dX0_rewrite_89 : decode cX0_rewrite 89 = .ok (.iload_n 2, 1) := by decide +kernel
theorem dX0_rewrite_90 : decode cX0_rewrite 90 = .ok (.baload, 1) := by decide +kernel
theorem dX0_rewrite_91 : decode cX0_rewrite 91 = .ok (.goto 4, 3) := by decide +kernel
theorem dX0_rewrite_94 : decode cX0_rewrite 94 = .ok (.iconst (-1), 1) := by decide +kernel
theorem dX0_rewrite_95 : decode cX0_rewrite 95 = .ok (.bastore, 1) := by decide +kernel
theorem dX0_rewrite_96 : decode cX0_rewrite 96 = .ok (.aload_n 0, 1) := by decide +kernel
theorem dX0_rewrite_97 : decode cX0_rewrite 97 = .ok (.getfield 24, 3) := by decide +kernel
theorem dX0_rewrite_100 : decode cX0_rewrite 100 = .ok (.iload_n 2, 1) := by decide +kernel
theorem dX0_rewrite_101 : decode cX0_rewrite 101 = .ok (.iconst (-1), 1) := by decide +kernel
theorem dX0_rewrite_102 : decode cX0_rewrite 102 = .ok (.bastore, 1) := by decide +kernel
theorem dX0_rewrite_103 : decode cX0_rewrite 103 = .ok (.iinc 2 1, 3) := by decide +kernel
theorem dX0_rewrite_106 : decode cX0_rewrite 106 = .ok (.goto (-85), 3) := by decide +kernel
theorem dX0_rewrite_109 : decode cX0_rewrite 109 = .ok (.iconst 0, 1) := by decide +kernel
theorem dX0_rewrite_110 : decode cX0_rewrite 110 = .ok (.istore_n 2, 1) := by decide +kernel
theorem dX0_rewrite_111 : decode cX0_rewrite 111 = .ok (.iconst 0, 1) := by decide +kernel
theorem dX0_rewrite_112 : decode cX0_rewrite 112 = .ok (.istore_n 3, 1) := by decide +kernel
theorem dX0_rewrite_113 : decode cX0_rewrite 113 = .ok (.iload_n 3, 1) := by decide +kernel
theorem dX0_rewrite_114 : decode cX0_rewrite 114 = .ok (.bipush 16, 2) := by decide +kernel
theorem dX0_rewrite_116 : decode cX0_rewrite 116 = .ok (.if_icmp .ge 38, 3) := by decide +kernel
theorem dX0_rewrite_119 : decode cX0_rewrite 119 = .ok (.aload_n 0, 1) := by decide +kernel
theorem dX0_rewrite_120 : decode cX0_rewrite 120 = .ok (.aload_n 0, 1) := by decide +kernel
theorem dX0_rewrite_121 : decode cX0_rewrite 121 = .ok (.getfield 27, 3) := by decide +kernel
theorem dX0_rewrite_124 : decode cX0_rewrite 124 = .ok (.iload_n 3, 1) := by decide +kernel
theorem dX0_rewrite_125 : decode cX0_rewrite 125 = .ok (.baload, 1) := by decide +kernel
theorem dX0_rewrite_126 : decode cX0_rewrite 126 = .ok (.invokevirtual 72, 3) := by decide +kernel
theorem dX0_rewrite_129 : decode cX0_rewrite 129 = .ok (.ifCond .eq 17, 3) := by decide +kernel
theorem dX0_rewrite_132 : decode cX0_rewrite 132 = .ok (.aload_n 0, 1) := by decide +kernel
theorem dX0_rewrite_133 : decode cX0_rewrite 133 = .ok (.aload_n 0, 1) := by decide +kernel
theorem dX0_rewrite_134 : decode cX0_rewrite 134 = .ok (.getfield 27, 3) := by decide +kernel
theorem dX0_rewrite_137 : decode cX0_rewrite 137 = .ok (.iload_n 3, 1) := by decide +kernel
theorem dX0_rewrite_138 : decode cX0_rewrite 138 = .ok (.baload, 1) := by decide +kernel
theorem dX0_rewrite_139 : decode cX0_rewrite 139 = .ok (.iload_n 2, 1) := by decide +kernel
theorem dX0_rewrite_140 : decode cX0_rewrite 140 = .ok (.invokevirtual 76, 3) := by decide +kernel
theorem dX0_rewrite_143 : decode cX0_rewrite 143 = .ok (.goto 4, 3) := by decide +kernel
theorem dX0_rewrite_146 : decode cX0_rewrite 146 = .ok (.iload_n 2, 1) := by decide +kernel
theorem dX0_rewrite_147 : decode cX0_rewrite 147 = .ok (.istore_n 2, 1) := by decide +kernel
theorem dX0_rewrite_148 : decode cX0_rewrite 148 = .ok (.iinc 3 1, 3) := by decide +kernel
theorem dX0_rewrite_151 : decode cX0_rewrite 151 = .ok (.goto (-38), 3) := by decide +kernel
theorem dX0_rewrite_154 : decode cX0_rewrite 154 = .ok (.aload_n 0, 1) := by decide +kernel
theorem dX0_rewrite_155 : decode cX0_rewrite 155 = .ok (.iload_n 2, 1) := by decide +kernel
theorem dX0_rewrite_156 : decode cX0_rewrite 156 = .ok (.putfield 65, 3) := by decide +kernel
theorem dX0_rewrite_159 : decode cX0_rewrite 159 = .ok (.iconst 0, 1) := by decide +kernel
theorem dX0_rewrite_160 : decode cX0_rewrite 160 = .ok (.istore_n 3, 1) := by decide +kernel
theorem dX0_rewrite_161 : decode cX0_rewrite 161 = .ok (.iload_n 3, 1) := by decide +kernel
theorem dX0_rewrite_162 : decode cX0_rewrite 162 = .ok (.bipush 16, 2) := by decide +kernel
theorem dX0_rewrite_164 : decode cX0_rewrite 164 = .ok (.if_icmp .ge 34, 3) := by decide +kernel
theorem dX0_rewrite_167 : decode cX0_rewrite 167 = .ok (.aload_n 0, 1) := by decide +kernel
theorem dX0_rewrite_168 : decode cX0_rewrite 168 = .ok (.getfield 30, 3) := by decide +kernel
theorem dX0_rewrite_171 : decode cX0_rewrite 171 = .ok (.iload_n 3, 1) := by decide +kernel
theorem dX0_rewrite_172 : decode cX0_rewrite 172 = .ok (.baload, 1) := by decide +kernel
theorem dX0_rewrite_173 : decode cX0_rewrite 173 = .ok (.ifCond .lt 17, 3) := by decide +kernel
theorem dX0_rewrite_176 : decode cX0_rewrite 176 = .ok (.aload_n 0, 1) := by decide +kernel
theorem dX0_rewrite_177 : decode cX0_rewrite 177 = .ok (.aload_n 0, 1) := by decide +kernel
theorem dX0_rewrite_178 : decode cX0_rewrite 178 = .ok (.getfield 30, 3) := by decide +kernel
theorem dX0_rewrite_181 : decode cX0_rewrite 181 = .ok (.iload_n 3, 1) := by decide +kernel
theorem dX0_rewrite_182 : decode cX0_rewrite 182 = .ok (.baload, 1) := by decide +kernel
theorem dX0_rewrite_183 : decode cX0_rewrite 183 = .ok (.iload_n 2, 1) := by decide +kernel
theorem dX0_rewrite_184 : decode cX0_rewrite 184 = .ok (.invokevirtual 76, 3) := by decide +kernel
theorem dX0_rewrite_187 : decode cX0_rewrite 187 = .ok (.goto 4, 3) := by decide +kernel
theorem dX0_rewrite_190 : decode cX0_rewrite 190 = .ok (.iload_n 2, 1) := by decide +kernel
theorem dX0_rewrite_191 : decode cX0_rewrite 191 = .ok (.istore_n 2, 1) := by decide +kernel
theorem dX0_rewrite_192 : decode cX0_rewrite 192 = .ok (.iinc 3 1, 3) := by decide +kernel
theorem dX0_rewrite_195 : decode cX0_rewrite 195 = .ok (.goto (-34), 3) := by decide +kernel
theorem dX0_rewrite_198 : decode cX0_rewrite 198 = .ok (.aload_n 0, 1) := by decide +kernel
theorem dX0_rewrite_199 : decode cX0_rewrite 199 = .ok (.iload_n 2, 1) := by decide +kernel
theorem dX0_rewrite_200 : decode cX0_rewrite 200 = .ok (.putfield 62, 3) := by decide +kernel
theorem dX0_rewrite_203 : decode cX0_rewrite 203 = .ok (.iconst 0, 1) := by decide +kernel
theorem dX0_rewrite_204 : decode cX0_rewrite 204 = .ok (.istore_n 3, 1) := by decide +kernel
theorem dX0_rewrite_205 : decode cX0_rewrite 205 = .ok (.iload_n 3, 1) := by decide +kernel
theorem dX0_rewrite_206 : decode cX0_rewrite 206 = .ok (.bipush 16, 2) := by decide +kernel
theorem dX0_rewrite_208 : decode cX0_rewrite 208 = .ok (.if_icmp .ge 34, 3) := by decide +kernel
theorem dX0_rewrite_211 : decode cX0_rewrite 211 = .ok (.aload_n 0, 1) := by decide +kernel
theorem dX0_rewrite_212 : decode cX0_rewrite 212 = .ok (.getfield 33, 3) := by decide +kernel
theorem dX0_rewrite_215 : decode cX0_rewrite 215 = .ok (.iload_n 3, 1) := by decide +kernel
theorem dX0_rewrite_216 : decode cX0_rewrite 216 = .ok (.baload, 1) := by decide +kernel
theorem dX0_rewrite_217 : decode cX0_rewrite 217 = .ok (.ifCond .lt 17, 3) := by decide +kernel
theorem dX0_rewrite_220 : decode cX0_rewrite 220 = .ok (.aload_n 0, 1) := by decide +kernel
theorem dX0_rewrite_221 : decode cX0_rewrite 221 = .ok (.aload_n 0, 1) := by decide +kernel
theorem dX0_rewrite_222 : decode cX0_rewrite 222 = .ok (.getfield 33, 3) := by decide +kernel
theorem dX0_rewrite_225 : decode cX0_rewrite 225 = .ok (.iload_n 3, 1) := by decide +kernel
theorem dX0_rewrite_226 : decode cX0_rewrite 226 = .ok (.baload, 1) := by decide +kernel
theorem dX0_rewrite_227 : decode cX0_rewrite 227 = .ok (.iload_n 2, 1) := by decide +kernel
theorem dX0_rewrite_228 : decode cX0_rewrite 228 = .ok (.invokevirtual 76, 3) := by decide +kernel
theorem dX0_rewrite_231 : decode cX0_rewrite 231 = .ok (.goto 4, 3) := by decide +kernel
theorem dX0_rewrite_234 : decode cX0_rewrite 234 = .ok (.iload_n 2, 1) := by decide +kernel
theorem dX0_rewrite_235 : decode cX0_rewrite 235 = .ok (.istore_n 2, 1) := by decide +kernel
theorem dX0_rewrite_236 : decode cX0_rewrite 236 = .ok (.iinc 3 1, 3) := by decide +kernel
theorem dX0_rewrite_239 : decode cX0_rewrite 239 = .ok (.goto (-34), 3) := by decide +kernel
theorem dX0_rewrite_242 : decode cX0_rewrite 242 = .ok (.aload_n 0, 1) := by decide +kernel
theorem dX0_rewrite_243 : decode cX0_rewrite 243 = .ok (.iload_n 2, 1) := by decide +kernel
theorem dX0_rewrite_244 : decode cX0_rewrite 244 = .ok (.putfield 48, 3) := by decide +kernel
theorem dX0_rewrite_247 : decode cX0_rewrite 247 = .ok (.iconst 0, 1) := by decide +kernel
theorem dX0_rewrite_248 : decode cX0_rewrite 248 = .ok (.istore_n 3, 1) := by decide +kernel
theorem dX0_rewrite_249 : decode cX0_rewrite 249 = .ok (.iload_n 3, 1) := by decide +kernel
theorem dX0_rewrite_250 : decode cX0_rewrite 250 = .ok (.iload_n 2, 1) := by decide +kernel
theorem dX0_rewrite_251 : decode cX0_rewrite 251 = .ok (.if_icmp .ge 57, 3) := by decide +kernel
theorem dX0_rewrite_254 : decode cX0_rewrite 254 = .ok (.aload_n 0, 1) := by decide +kernel
theorem dX0_rewrite_255 : decode cX0_rewrite 255 = .ok (.getfield 7, 3) := by decide +kernel
theorem dX0_rewrite_258 : decode cX0_rewrite 258 = .ok (.iload_n 3, 1) := by decide +kernel
theorem dX0_rewrite_259 : decode cX0_rewrite 259 = .ok (.aload_n 0, 1) := by decide +kernel
theorem dX0_rewrite_260 : decode cX0_rewrite 260 = .ok (.getfield 36, 3) := by decide +kernel
theorem dX0_rewrite_263 : decode cX0_rewrite 263 = .ok (.iload_n 3, 1) := by decide +kernel
theorem dX0_rewrite_264 : decode cX0_rewrite 264 = .ok (.baload, 1) := by decide +kernel
theorem dX0_rewrite_265 : decode cX0_rewrite 265 = .ok (.bastore, 1) := by decide +kernel
theorem dX0_rewrite_266 : decode cX0_rewrite 266 = .ok (.aload_n 0, 1) := by decide +kernel
theorem dX0_rewrite_267 : decode cX0_rewrite 267 = .ok (.getfield 13, 3) := by decide +kernel
theorem dX0_rewrite_270 : decode cX0_rewrite 270 = .ok (.iload_n 3, 1) := by decide +kernel
theorem dX0_rewrite_271 : decode cX0_rewrite 271 = .ok (.aload_n 0, 1) := by decide +kernel
theorem dX0_rewrite_272 : decode cX0_rewrite 272 = .ok (.getfield 39, 3) := by decide +kernel
theorem dX0_rewrite_275 : decode cX0_rewrite 275 = .ok (.iload_n 3, 1) := by decide +kernel
theorem dX0_rewrite_276 : decode cX0_rewrite 276 = .ok (.baload, 1) := by decide +kernel
theorem dX0_rewrite_277 : decode cX0_rewrite 277 = .ok (.bastore, 1) := by decide +kernel
theorem dX0_rewrite_278 : decode cX0_rewrite 278 = .ok (.aload_n 0, 1) := by decide +kernel
theorem dX0_rewrite_279 : decode cX0_rewrite 279 = .ok (.getfield 17, 3) := by decide +kernel
theorem dX0_rewrite_282 : decode cX0_rewrite 282 = .ok (.iload_n 3, 1) := by decide +kernel
theorem dX0_rewrite_283 : decode cX0_rewrite 283 = .ok (.aload_n 0, 1) := by decide +kernel
theorem dX0_rewrite_284 : decode cX0_rewrite 284 = .ok (.getfield 42, 3) := by decide +kernel
theorem dX0_rewrite_287 : decode cX0_rewrite 287 = .ok (.iload_n 3, 1) := by decide +kernel
theorem dX0_rewrite_288 : decode cX0_rewrite 288 = .ok (.iaload, 1) := by decide +kernel
theorem dX0_rewrite_289 : decode cX0_rewrite 289 = .ok (.iastore, 1) := by decide +kernel
theorem dX0_rewrite_290 : decode cX0_rewrite 290 = .ok (.aload_n 0, 1) := by decide +kernel
theorem dX0_rewrite_291 : decode cX0_rewrite 291 = .ok (.getfield 21, 3) := by decide +kernel
theorem dX0_rewrite_294 : decode cX0_rewrite 294 = .ok (.iload_n 3, 1) := by decide +kernel
theorem dX0_rewrite_295 : decode cX0_rewrite 295 = .ok (.aload_n 0, 1) := by decide +kernel
theorem dX0_rewrite_296 : decode cX0_rewrite 296 = .ok (.getfield 45, 3) := by decide +kernel
theorem dX0_rewrite_299 : decode cX0_rewrite 299 = .ok (.iload_n 3, 1) := by decide +kernel
theorem dX0_rewrite_300 : decode cX0_rewrite 300 = .ok (.baload, 1) := by decide +kernel
theorem dX0_rewrite_301 : decode cX0_rewrite 301 = .ok (.bastore, 1) := by decide +kernel
theorem dX0_rewrite_302 : decode cX0_rewrite 302 = .ok (.iinc 3 1, 3) := by decide +kernel
theorem dX0_rewrite_305 : decode cX0_rewrite 305 = .ok (.goto (-56), 3) := by decide +kernel
theorem dX0_rewrite_308 : decode cX0_rewrite 308 = .ok (.return_, 1) := by decide +kernel
theorem dX0_before_0 : decode cX0_before 0 = .ok (.aload_n 0, 1) := by decide +kernel
theorem dX0_before_1 : decode cX0_before 1 = .ok (.getfield 24, 3) := by decide +kernel
theorem dX0_before_4 : decode cX0_before 4 = .ok (.iload_n 1, 1) := by decide +kernel
theorem dX0_before_5 : decode cX0_before 5 = .ok (.baload, 1) := by decide +kernel
theorem dX0_before_6 : decode cX0_before 6 = .ok (.istore_n 3, 1) := by decide +kernel
theorem dX0_before_7 : decode cX0_before 7 = .ok (.iconst 0, 1) := by decide +kernel
theorem dX0_before_8 : decode cX0_before 8 = .ok (.istore 4, 2) := by decide +kernel
theorem dX0_before_10 : decode cX0_before 10 = .ok (.iload 4, 2) := by decide +kernel
theorem dX0_before_12 : decode cX0_before 12 = .ok (.bipush 96, 2) := by decide +kernel
theorem dX0_before_14 : decode cX0_before 14 = .ok (.if_icmp .ge 21, 3) := by decide +kernel
theorem dX0_before_17 : decode cX0_before 17 = .ok (.iload_n 3, 1) := by decide +kernel
theorem dX0_before_18 : decode cX0_before 18 = .ok (.iload_n 2, 1) := by decide +kernel
theorem dX0_before_19 : decode cX0_before 19 = .ok (.if_icmp .lt 16, 3) := by decide +kernel
theorem dX0_before_22 : decode cX0_before 22 = .ok (.aload_n 0, 1) := by decide +kernel
theorem dX0_before_23 : decode cX0_before 23 = .ok (.getfield 21, 3) := by decide +kernel
theorem dX0_before_26 : decode cX0_before 26 = .ok (.iload_n 3, 1) := by decide +kernel
theorem dX0_before_27 : decode cX0_before 27 = .ok (.baload, 1) := by decide +kernel
theorem dX0_before_28 : decode cX0_before 28 = .ok (.istore_n 3, 1) := by decide +kernel
theorem dX0_before_29 : decode cX0_before 29 = .ok (.iinc 4 1, 3) := by decide +kernel
theorem dX0_before_32 : decode cX0_before 32 = .ok (.goto (-22), 3) := by decide +kernel
theorem dX0_before_35 : decode cX0_before 35 = .ok (.iload_n 3, 1) := by decide +kernel
theorem dX0_before_36 : decode cX0_before 36 = .ok (.ireturn, 1) := by decide +kernel
theorem dX0_holds_0 : decode cX0_holds 0 = .ok (.iload_n 1, 1) := by decide +kernel
end
section
set_option maxRecDepth 100000
theorem dX0_holds_1 : decode cX0_holds 1 = .ok (.ifCond .lt 16, 3) := by decide +kernel
theorem dX0_holds_4 : decode cX0_holds 4 = .ok (.aload_n 0, 1) := by decide +kernel
theorem dX0_holds_5 : decode cX0_holds 5 = .ok (.getfield 13, 3) := by decide +kernel
theorem dX0_holds_8 : decode cX0_holds 8 = .ok (.iload_n 1, 1) := by decide +kernel
theorem dX0_holds_9 : decode cX0_holds 9 = .ok (.baload, 1) := by decide +kernel
theorem dX0_holds_10 : decode cX0_holds 10 = .ok (.ifCond .ne 7, 3) := by decide +kernel
theorem dX0_holds_13 : decode cX0_holds 13 = .ok (.iconst 1, 1) := by decide +kernel
theorem dX0_holds_14 : decode cX0_holds 14 = .ok (.goto 4, 3) := by decide +kernel
theorem dX0_holds_17 : decode cX0_holds 17 = .ok (.iconst 0, 1) := by decide +kernel
theorem dX0_holds_18 : decode cX0_holds 18 = .ok (.ireturn, 1) := by decide +kernel
theorem dX0_carryOver_0 : decode cX0_carryOver 0 = .ok (.aload_n 0, 1) := by decide +kernel
theorem dX0_carryOver_1 : decode cX0_carryOver 1 = .ok (.getfield 7, 3) := by decide +kernel
theorem dX0_carryOver_4 : decode cX0_carryOver 4 = .ok (.iload_n 1, 1) := by decide +kernel
theorem dX0_carryOver_5 : decode cX0_carryOver 5 = .ok (.baload, 1) := by decide +kernel
theorem dX0_carryOver_6 : decode cX0_carryOver 6 = .ok (.istore_n 3, 1) := by decide +kernel
theorem dX0_carryOver_7 : decode cX0_carryOver 7 = .ok (.aload_n 0, 1) := by decide +kernel
theorem dX0_carryOver_8 : decode cX0_carryOver 8 = .ok (.getfield 36, 3) := by decide +kernel
theorem dX0_carryOver_11 : decode cX0_carryOver 11 = .ok (.iload_n 2, 1) := by decide +kernel
theorem dX0_carryOver_12 : decode cX0_carryOver 12 = .ok (.iload_n 3, 1) := by decide +kernel
theorem dX0_carryOver_13 : decode cX0_carryOver 13 = .ok (.i2b, 1) := by decide +kernel
theorem dX0_carryOver_14 : decode cX0_carryOver 14 = .ok (.bastore, 1) := by decide +kernel
theorem dX0_carryOver_15 : decode cX0_carryOver 15 = .ok (.aload_n 0, 1) := by decide +kernel
theorem dX0_carryOver_16 : decode cX0_carryOver 16 = .ok (.getfield 39, 3) := by decide +kernel
theorem dX0_carryOver_19 : decode cX0_carryOver 19 = .ok (.iload_n 2, 1) := by decide +kernel
theorem dX0_carryOver_20 : decode cX0_carryOver 20 = .ok (.aload_n 0, 1) := by decide +kernel
theorem dX0_carryOver_21 : decode cX0_carryOver 21 = .ok (.getfield 13, 3) := by decide +kernel
theorem dX0_carryOver_24 : decode cX0_carryOver 24 = .ok (.iload_n 1, 1) := by decide +kernel
theorem dX0_carryOver_25 : decode cX0_carryOver 25 = .ok (.baload, 1) := by decide +kernel
theorem dX0_carryOver_26 : decode cX0_carryOver 26 = .ok (.bastore, 1) := by decide +kernel
theorem dX0_carryOver_27 : decode cX0_carryOver 27 = .ok (.aload_n 0, 1) := by decide +kernel
theorem dX0_carryOver_28 : decode cX0_carryOver 28 = .ok (.getfield 42, 3) := by decide +kernel
theorem dX0_carryOver_31 : decode cX0_carryOver 31 = .ok (.iload_n 2, 1) := by decide +kernel
theorem dX0_carryOver_32 : decode cX0_carryOver 32 = .ok (.aload_n 0, 1) := by decide +kernel
theorem dX0_carryOver_33 : decode cX0_carryOver 33 = .ok (.getfield 17, 3) := by decide +kernel
theorem dX0_carryOver_36 : decode cX0_carryOver 36 = .ok (.iload_n 1, 1) := by decide +kernel
theorem dX0_carryOver_37 : decode cX0_carryOver 37 = .ok (.iaload, 1) := by decide +kernel
theorem dX0_carryOver_38 : decode cX0_carryOver 38 = .ok (.iastore, 1) := by decide +kernel
theorem dX0_carryOver_39 : decode cX0_carryOver 39 = .ok (.aload_n 0, 1) := by decide +kernel
theorem dX0_carryOver_40 : decode cX0_carryOver 40 = .ok (.getfield 45, 3) := by decide +kernel
theorem dX0_carryOver_43 : decode cX0_carryOver 43 = .ok (.iload_n 2, 1) := by decide +kernel
theorem dX0_carryOver_44 : decode cX0_carryOver 44 = .ok (.aload_n 0, 1) := by decide +kernel
theorem dX0_carryOver_45 : decode cX0_carryOver 45 = .ok (.getfield 24, 3) := by decide +kernel
theorem dX0_carryOver_48 : decode cX0_carryOver 48 = .ok (.iload_n 3, 1) := by decide +kernel
theorem dX0_carryOver_49 : decode cX0_carryOver 49 = .ok (.baload, 1) := by decide +kernel
theorem dX0_carryOver_50 : decode cX0_carryOver 50 = .ok (.bastore, 1) := by decide +kernel
theorem dX0_carryOver_51 : decode cX0_carryOver 51 = .ok (.aload_n 0, 1) := by decide +kernel
theorem dX0_carryOver_52 : decode cX0_carryOver 52 = .ok (.getfield 24, 3) := by decide +kernel
theorem dX0_carryOver_55 : decode cX0_carryOver 55 = .ok (.iload_n 3, 1) := by decide +kernel
theorem dX0_carryOver_56 : decode cX0_carryOver 56 = .ok (.iload_n 2, 1) := by decide +kernel
theorem dX0_carryOver_57 : decode cX0_carryOver 57 = .ok (.i2b, 1) := by decide +kernel
theorem dX0_carryOver_58 : decode cX0_carryOver 58 = .ok (.bastore, 1) := by decide +kernel
theorem dX0_carryOver_59 : decode cX0_carryOver 59 = .ok (.iload_n 2, 1) := by decide +kernel
theorem dX0_carryOver_60 : decode cX0_carryOver 60 = .ok (.iconst 1, 1) := by decide +kernel
theorem dX0_carryOver_61 : decode cX0_carryOver 61 = .ok (.iadd, 1) := by decide +kernel
theorem dX0_carryOver_62 : decode cX0_carryOver 62 = .ok (.ireturn, 1) := by decide +kernel
theorem dX0_remove_0 : decode cX0_remove 0 = .ok (.aload_n 0, 1) := by decide +kernel
theorem dX0_remove_1 : decode cX0_remove 1 = .ok (.iload_n 1, 1) := by decide +kernel
theorem dX0_remove_2 : decode cX0_remove 2 = .ok (.invokevirtual 86, 3) := by decide +kernel
theorem dX0_remove_5 : decode cX0_remove 5 = .ok (.ifCond .ne 5, 3) := by decide +kernel
theorem dX0_remove_8 : decode cX0_remove 8 = .ok (.iconst 0, 1) := by decide +kernel
theorem dX0_remove_9 : decode cX0_remove 9 = .ok (.ireturn, 1) := by decide +kernel
theorem dX0_remove_10 : decode cX0_remove 10 = .ok (.aload_n 0, 1) := by decide +kernel
theorem dX0_remove_11 : decode cX0_remove 11 = .ok (.iload_n 1, 1) := by decide +kernel
theorem dX0_remove_12 : decode cX0_remove 12 = .ok (.iconst 1, 1) := by decide +kernel
theorem dX0_remove_13 : decode cX0_remove 13 = .ok (.iconst 0, 1) := by decide +kernel
theorem dX0_remove_14 : decode cX0_remove 14 = .ok (.invokevirtual 82, 3) := by decide +kernel
theorem dX0_remove_17 : decode cX0_remove 17 = .ok (.iconst 1, 1) := by decide +kernel
theorem dX0_remove_18 : decode cX0_remove 18 = .ok (.ireturn, 1) := by decide +kernel
theorem dX0_has_0 : decode cX0_has 0 = .ok (.iload_n 1, 1) := by decide +kernel
theorem dX0_has_1 : decode cX0_has 1 = .ok (.invokestatic 79, 3) := by decide +kernel
theorem dX0_has_4 : decode cX0_has 4 = .ok (.ifCond .eq 20, 3) := by decide +kernel
theorem dX0_has_7 : decode cX0_has 7 = .ok (.aload_n 0, 1) := by decide +kernel
theorem dX0_has_8 : decode cX0_has 8 = .ok (.aload_n 0, 1) := by decide +kernel
theorem dX0_has_9 : decode cX0_has 9 = .ok (.getfield 24, 3) := by decide +kernel
theorem dX0_has_12 : decode cX0_has 12 = .ok (.iload_n 1, 1) := by decide +kernel
theorem dX0_has_13 : decode cX0_has 13 = .ok (.baload, 1) := by decide +kernel
theorem dX0_has_14 : decode cX0_has 14 = .ok (.invokevirtual 72, 3) := by decide +kernel
theorem dX0_has_17 : decode cX0_has 17 = .ok (.ifCond .eq 7, 3) := by decide +kernel
theorem dX0_has_20 : decode cX0_has 20 = .ok (.iconst 1, 1) := by decide +kernel
theorem dX0_has_21 : decode cX0_has 21 = .ok (.goto 4, 3) := by decide +kernel
theorem dX0_has_24 : decode cX0_has 24 = .ok (.iconst 0, 1) := by decide +kernel
theorem dX0_has_25 : decode cX0_has 25 = .ok (.ireturn, 1) := by decide +kernel
theorem dX0_commit_0 : decode cX0_commit 0 = .ok (.aload_n 0, 1) := by decide +kernel
theorem dX0_commit_1 : decode cX0_commit 1 = .ok (.getfield 55, 3) := by decide +kernel
theorem dX0_commit_4 : decode cX0_commit 4 = .ok (.ifCond .ne 5, 3) := by decide +kernel
theorem dX0_commit_7 : decode cX0_commit 7 = .ok (.iconst (-1), 1) := by decide +kernel
theorem dX0_commit_8 : decode cX0_commit 8 = .ok (.ireturn, 1) := by decide +kernel
theorem dX0_commit_9 : decode cX0_commit 9 = .ok (.aload_n 0, 1) := by decide +kernel
theorem dX0_commit_10 : decode cX0_commit 10 = .ok (.iconst 0, 1) := by decide +kernel
theorem dX0_commit_11 : decode cX0_commit 11 = .ok (.putfield 55, 3) := by decide +kernel
theorem dX0_commit_14 : decode cX0_commit 14 = .ok (.aload_n 0, 1) := by decide +kernel
theorem dX0_commit_15 : decode cX0_commit 15 = .ok (.iconst 0, 1) := by decide +kernel
theorem dX0_commit_16 : decode cX0_commit 16 = .ok (.putfield 59, 3) := by decide +kernel
theorem dX0_commit_19 : decode cX0_commit 19 = .ok (.iconst 0, 1) := by decide +kernel
theorem dX0_commit_20 : decode cX0_commit 20 = .ok (.ireturn, 1) := by decide +kernel
theorem dX0_abort_0 : decode cX0_abort 0 = .ok (.aload_n 0, 1) := by decide +kernel
theorem dX0_abort_1 : decode cX0_abort 1 = .ok (.getfield 55, 3) := by decide +kernel
theorem dX0_abort_4 : decode cX0_abort 4 = .ok (.ifCond .ne 5, 3) := by decide +kernel
theorem dX0_abort_7 : decode cX0_abort 7 = .ok (.iconst (-1), 1) := by decide +kernel
theorem dX0_abort_8 : decode cX0_abort 8 = .ok (.ireturn, 1) := by decide +kernel
theorem dX0_abort_9 : decode cX0_abort 9 = .ok (.aload_n 0, 1) := by decide +kernel
theorem dX0_abort_10 : decode cX0_abort 10 = .ok (.aload_n 0, 1) := by decide +kernel
theorem dX0_abort_11 : decode cX0_abort 11 = .ok (.getfield 62, 3) := by decide +kernel
theorem dX0_abort_14 : decode cX0_abort 14 = .ok (.invokevirtual 89, 3) := by decide +kernel
theorem dX0_abort_17 : decode cX0_abort 17 = .ok (.iconst 0, 1) := by decide +kernel
theorem dX0_abort_18 : decode cX0_abort 18 = .ok (.ireturn, 1) := by decide +kernel
theorem dX0_cutTo_0 : decode cX0_cutTo 0 = .ok (.iconst 0, 1) := by decide +kernel
theorem dX0_cutTo_1 : decode cX0_cutTo 1 = .ok (.istore_n 2, 1) := by decide +kernel
theorem dX0_cutTo_2 : decode cX0_cutTo 2 = .ok (.iload_n 2, 1) := by decide +kernel
theorem dX0_cutTo_3 : decode cX0_cutTo 3 = .ok (.bipush 16, 2) := by decide +kernel
theorem dX0_cutTo_5 : decode cX0_cutTo 5 = .ok (.if_icmp .ge 22, 3) := by decide +kernel
theorem dX0_cutTo_8 : decode cX0_cutTo 8 = .ok (.aload_n 0, 1) := by decide +kernel
theorem dX0_cutTo_9 : decode cX0_cutTo 9 = .ok (.getfield 24, 3) := by decide +kernel
theorem dX0_cutTo_12 : decode cX0_cutTo 12 = .ok (.iload_n 2, 1) := by decide +kernel
theorem dX0_cutTo_13 : decode cX0_cutTo 13 = .ok (.aload_n 0, 1) := by decide +kernel
theorem dX0_cutTo_14 : decode cX0_cutTo 14 = .ok (.iload_n 2, 1) := by decide +kernel
theorem dX0_cutTo_15 : decode cX0_cutTo 15 = .ok (.iload_n 1, 1) := by decide +kernel
theorem dX0_cutTo_16 : decode cX0_cutTo 16 = .ok (.invokevirtual 68, 3) := by decide +kernel
theorem dX0_cutTo_19 : decode cX0_cutTo 19 = .ok (.i2b, 1) := by decide +kernel
theorem dX0_cutTo_20 : decode cX0_cutTo 20 = .ok (.bastore, 1) := by decide +kernel
theorem dX0_cutTo_21 : decode cX0_cutTo 21 = .ok (.iinc 2 1, 3) := by decide +kernel
theorem dX0_cutTo_24 : decode cX0_cutTo 24 = .ok (.goto (-22), 3) := by decide +kernel
theorem dX0_cutTo_27 : decode cX0_cutTo 27 = .ok (.aload_n 0, 1) := by decide +kernel
theorem dX0_cutTo_28 : decode cX0_cutTo 28 = .ok (.iload_n 1, 1) := by decide +kernel
theorem dX0_cutTo_29 : decode cX0_cutTo 29 = .ok (.putfield 48, 3) := by decide +kernel
theorem dX0_cutTo_32 : decode cX0_cutTo 32 = .ok (.aload_n 0, 1) := by decide +kernel
theorem dX0_cutTo_33 : decode cX0_cutTo 33 = .ok (.iconst 0, 1) := by decide +kernel
theorem dX0_cutTo_34 : decode cX0_cutTo 34 = .ok (.putfield 55, 3) := by decide +kernel
theorem dX0_cutTo_37 : decode cX0_cutTo 37 = .ok (.aload_n 0, 1) := by decide +kernel
theorem dX0_cutTo_38 : decode cX0_cutTo 38 = .ok (.iconst 0, 1) := by decide +kernel
theorem dX0_cutTo_39 : decode cX0_cutTo 39 = .ok (.putfield 59, 3) := by decide +kernel
theorem dX0_cutTo_42 : decode cX0_cutTo 42 = .ok (.return_, 1) := by decide +kernel
theorem dX0_sync_0 : decode cX0_sync 0 = .ok (.aload_n 0, 1) := by decide +kernel
theorem dX0_sync_1 : decode cX0_sync 1 = .ok (.aload_n 0, 1) := by decide +kernel
theorem dX0_sync_2 : decode cX0_sync 2 = .ok (.getfield 55, 3) := by decide +kernel
theorem dX0_sync_5 : decode cX0_sync 5 = .ok (.ifCond .eq 10, 3) := by decide +kernel
theorem dX0_sync_8 : decode cX0_sync 8 = .ok (.aload_n 0, 1) := by decide +kernel
theorem dX0_sync_9 : decode cX0_sync 9 = .ok (.getfield 62, 3) := by decide +kernel
theorem dX0_sync_12 : decode cX0_sync 12 = .ok (.goto 7, 3) := by decide +kernel
theorem dX0_sync_15 : decode cX0_sync 15 = .ok (.aload_n 0, 1) := by decide +kernel
theorem dX0_sync_16 : decode cX0_sync 16 = .ok (.getfield 48, 3) := by decide +kernel
theorem dX0_sync_19 : decode cX0_sync 19 = .ok (.putfield 65, 3) := by decide +kernel
theorem dX0_sync_22 : decode cX0_sync 22 = .ok (.return_, 1) := by decide +kernel
theorem dX0_clean_0 : decode cX0_clean 0 = .ok (.aload_n 0, 1) := by decide +kernel
theorem dX0_clean_1 : decode cX0_clean 1 = .ok (.invokevirtual 52, 3) := by decide +kernel
theorem dX0_clean_4 : decode cX0_clean 4 = .ok (.return_, 1) := by decide +kernel
theorem dX0_crash_0 : decode cX0_crash 0 = .ok (.aload_n 0, 1) := by decide +kernel
theorem dX0_crash_1 : decode cX0_crash 1 = .ok (.aload_n 0, 1) := by decide +kernel
theorem dX0_crash_2 : decode cX0_crash 2 = .ok (.getfield 65, 3) := by decide +kernel
theorem dX0_crash_5 : decode cX0_crash 5 = .ok (.putfield 48, 3) := by decide +kernel
theorem dX0_crash_8 : decode cX0_crash 8 = .ok (.aload_n 0, 1) := by decide +kernel
theorem dX0_crash_9 : decode cX0_crash 9 = .ok (.iconst 0, 1) := by decide +kernel
theorem dX0_crash_10 : decode cX0_crash 10 = .ok (.putfield 55, 3) := by decide +kernel
theorem dX0_crash_13 : decode cX0_crash 13 = .ok (.aload_n 0, 1) := by decide +kernel
theorem dX0_crash_14 : decode cX0_crash 14 = .ok (.iconst 0, 1) := by decide +kernel
theorem dX0_crash_15 : decode cX0_crash 15 = .ok (.putfield 59, 3) := by decide +kernel
theorem dX0_crash_18 : decode cX0_crash 18 = .ok (.iconst 0, 1) := by decide +kernel
theorem dX0_crash_19 : decode cX0_crash 19 = .ok (.istore_n 1, 1) := by decide +kernel
theorem dX0_crash_20 : decode cX0_crash 20 = .ok (.iload_n 1, 1) := by decide +kernel
theorem dX0_crash_21 : decode cX0_crash 21 = .ok (.bipush 16, 2) := by decide +kernel
theorem dX0_crash_23 : decode cX0_crash 23 = .ok (.if_icmp .ge 16, 3) := by decide +kernel
theorem dX0_crash_26 : decode cX0_crash 26 = .ok (.aload_n 0, 1) := by decide +kernel
theorem dX0_crash_27 : decode cX0_crash 27 = .ok (.getfield 24, 3) := by decide +kernel
theorem dX0_crash_30 : decode cX0_crash 30 = .ok (.iload_n 1, 1) := by decide +kernel
theorem dX0_crash_31 : decode cX0_crash 31 = .ok (.iconst (-1), 1) := by decide +kernel
theorem dX0_crash_32 : decode cX0_crash 32 = .ok (.bastore, 1) := by decide +kernel
theorem dX0_crash_33 : decode cX0_crash 33 = .ok (.iinc 1 1, 3) := by decide +kernel
theorem dX0_crash_36 : decode cX0_crash 36 = .ok (.goto (-16), 3) := by decide +kernel
theorem dX0_crash_39 : decode cX0_crash 39 = .ok (.iconst 0, 1) := by decide +kernel
theorem dX0_crash_40 : decode cX0_crash 40 = .ok (.istore_n 1, 1) := by decide +kernel
theorem dX0_crash_41 : decode cX0_crash 41 = .ok (.iload_n 1, 1) := by decide +kernel
theorem dX0_crash_42 : decode cX0_crash 42 = .ok (.aload_n 0, 1) := by decide +kernel
theorem dX0_crash_43 : decode cX0_crash 43 = .ok (.getfield 48, 3) := by decide +kernel
theorem dX0_crash_46 : decode cX0_crash 46 = .ok (.if_icmp .ge 36, 3) := by decide +kernel
theorem dX0_crash_49 : decode cX0_crash 49 = .ok (.aload_n 0, 1) := by decide +kernel
theorem dX0_crash_50 : decode cX0_crash 50 = .ok (.getfield 7, 3) := by decide +kernel
theorem dX0_crash_53 : decode cX0_crash 53 = .ok (.iload_n 1, 1) := by decide +kernel
theorem dX0_crash_54 : decode cX0_crash 54 = .ok (.baload, 1) := by decide +kernel
theorem dX0_crash_55 : decode cX0_crash 55 = .ok (.istore_n 2, 1) := by decide +kernel
theorem dX0_crash_56 : decode cX0_crash 56 = .ok (.aload_n 0, 1) := by decide +kernel
theorem dX0_crash_57 : decode cX0_crash 57 = .ok (.getfield 21, 3) := by decide +kernel
theorem dX0_crash_60 : decode cX0_crash 60 = .ok (.iload_n 1, 1) := by decide +kernel
theorem dX0_crash_61 : decode cX0_crash 61 = .ok (.aload_n 0, 1) := by decide +kernel
theorem dX0_crash_62 : decode cX0_crash 62 = .ok (.getfield 24, 3) := by decide +kernel
theorem dX0_crash_65 : decode cX0_crash 65 = .ok (.iload_n 2, 1) := by decide +kernel
theorem dX0_crash_66 : decode cX0_crash 66 = .ok (.baload, 1) := by decide +kernel
theorem dX0_crash_67 : decode cX0_crash 67 = .ok (.bastore, 1) := by decide +kernel
theorem dX0_crash_68 : decode cX0_crash 68 = .ok (.aload_n 0, 1) := by decide +kernel
theorem dX0_crash_69 : decode cX0_crash 69 = .ok (.getfield 24, 3) := by decide +kernel
theorem dX0_crash_72 : decode cX0_crash 72 = .ok (.iload_n 2, 1) := by decide +kernel
theorem dX0_crash_73 : decode cX0_crash 73 = .ok (.iload_n 1, 1) := by decide +kernel
theorem dX0_crash_74 : decode cX0_crash 74 = .ok (.i2b, 1) := by decide +kernel
theorem dX0_crash_75 : decode cX0_crash 75 = .ok (.bastore, 1) := by decide +kernel
theorem dX0_crash_76 : decode cX0_crash 76 = .ok (.iinc 1 1, 3) := by decide +kernel
theorem dX0_crash_79 : decode cX0_crash 79 = .ok (.goto (-38), 3) := by decide +kernel
theorem dX0_crash_82 : decode cX0_crash 82 = .ok (.return_, 1) := by decide +kernel
theorem dX0_get_0 : decode cX0_get 0 = .ok (.aload_n 0, 1) := by decide +kernel
theorem dX0_get_1 : decode cX0_get 1 = .ok (.iload_n 1, 1) := by decide +kernel
theorem dX0_get_2 : decode cX0_get 2 = .ok (.invokevirtual 86, 3) := by decide +kernel
theorem dX0_get_5 : decode cX0_get 5 = .ok (.ifCond .ne 5, 3) := by decide +kernel
theorem dX0_get_8 : decode cX0_get 8 = .ok (.iconst 0, 1) := by decide +kernel
theorem dX0_get_9 : decode cX0_get 9 = .ok (.ireturn, 1) := by decide +kernel
theorem dX0_get_10 : decode cX0_get 10 = .ok (.aload_n 0, 1) := by decide +kernel
theorem dX0_get_11 : decode cX0_get 11 = .ok (.getfield 17, 3) := by decide +kernel
theorem dX0_get_14 : decode cX0_get 14 = .ok (.aload_n 0, 1) := by decide +kernel
theorem dX0_get_15 : decode cX0_get 15 = .ok (.getfield 24, 3) := by decide +kernel
theorem dX0_get_18 : decode cX0_get 18 = .ok (.iload_n 1, 1) := by decide +kernel
theorem dX0_get_19 : decode cX0_get 19 = .ok (.baload, 1) := by decide +kernel
theorem dX0_get_20 : decode cX0_get 20 = .ok (.iaload, 1) := by decide +kernel
theorem dX0_get_21 : decode cX0_get 21 = .ok (.ireturn, 1) := by decide +kernel
theorem dX0_next_0 : decode cX0_next 0 = .ok (.iload_n 1, 1) := by decide +kernel
theorem dX0_next_1 : decode cX0_next 1 = .ok (.ifCond .ge 7, 3) := by decide +kernel
theorem dX0_next_4 : decode cX0_next 4 = .ok (.iconst 0, 1) := by decide +kernel
theorem dX0_next_5 : decode cX0_next 5 = .ok (.goto 4, 3) := by decide +kernel
theorem dX0_next_8 : decode cX0_next 8 = .ok (.iload_n 1, 1) := by decide +kernel
theorem dX0_next_9 : decode cX0_next 9 = .ok (.istore_n 2, 1) := by decide +kernel
theorem dX0_next_10 : decode cX0_next 10 = .ok (.iload_n 2, 1) := by decide +kernel
theorem dX0_next_11 : decode cX0_next 11 = .ok (.bipush 16, 2) := by decide +kernel
theorem dX0_next_13 : decode cX0_next 13 = .ok (.if_icmp .ge 19, 3) := by decide +kernel
theorem dX0_next_16 : decode cX0_next 16 = .ok (.aload_n 0, 1) := by decide +kernel
theorem dX0_next_17 : decode cX0_next 17 = .ok (.iload_n 2, 1) := by decide +kernel
theorem dX0_next_18 : decode cX0_next 18 = .ok (.invokevirtual 86, 3) := by decide +kernel
theorem dX0_next_21 : decode cX0_next 21 = .ok (.ifCond .eq 5, 3) := by decide +kernel
theorem dX0_next_24 : decode cX0_next 24 = .ok (.iload_n 2, 1) := by decide +kernel
theorem dX0_next_25 : decode cX0_next 25 = .ok (.ireturn, 1) := by decide +kernel
theorem dX0_next_26 : decode cX0_next 26 = .ok (.iinc 2 1, 3) := by decide +kernel
theorem dX0_next_29 : decode cX0_next 29 = .ok (.goto (-19), 3) := by decide +kernel
theorem dX0_next_32 : decode cX0_next 32 = .ok (.iconst (-1), 1) := by decide +kernel
theorem dX0_next_33 : decode cX0_next 33 = .ok (.ireturn, 1) := by decide +kernel
theorem dX0_count_0 : decode cX0_count 0 = .ok (.iconst 0, 1) := by decide +kernel
theorem dX0_count_1 : decode cX0_count 1 = .ok (.istore_n 1, 1) := by decide +kernel
theorem dX0_count_2 : decode cX0_count 2 = .ok (.iconst 0, 1) := by decide +kernel
theorem dX0_count_3 : decode cX0_count 3 = .ok (.istore_n 2, 1) := by decide +kernel
theorem dX0_count_4 : decode cX0_count 4 = .ok (.iload_n 2, 1) := by decide +kernel
theorem dX0_count_5 : decode cX0_count 5 = .ok (.bipush 16, 2) := by decide +kernel
theorem dX0_count_7 : decode cX0_count 7 = .ok (.if_icmp .ge 25, 3) := by decide +kernel
theorem dX0_count_10 : decode cX0_count 10 = .ok (.iload_n 1, 1) := by decide +kernel
theorem dX0_count_11 : decode cX0_count 11 = .ok (.aload_n 0, 1) := by decide +kernel
theorem dX0_count_12 : decode cX0_count 12 = .ok (.iload_n 2, 1) := by decide +kernel
theorem dX0_count_13 : decode cX0_count 13 = .ok (.invokevirtual 86, 3) := by decide +kernel
theorem dX0_count_16 : decode cX0_count 16 = .ok (.ifCond .eq 7, 3) := by decide +kernel
theorem dX0_count_19 : decode cX0_count 19 = .ok (.iconst 1, 1) := by decide +kernel
theorem dX0_count_20 : decode cX0_count 20 = .ok (.goto 4, 3) := by decide +kernel
theorem dX0_count_23 : decode cX0_count 23 = .ok (.iconst 0, 1) := by decide +kernel
theorem dX0_count_24 : decode cX0_count 24 = .ok (.iadd, 1) := by decide +kernel
theorem dX0_count_25 : decode cX0_count 25 = .ok (.istore_n 1, 1) := by decide +kernel
theorem dX0_count_26 : decode cX0_count 26 = .ok (.iinc 2 1, 3) := by decide +kernel
theorem dX0_count_29 : decode cX0_count 29 = .ok (.goto (-25), 3) := by decide +kernel
theorem dX0_count_32 : decode cX0_count 32 = .ok (.iload_n 1, 1) := by decide +kernel
theorem dX0_count_33 : decode cX0_count 33 = .ok (.ireturn, 1) := by decide +kernel
theorem dX0_safeKeys_0 : decode cX0_safeKeys 0 = .ok (.iconst 0, 1) := by decide +kernel
theorem dX0_safeKeys_1 : decode cX0_safeKeys 1 = .ok (.istore_n 1, 1) := by decide +kernel
theorem dX0_safeKeys_2 : decode cX0_safeKeys 2 = .ok (.iconst 0, 1) := by decide +kernel
theorem dX0_safeKeys_3 : decode cX0_safeKeys 3 = .ok (.istore_n 2, 1) := by decide +kernel
theorem dX0_safeKeys_4 : decode cX0_safeKeys 4 = .ok (.iload_n 2, 1) := by decide +kernel
theorem dX0_safeKeys_5 : decode cX0_safeKeys 5 = .ok (.bipush 16, 2) := by decide +kernel
theorem dX0_safeKeys_7 : decode cX0_safeKeys 7 = .ok (.if_icmp .ge 37, 3) := by decide +kernel
theorem dX0_safeKeys_10 : decode cX0_safeKeys 10 = .ok (.aload_n 0, 1) := by decide +kernel
theorem dX0_safeKeys_11 : decode cX0_safeKeys 11 = .ok (.iload_n 2, 1) := by decide +kernel
theorem dX0_safeKeys_12 : decode cX0_safeKeys 12 = .ok (.aload_n 0, 1) := by decide +kernel
theorem dX0_safeKeys_13 : decode cX0_safeKeys 13 = .ok (.getfield 65, 3) := by decide +kernel
theorem dX0_safeKeys_16 : decode cX0_safeKeys 16 = .ok (.invokevirtual 68, 3) := by decide +kernel
theorem dX0_safeKeys_19 : decode cX0_safeKeys 19 = .ok (.istore_n 3, 1) := by decide +kernel
theorem dX0_safeKeys_20 : decode cX0_safeKeys 20 = .ok (.iload_n 1, 1) := by decide +kernel
theorem dX0_safeKeys_21 : decode cX0_safeKeys 21 = .ok (.aload_n 0, 1) := by decide +kernel
theorem dX0_safeKeys_22 : decode cX0_safeKeys 22 = .ok (.iload_n 3, 1) := by decide +kernel
theorem dX0_safeKeys_23 : decode cX0_safeKeys 23 = .ok (.invokevirtual 72, 3) := by decide +kernel
theorem dX0_safeKeys_26 : decode cX0_safeKeys 26 = .ok (.ifCond .eq 9, 3) := by decide +kernel
theorem dX0_safeKeys_29 : decode cX0_safeKeys 29 = .ok (.iconst 1, 1) := by decide +kernel
theorem dX0_safeKeys_30 : decode cX0_safeKeys 30 = .ok (.iload_n 2, 1) := by decide +kernel
theorem dX0_safeKeys_31 : decode cX0_safeKeys 31 = .ok (.ishl, 1) := by decide +kernel
theorem dX0_safeKeys_32 : decode cX0_safeKeys 32 = .ok (.goto 4, 3) := by decide +kernel
theorem dX0_safeKeys_35 : decode cX0_safeKeys 35 = .ok (.iconst 0, 1) := by decide +kernel
theorem dX0_safeKeys_36 : decode cX0_safeKeys 36 = .ok (.ior, 1) := by decide +kernel
theorem dX0_safeKeys_37 : decode cX0_safeKeys 37 = .ok (.istore_n 1, 1) := by decide +kernel
theorem dX0_safeKeys_38 : decode cX0_safeKeys 38 = .ok (.iinc 2 1, 3) := by decide +kernel
theorem dX0_safeKeys_41 : decode cX0_safeKeys 41 = .ok (.goto (-37), 3) := by decide +kernel
theorem dX0_safeKeys_44 : decode cX0_safeKeys 44 = .ok (.iload_n 1, 1) := by decide +kernel
theorem dX0_safeKeys_45 : decode cX0_safeKeys 45 = .ok (.ireturn, 1) := by decide +kernel
theorem dX0_safeValue_0 : decode cX0_safeValue 0 = .ok (.iload_n 1, 1) := by decide +kernel
theorem dX0_safeValue_1 : decode cX0_safeValue 1 = .ok (.invokestatic 79, 3) := by decide +kernel
theorem dX0_safeValue_4 : decode cX0_safeValue 4 = .ok (.ifCond .ne 5, 3) := by decide +kernel
theorem dX0_safeValue_7 : decode cX0_safeValue 7 = .ok (.iconst 0, 1) := by decide +kernel
theorem dX0_safeValue_8 : decode cX0_safeValue 8 = .ok (.ireturn, 1) := by decide +kernel
theorem dX0_safeValue_9 : decode cX0_safeValue 9 = .ok (.aload_n 0, 1) := by decide +kernel
theorem dX0_safeValue_10 : decode cX0_safeValue 10 = .ok (.iload_n 1, 1) := by decide +kernel
theorem dX0_safeValue_11 : decode cX0_safeValue 11 = .ok (.aload_n 0, 1) := by decide +kernel
theorem dX0_safeValue_12 : decode cX0_safeValue 12 = .ok (.getfield 65, 3) := by decide +kernel
theorem dX0_safeValue_15 : decode cX0_safeValue 15 = .ok (.invokevirtual 68, 3) := by decide +kernel
theorem dX0_safeValue_18 : decode cX0_safeValue 18 = .ok (.istore_n 2, 1) := by decide +kernel
theorem dX0_safeValue_19 : decode cX0_safeValue 19 = .ok (.aload_n 0, 1) := by decide +kernel
theorem dX0_safeValue_20 : decode cX0_safeValue 20 = .ok (.iload_n 2, 1) := by decide +kernel
theorem dX0_safeValue_21 : decode cX0_safeValue 21 = .ok (.invokevirtual 72, 3) := by decide +kernel
theorem dX0_safeValue_24 : decode cX0_safeValue 24 = .ok (.ifCond .eq 12, 3) := by decide +kernel
theorem dX0_safeValue_27 : decode cX0_safeValue 27 = .ok (.aload_n 0, 1) := by decide +kernel
theorem dX0_safeValue_28 : decode cX0_safeValue 28 = .ok (.getfield 17, 3) := by decide +kernel
theorem dX0_safeValue_31 : decode cX0_safeValue 31 = .ok (.iload_n 2, 1) := by decide +kernel
theorem dX0_safeValue_32 : decode cX0_safeValue 32 = .ok (.iaload, 1) := by decide +kernel
theorem dX0_safeValue_33 : decode cX0_safeValue 33 = .ok (.goto 4, 3) := by decide +kernel
theorem dX0_safeValue_36 : decode cX0_safeValue 36 = .ok (.iconst 0, 1) := by decide +kernel
theorem dX0_safeValue_37 : decode cX0_safeValue 37 = .ok (.ireturn, 1) := by decide +kernel
theorem dX0_unsafe_0 : decode cX0_unsafe 0 = .ok (.iconst 0, 1) := by decide +kernel
theorem dX0_unsafe_1 : decode cX0_unsafe 1 = .ok (.istore_n 1, 1) := by decide +kernel
theorem dX0_unsafe_2 : decode cX0_unsafe 2 = .ok (.iconst 0, 1) := by decide +kernel
theorem dX0_unsafe_3 : decode cX0_unsafe 3 = .ok (.istore_n 2, 1) := by decide +kernel
theorem dX0_unsafe_4 : decode cX0_unsafe 4 = .ok (.iload_n 2, 1) := by decide +kernel
theorem dX0_unsafe_5 : decode cX0_unsafe 5 = .ok (.bipush 16, 2) := by decide +kernel
theorem dX0_unsafe_7 : decode cX0_unsafe 7 = .ok (.if_icmp .ge 27, 3) := by decide +kernel
theorem dX0_unsafe_10 : decode cX0_unsafe 10 = .ok (.iload_n 1, 1) := by decide +kernel
theorem dX0_unsafe_11 : decode cX0_unsafe 11 = .ok (.aload_n 0, 1) := by decide +kernel
theorem dX0_unsafe_12 : decode cX0_unsafe 12 = .ok (.iload_n 2, 1) := by decide +kernel
theorem dX0_unsafe_13 : decode cX0_unsafe 13 = .ok (.invokevirtual 93, 3) := by decide +kernel
theorem dX0_unsafe_16 : decode cX0_unsafe 16 = .ok (.ifCond .eq 9, 3) := by decide +kernel
theorem dX0_unsafe_19 : decode cX0_unsafe 19 = .ok (.iconst 1, 1) := by decide +kernel
theorem dX0_unsafe_20 : decode cX0_unsafe 20 = .ok (.iload_n 2, 1) := by decide +kernel
theorem dX0_unsafe_21 : decode cX0_unsafe 21 = .ok (.ishl, 1) := by decide +kernel
theorem dX0_unsafe_22 : decode cX0_unsafe 22 = .ok (.goto 4, 3) := by decide +kernel
theorem dX0_unsafe_25 : decode cX0_unsafe 25 = .ok (.iconst 0, 1) := by decide +kernel
theorem dX0_unsafe_26 : decode cX0_unsafe 26 = .ok (.ior, 1) := by decide +kernel
theorem dX0_unsafe_27 : decode cX0_unsafe 27 = .ok (.istore_n 1, 1) := by decide +kernel
theorem dX0_unsafe_28 : decode cX0_unsafe 28 = .ok (.iinc 2 1, 3) := by decide +kernel
theorem dX0_unsafe_31 : decode cX0_unsafe 31 = .ok (.goto (-27), 3) := by decide +kernel
theorem dX0_unsafe_34 : decode cX0_unsafe 34 = .ok (.iload_n 1, 1) := by decide +kernel
theorem dX0_unsafe_35 : decode cX0_unsafe 35 = .ok (.ireturn, 1) := by decide +kernel
theorem dX0_differs_0 : decode cX0_differs 0 = .ok (.aload_n 0, 1) := by decide +kernel
theorem dX0_differs_1 : decode cX0_differs 1 = .ok (.iload_n 1, 1) := by decide +kernel
theorem dX0_differs_2 : decode cX0_differs 2 = .ok (.aload_n 0, 1) := by decide +kernel
theorem dX0_differs_3 : decode cX0_differs 3 = .ok (.getfield 65, 3) := by decide +kernel
theorem dX0_differs_6 : decode cX0_differs 6 = .ok (.invokevirtual 68, 3) := by decide +kernel
theorem dX0_differs_9 : decode cX0_differs 9 = .ok (.istore_n 2, 1) := by decide +kernel
theorem dX0_differs_10 : decode cX0_differs 10 = .ok (.aload_n 0, 1) := by decide +kernel
theorem dX0_differs_11 : decode cX0_differs 11 = .ok (.getfield 24, 3) := by decide +kernel
theorem dX0_differs_14 : decode cX0_differs 14 = .ok (.iload_n 1, 1) := by decide +kernel
theorem dX0_differs_15 : decode cX0_differs 15 = .ok (.baload, 1) := by decide +kernel
theorem dX0_differs_16 : decode cX0_differs 16 = .ok (.istore_n 3, 1) := by decide +kernel
theorem dX0_differs_17 : decode cX0_differs 17 = .ok (.aload_n 0, 1) := by decide +kernel
theorem dX0_differs_18 : decode cX0_differs 18 = .ok (.iload_n 2, 1) := by decide +kernel
theorem dX0_differs_19 : decode cX0_differs 19 = .ok (.invokevirtual 72, 3) := by decide +kernel
theorem dX0_differs_22 : decode cX0_differs 22 = .ok (.aload_n 0, 1) := by decide +kernel
theorem dX0_differs_23 : decode cX0_differs 23 = .ok (.iload_n 3, 1) := by decide +kernel
theorem dX0_differs_24 : decode cX0_differs 24 = .ok (.invokevirtual 72, 3) := by decide +kernel
theorem dX0_differs_27 : decode cX0_differs 27 = .ok (.if_icmp .eq 5, 3) := by decide +kernel
theorem dX0_differs_30 : decode cX0_differs 30 = .ok (.iconst 1, 1) := by decide +kernel
theorem dX0_differs_31 : decode cX0_differs 31 = .ok (.ireturn, 1) := by decide +kernel
theorem dX0_differs_32 : decode cX0_differs 32 = .ok (.aload_n 0, 1) := by decide +kernel
theorem dX0_differs_33 : decode cX0_differs 33 = .ok (.iload_n 3, 1) := by decide +kernel
theorem dX0_differs_34 : decode cX0_differs 34 = .ok (.invokevirtual 72, 3) := by decide +kernel
theorem dX0_differs_37 : decode cX0_differs 37 = .ok (.ifCond .eq 22, 3) := by decide +kernel
theorem dX0_differs_40 : decode cX0_differs 40 = .ok (.aload_n 0, 1) := by decide +kernel
theorem dX0_differs_41 : decode cX0_differs 41 = .ok (.getfield 17, 3) := by decide +kernel
theorem dX0_differs_44 : decode cX0_differs 44 = .ok (.iload_n 3, 1) := by decide +kernel
theorem dX0_differs_45 : decode cX0_differs 45 = .ok (.iaload, 1) := by decide +kernel
theorem dX0_differs_46 : decode cX0_differs 46 = .ok (.aload_n 0, 1) := by decide +kernel
theorem dX0_differs_47 : decode cX0_differs 47 = .ok (.getfield 17, 3) := by decide +kernel
theorem dX0_differs_50 : decode cX0_differs 50 = .ok (.iload_n 2, 1) := by decide +kernel
theorem dX0_differs_51 : decode cX0_differs 51 = .ok (.iaload, 1) := by decide +kernel
theorem dX0_differs_52 : decode cX0_differs 52 = .ok (.if_icmp .eq 7, 3) := by decide +kernel
theorem dX0_differs_55 : decode cX0_differs 55 = .ok (.iconst 1, 1) := by decide +kernel
theorem dX0_differs_56 : decode cX0_differs 56 = .ok (.goto 4, 3) := by decide +kernel
theorem dX0_differs_59 : decode cX0_differs 59 = .ok (.iconst 0, 1) := by decide +kernel
theorem dX0_differs_60 : decode cX0_differs 60 = .ok (.ireturn, 1) := by decide +kernel
theorem dX0_pending_0 : decode cX0_pending 0 = .ok (.aload_n 0, 1) := by decide +kernel
theorem dX0_pending_1 : decode cX0_pending 1 = .ok (.getfield 59, 3) := by decide +kernel
theorem dX0_pending_4 : decode cX0_pending 4 = .ok (.ireturn, 1) := by decide +kernel
end
section
/-! LogStoreModel -/
set_option maxRecDepth 100000
def RX1 : String := "LogStoreModel"
def TX1 : u_T := fun k => match k with
  | 0 => ("LogStoreModel", "keys", "I", false)
  | 1 => ("LogStoreModel", "baseKeys", "I", false)
  | 2 => ("LogStoreModel", "keptKeys", "I", false)
  | 3 => ("LogStoreModel", "values", "[I", false)
  | 4 => ("LogStoreModel", "baseValues", "[I", false)
  | 5 => ("LogStoreModel", "keptValues", "[I", false)
  | 6 => ("LogStoreModel", "open", "Z", false)
  | _ => ("LogStoreModel", "changes", "I", false)
def tyX1 : Nat → FieldType := fun k => match k with
  | 0 => .int
  | 1 => .int
  | 2 => .int
  | 3 => .array .int
  | 4 => .array .int
  | 5 => .array .int
  | 6 => .boolean
  | _ => .int
abbrev wsX10 : List Cond := u_ws RX1 TX1 8
theorem nmX1 : ∀ a, a < 8 → ∀ b, b < 8 → a ≠ b → (TX1 a).2.1 ≠ (TX1 b).2.1 := by decide +kernel
theorem tyX1_ok : ∀ k, k < 8 → parseFieldDescriptor (TX1 k).2.2.1 = some (tyX1 k) := by decide +kernel
abbrev cX1_init : ByteArray := prog_3_method_1_code
def yX1_init : MethodName := ⟨RX1, "<init>", "()V"⟩
abbrev cX1_begin : ByteArray := prog_3_method_5_code
def yX1_begin : MethodName := ⟨RX1, "begin", "()I"⟩
abbrev cX1_put : ByteArray := prog_3_method_6_code
def yX1_put : MethodName := ⟨RX1, "put", "(II)Z"⟩
abbrev cX1_key : ByteArray := prog_3_method_2_code
def yX1_key : MethodName := ⟨RX1, "key", "(I)Z"⟩
abbrev cX1_change : ByteArray := prog_3_method_4_code
def yX1_change : MethodName := ⟨RX1, "change", "()V"⟩
abbrev cX1_settle : ByteArray := prog_3_method_3_code
def yX1_settle : MethodName := ⟨RX1, "settle", "()V"⟩
abbrev cX1_remove : ByteArray := prog_3_method_7_code
def yX1_remove : MethodName := ⟨RX1, "remove", "(I)Z"⟩
abbrev cX1_has : ByteArray := prog_3_method_14_code
def yX1_has : MethodName := ⟨RX1, "has", "(I)Z"⟩
abbrev cX1_commit : ByteArray := prog_3_method_8_code
def yX1_commit : MethodName := ⟨RX1, "commit", "()I"⟩
abbrev cX1_abort : ByteArray := prog_3_method_10_code
def yX1_abort : MethodName := ⟨RX1, "abort", "()I"⟩
abbrev cX1_back : ByteArray := prog_3_method_9_code
def yX1_back : MethodName := ⟨RX1, "back", "()V"⟩
abbrev cX1_sync : ByteArray := prog_3_method_11_code
def yX1_sync : MethodName := ⟨RX1, "sync", "()V"⟩
abbrev cX1_clean : ByteArray := prog_3_method_12_code
def yX1_clean : MethodName := ⟨RX1, "clean", "()V"⟩
abbrev cX1_crash : ByteArray := prog_3_method_13_code
def yX1_crash : MethodName := ⟨RX1, "crash", "()V"⟩
abbrev cX1_get : ByteArray := prog_3_method_15_code
def yX1_get : MethodName := ⟨RX1, "get", "(I)I"⟩
abbrev cX1_next : ByteArray := prog_3_method_16_code
def yX1_next : MethodName := ⟨RX1, "next", "(I)I"⟩
abbrev cX1_count : ByteArray := prog_3_method_17_code
def yX1_count : MethodName := ⟨RX1, "count", "()I"⟩
abbrev cX1_safeKeys : ByteArray := prog_3_method_18_code
def yX1_safeKeys : MethodName := ⟨RX1, "safeKeys", "()I"⟩
abbrev cX1_safeValue : ByteArray := prog_3_method_19_code
def yX1_safeValue : MethodName := ⟨RX1, "safeValue", "(I)I"⟩
abbrev cX1_unsafe : ByteArray := prog_3_method_20_code
def yX1_unsafe : MethodName := site_363
abbrev cX1_pending : ByteArray := prog_3_method_21_code
def yX1_pending : MethodName := ⟨RX1, "pending", "()I"⟩
theorem q13 : (Jvm.Cond.initialized "LogStoreModel") ∈ lw_all := lw_g (lw_at lw_m1 2 rfl) rfl
theorem q174 : (Jvm.Cond.instantiable "LogStoreModel" (8 : Nat)) ∈ lw_all := lw_g (lw_at lw_m1 163 rfl) rfl
theorem q176 : (Jvm.Cond.instanceMethod ({ cls := "LogStoreModel", name := "<init>", desc := "()V" } : Jvm.MethodName)) ∈ lw_all := lw_g (lw_at lw_m1 165 rfl) rfl
theorem q177 : (Jvm.Cond.code ({ cls := "LogStoreModel", name := "<init>", desc := "()V" } : Jvm.MethodName) prog_3_method_1_code (1 : Nat) (Option.none : Option Jvm.ClassFile.FieldType)) ∈ lw_all := lw_g (lw_at lw_m1 166 rfl) rfl
theorem q178 : (Jvm.Cond.methodLink "LogStoreModel" (1 : Nat) ({ cls := "java/lang/Object", name := "<init>", desc := "()V" } : Jvm.MethodName)) ∈ lw_all := lw_g (lw_at lw_m1 167 rfl) rfl
theorem q179 : (Jvm.Cond.fieldLink "LogStoreModel" (19 : Nat) "LogStoreModel" "keys" "I") ∈ lw_all := lw_g (lw_at lw_m1 168 rfl) rfl
theorem q180 : (Jvm.Cond.fieldLink "LogStoreModel" (23 : Nat) "LogStoreModel" "baseKeys" "I") ∈ lw_all := lw_g (lw_at lw_m1 169 rfl) rfl
theorem q181 : (Jvm.Cond.fieldLink "LogStoreModel" (49 : Nat) "LogStoreModel" "keptKeys" "I") ∈ lw_all := lw_g (lw_at lw_m1 170 rfl) rfl
theorem q182 : (Jvm.Cond.fieldLink "LogStoreModel" (7 : Nat) "LogStoreModel" "values" "[I") ∈ lw_all := lw_g (lw_at lw_m1 171 rfl) rfl
theorem q183 : (Jvm.Cond.fieldLink "LogStoreModel" (13 : Nat) "LogStoreModel" "baseValues" "[I") ∈ lw_all := lw_g (lw_at lw_m1 172 rfl) rfl
theorem q184 : (Jvm.Cond.fieldLink "LogStoreModel" (16 : Nat) "LogStoreModel" "keptValues" "[I") ∈ lw_all := lw_g (lw_at lw_m1 173 rfl) rfl
theorem q185 : (Jvm.Cond.fieldLink "LogStoreModel" (26 : Nat) "LogStoreModel" "open" "Z") ∈ lw_all := lw_g (lw_at lw_m1 174 rfl) rfl
theorem q186 : (Jvm.Cond.fieldLink "LogStoreModel" (30 : Nat) "LogStoreModel" "changes" "I") ∈ lw_all := lw_g (lw_at lw_m1 175 rfl) rfl
theorem q187 : (Jvm.Cond.lays "LogStoreModel" "LogStoreModel" "keys" "I") ∈ lw_all := lw_g (lw_at lw_m1 176 rfl) rfl
theorem q188 : (Jvm.Cond.soleField "LogStoreModel" "keys") ∈ lw_all := lw_g (lw_at lw_m1 177 rfl) rfl
theorem q189 : (Jvm.Cond.lays "LogStoreModel" "LogStoreModel" "baseKeys" "I") ∈ lw_all := lw_g (lw_at lw_m1 178 rfl) rfl
theorem q190 : (Jvm.Cond.soleField "LogStoreModel" "baseKeys") ∈ lw_all := lw_g (lw_at lw_m1 179 rfl) rfl
theorem q191 : (Jvm.Cond.lays "LogStoreModel" "LogStoreModel" "keptKeys" "I") ∈ lw_all := lw_g (lw_at lw_m1 180 rfl) rfl
theorem q192 : (Jvm.Cond.soleField "LogStoreModel" "keptKeys") ∈ lw_all := lw_g (lw_at lw_m1 181 rfl) rfl
theorem q193 : (Jvm.Cond.lays "LogStoreModel" "LogStoreModel" "values" "[I") ∈ lw_all := lw_g (lw_at lw_m1 182 rfl) rfl
theorem q194 : (Jvm.Cond.soleField "LogStoreModel" "values") ∈ lw_all := lw_g (lw_at lw_m1 183 rfl) rfl
theorem q195 : (Jvm.Cond.lays "LogStoreModel" "LogStoreModel" "baseValues" "[I") ∈ lw_all := lw_g (lw_at lw_m1 184 rfl) rfl
theorem q196 : (Jvm.Cond.soleField "LogStoreModel" "baseValues") ∈ lw_all := lw_g (lw_at lw_m1 185 rfl) rfl
theorem q197 : (Jvm.Cond.lays "LogStoreModel" "LogStoreModel" "keptValues" "[I") ∈ lw_all := lw_g (lw_at lw_m1 186 rfl) rfl
theorem q198 : (Jvm.Cond.soleField "LogStoreModel" "keptValues") ∈ lw_all := lw_g (lw_at lw_m1 187 rfl) rfl
theorem q199 : (Jvm.Cond.lays "LogStoreModel" "LogStoreModel" "open" "Z") ∈ lw_all := lw_g (lw_at lw_m1 188 rfl) rfl
theorem q200 : (Jvm.Cond.soleField "LogStoreModel" "open") ∈ lw_all := lw_g (lw_at lw_m1 189 rfl) rfl
theorem q201 : (Jvm.Cond.lays "LogStoreModel" "LogStoreModel" "changes" "I") ∈ lw_all := lw_g (lw_at lw_m1 190 rfl) rfl
theorem q202 : (Jvm.Cond.soleField "LogStoreModel" "changes") ∈ lw_all := lw_g (lw_at lw_m1 191 rfl) rfl
theorem q203 : (Jvm.Cond.superclass "LogStoreModel" "java/lang/Object") ∈ lw_all := lw_g (lw_at lw_m1 192 rfl) rfl
theorem q205 : (Jvm.Cond.instanceMethod ({ cls := "LogStoreModel", name := "begin", desc := "()I" } : Jvm.MethodName)) ∈ lw_all := lw_g (lw_at lw_m1 194 rfl) rfl
theorem q206 : (Jvm.Cond.selects "LogStoreModel" ({ cls := "LogStoreModel", name := "begin", desc := "()I" } : Jvm.MethodName) ({ cls := "LogStoreModel", name := "begin", desc := "()I" } : Jvm.MethodName)) ∈ lw_all := lw_g (lw_at lw_m1 195 rfl) rfl
theorem q207 : (Jvm.Cond.code ({ cls := "LogStoreModel", name := "begin", desc := "()I" } : Jvm.MethodName) prog_3_method_5_code (1 : Nat) (Option.some Jvm.ClassFile.FieldType.int)) ∈ lw_all := lw_g (lw_at lw_m1 196 rfl) rfl
theorem q209 : (Jvm.Cond.instanceMethod ({ cls := "LogStoreModel", name := "put", desc := "(II)Z" } : Jvm.MethodName)) ∈ lw_all := lw_g (lw_at lw_m1 198 rfl) rfl
theorem q210 : (Jvm.Cond.selects "LogStoreModel" ({ cls := "LogStoreModel", name := "put", desc := "(II)Z" } : Jvm.MethodName) ({ cls := "LogStoreModel", name := "put", desc := "(II)Z" } : Jvm.MethodName)) ∈ lw_all := lw_g (lw_at lw_m1 199 rfl) rfl
theorem q211 : (Jvm.Cond.code ({ cls := "LogStoreModel", name := "put", desc := "(II)Z" } : Jvm.MethodName) prog_3_method_6_code (3 : Nat) (Option.some Jvm.ClassFile.FieldType.boolean)) ∈ lw_all := lw_g (lw_at lw_m1 200 rfl) rfl
theorem q212 : (Jvm.Cond.methodLink "LogStoreModel" (36 : Nat) ({ cls := "LogStoreModel", name := "key", desc := "(I)Z" } : Jvm.MethodName)) ∈ lw_all := lw_g (lw_at lw_m1 201 rfl) rfl
theorem q213 : (Jvm.Cond.privateMethod ({ cls := "LogStoreModel", name := "key", desc := "(I)Z" } : Jvm.MethodName)) ∈ lw_tbl := lw_at lw_m1 202 rfl
theorem q214 : (Jvm.Cond.instanceMethod ({ cls := "LogStoreModel", name := "key", desc := "(I)Z" } : Jvm.MethodName)) ∈ lw_all := lw_g (lw_at lw_m1 203 rfl) rfl
theorem q215 : (Jvm.Cond.code ({ cls := "LogStoreModel", name := "key", desc := "(I)Z" } : Jvm.MethodName) prog_3_method_2_code (2 : Nat) (Option.some Jvm.ClassFile.FieldType.boolean)) ∈ lw_all := lw_g (lw_at lw_m1 204 rfl) rfl
theorem q216 : (Jvm.Cond.methodLink "LogStoreModel" (40 : Nat) ({ cls := "LogStoreModel", name := "change", desc := "()V" } : Jvm.MethodName)) ∈ lw_all := lw_g (lw_at lw_m1 205 rfl) rfl
theorem q217 : (Jvm.Cond.privateMethod ({ cls := "LogStoreModel", name := "change", desc := "()V" } : Jvm.MethodName)) ∈ lw_tbl := lw_at lw_m1 206 rfl
theorem q218 : (Jvm.Cond.instanceMethod ({ cls := "LogStoreModel", name := "change", desc := "()V" } : Jvm.MethodName)) ∈ lw_all := lw_g (lw_at lw_m1 207 rfl) rfl
theorem q219 : (Jvm.Cond.code ({ cls := "LogStoreModel", name := "change", desc := "()V" } : Jvm.MethodName) prog_3_method_4_code (1 : Nat) (Option.none : Option Jvm.ClassFile.FieldType)) ∈ lw_all := lw_g (lw_at lw_m1 208 rfl) rfl
theorem q220 : (Jvm.Cond.methodLink "LogStoreModel" (33 : Nat) ({ cls := "LogStoreModel", name := "settle", desc := "()V" } : Jvm.MethodName)) ∈ lw_all := lw_g (lw_at lw_m1 209 rfl) rfl
theorem q221 : (Jvm.Cond.privateMethod ({ cls := "LogStoreModel", name := "settle", desc := "()V" } : Jvm.MethodName)) ∈ lw_tbl := lw_at lw_m1 210 rfl
theorem q222 : (Jvm.Cond.instanceMethod ({ cls := "LogStoreModel", name := "settle", desc := "()V" } : Jvm.MethodName)) ∈ lw_all := lw_g (lw_at lw_m1 211 rfl) rfl
theorem q223 : (Jvm.Cond.code ({ cls := "LogStoreModel", name := "settle", desc := "()V" } : Jvm.MethodName) prog_3_method_3_code (2 : Nat) (Option.none : Option Jvm.ClassFile.FieldType)) ∈ lw_all := lw_g (lw_at lw_m1 212 rfl) rfl
theorem q225 : (Jvm.Cond.instanceMethod ({ cls := "LogStoreModel", name := "remove", desc := "(I)Z" } : Jvm.MethodName)) ∈ lw_all := lw_g (lw_at lw_m1 214 rfl) rfl
theorem q226 : (Jvm.Cond.selects "LogStoreModel" ({ cls := "LogStoreModel", name := "remove", desc := "(I)Z" } : Jvm.MethodName) ({ cls := "LogStoreModel", name := "remove", desc := "(I)Z" } : Jvm.MethodName)) ∈ lw_all := lw_g (lw_at lw_m1 215 rfl) rfl
theorem q227 : (Jvm.Cond.code ({ cls := "LogStoreModel", name := "remove", desc := "(I)Z" } : Jvm.MethodName) prog_3_method_7_code (2 : Nat) (Option.some Jvm.ClassFile.FieldType.boolean)) ∈ lw_all := lw_g (lw_at lw_m1 216 rfl) rfl
theorem q228 : (Jvm.Cond.methodLink "LogStoreModel" (43 : Nat) ({ cls := "LogStoreModel", name := "has", desc := "(I)Z" } : Jvm.MethodName)) ∈ lw_all := lw_g (lw_at lw_m1 217 rfl) rfl
theorem q229 : (Jvm.Cond.instanceMethod ({ cls := "LogStoreModel", name := "has", desc := "(I)Z" } : Jvm.MethodName)) ∈ lw_all := lw_g (lw_at lw_m1 218 rfl) rfl
theorem q230 : (Jvm.Cond.selects "LogStoreModel" ({ cls := "LogStoreModel", name := "has", desc := "(I)Z" } : Jvm.MethodName) ({ cls := "LogStoreModel", name := "has", desc := "(I)Z" } : Jvm.MethodName)) ∈ lw_all := lw_g (lw_at lw_m1 219 rfl) rfl
theorem q231 : (Jvm.Cond.code ({ cls := "LogStoreModel", name := "has", desc := "(I)Z" } : Jvm.MethodName) prog_3_method_14_code (2 : Nat) (Option.some Jvm.ClassFile.FieldType.boolean)) ∈ lw_all := lw_g (lw_at lw_m1 220 rfl) rfl
theorem q233 : (Jvm.Cond.instanceMethod ({ cls := "LogStoreModel", name := "commit", desc := "()I" } : Jvm.MethodName)) ∈ lw_all := lw_g (lw_at lw_m1 222 rfl) rfl
theorem q234 : (Jvm.Cond.selects "LogStoreModel" ({ cls := "LogStoreModel", name := "commit", desc := "()I" } : Jvm.MethodName) ({ cls := "LogStoreModel", name := "commit", desc := "()I" } : Jvm.MethodName)) ∈ lw_all := lw_g (lw_at lw_m1 223 rfl) rfl
theorem q235 : (Jvm.Cond.code ({ cls := "LogStoreModel", name := "commit", desc := "()I" } : Jvm.MethodName) prog_3_method_8_code (1 : Nat) (Option.some Jvm.ClassFile.FieldType.int)) ∈ lw_all := lw_g (lw_at lw_m1 224 rfl) rfl
theorem q237 : (Jvm.Cond.instanceMethod ({ cls := "LogStoreModel", name := "abort", desc := "()I" } : Jvm.MethodName)) ∈ lw_all := lw_g (lw_at lw_m1 226 rfl) rfl
theorem q238 : (Jvm.Cond.selects "LogStoreModel" ({ cls := "LogStoreModel", name := "abort", desc := "()I" } : Jvm.MethodName) ({ cls := "LogStoreModel", name := "abort", desc := "()I" } : Jvm.MethodName)) ∈ lw_all := lw_g (lw_at lw_m1 227 rfl) rfl
theorem q239 : (Jvm.Cond.code ({ cls := "LogStoreModel", name := "abort", desc := "()I" } : Jvm.MethodName) prog_3_method_10_code (1 : Nat) (Option.some Jvm.ClassFile.FieldType.int)) ∈ lw_all := lw_g (lw_at lw_m1 228 rfl) rfl
theorem q240 : (Jvm.Cond.methodLink "LogStoreModel" (46 : Nat) ({ cls := "LogStoreModel", name := "back", desc := "()V" } : Jvm.MethodName)) ∈ lw_all := lw_g (lw_at lw_m1 229 rfl) rfl
theorem q241 : (Jvm.Cond.privateMethod ({ cls := "LogStoreModel", name := "back", desc := "()V" } : Jvm.MethodName)) ∈ lw_tbl := lw_at lw_m1 230 rfl
theorem q242 : (Jvm.Cond.instanceMethod ({ cls := "LogStoreModel", name := "back", desc := "()V" } : Jvm.MethodName)) ∈ lw_all := lw_g (lw_at lw_m1 231 rfl) rfl
theorem q243 : (Jvm.Cond.code ({ cls := "LogStoreModel", name := "back", desc := "()V" } : Jvm.MethodName) prog_3_method_9_code (2 : Nat) (Option.none : Option Jvm.ClassFile.FieldType)) ∈ lw_all := lw_g (lw_at lw_m1 232 rfl) rfl
theorem q245 : (Jvm.Cond.instanceMethod ({ cls := "LogStoreModel", name := "sync", desc := "()V" } : Jvm.MethodName)) ∈ lw_all := lw_g (lw_at lw_m1 234 rfl) rfl
theorem q246 : (Jvm.Cond.selects "LogStoreModel" ({ cls := "LogStoreModel", name := "sync", desc := "()V" } : Jvm.MethodName) ({ cls := "LogStoreModel", name := "sync", desc := "()V" } : Jvm.MethodName)) ∈ lw_all := lw_g (lw_at lw_m1 235 rfl) rfl
theorem q247 : (Jvm.Cond.code ({ cls := "LogStoreModel", name := "sync", desc := "()V" } : Jvm.MethodName) prog_3_method_11_code (2 : Nat) (Option.none : Option Jvm.ClassFile.FieldType)) ∈ lw_all := lw_g (lw_at lw_m1 236 rfl) rfl
theorem q249 : (Jvm.Cond.instanceMethod ({ cls := "LogStoreModel", name := "clean", desc := "()V" } : Jvm.MethodName)) ∈ lw_all := lw_g (lw_at lw_m1 238 rfl) rfl
theorem q250 : (Jvm.Cond.selects "LogStoreModel" ({ cls := "LogStoreModel", name := "clean", desc := "()V" } : Jvm.MethodName) ({ cls := "LogStoreModel", name := "clean", desc := "()V" } : Jvm.MethodName)) ∈ lw_all := lw_g (lw_at lw_m1 239 rfl) rfl
theorem q251 : (Jvm.Cond.code ({ cls := "LogStoreModel", name := "clean", desc := "()V" } : Jvm.MethodName) prog_3_method_12_code (1 : Nat) (Option.none : Option Jvm.ClassFile.FieldType)) ∈ lw_all := lw_g (lw_at lw_m2 0 rfl) rfl
theorem q253 : (Jvm.Cond.instanceMethod ({ cls := "LogStoreModel", name := "crash", desc := "()V" } : Jvm.MethodName)) ∈ lw_all := lw_g (lw_at lw_m2 2 rfl) rfl
theorem q254 : (Jvm.Cond.selects "LogStoreModel" ({ cls := "LogStoreModel", name := "crash", desc := "()V" } : Jvm.MethodName) ({ cls := "LogStoreModel", name := "crash", desc := "()V" } : Jvm.MethodName)) ∈ lw_all := lw_g (lw_at lw_m2 3 rfl) rfl
theorem q255 : (Jvm.Cond.code ({ cls := "LogStoreModel", name := "crash", desc := "()V" } : Jvm.MethodName) prog_3_method_13_code (2 : Nat) (Option.none : Option Jvm.ClassFile.FieldType)) ∈ lw_all := lw_g (lw_at lw_m2 4 rfl) rfl
theorem q258 : (Jvm.Cond.instanceMethod ({ cls := "LogStoreModel", name := "get", desc := "(I)I" } : Jvm.MethodName)) ∈ lw_all := lw_g (lw_at lw_m2 7 rfl) rfl
theorem q259 : (Jvm.Cond.selects "LogStoreModel" ({ cls := "LogStoreModel", name := "get", desc := "(I)I" } : Jvm.MethodName) ({ cls := "LogStoreModel", name := "get", desc := "(I)I" } : Jvm.MethodName)) ∈ lw_all := lw_g (lw_at lw_m2 8 rfl) rfl
theorem q260 : (Jvm.Cond.code ({ cls := "LogStoreModel", name := "get", desc := "(I)I" } : Jvm.MethodName) prog_3_method_15_code (2 : Nat) (Option.some Jvm.ClassFile.FieldType.int)) ∈ lw_all := lw_g (lw_at lw_m2 9 rfl) rfl
theorem q262 : (Jvm.Cond.instanceMethod ({ cls := "LogStoreModel", name := "next", desc := "(I)I" } : Jvm.MethodName)) ∈ lw_all := lw_g (lw_at lw_m2 11 rfl) rfl
theorem q263 : (Jvm.Cond.selects "LogStoreModel" ({ cls := "LogStoreModel", name := "next", desc := "(I)I" } : Jvm.MethodName) ({ cls := "LogStoreModel", name := "next", desc := "(I)I" } : Jvm.MethodName)) ∈ lw_all := lw_g (lw_at lw_m2 12 rfl) rfl
theorem q264 : (Jvm.Cond.code ({ cls := "LogStoreModel", name := "next", desc := "(I)I" } : Jvm.MethodName) prog_3_method_16_code (3 : Nat) (Option.some Jvm.ClassFile.FieldType.int)) ∈ lw_all := lw_g (lw_at lw_m2 13 rfl) rfl
theorem q266 : (Jvm.Cond.instanceMethod ({ cls := "LogStoreModel", name := "count", desc := "()I" } : Jvm.MethodName)) ∈ lw_all := lw_g (lw_at lw_m2 15 rfl) rfl
theorem q267 : (Jvm.Cond.selects "LogStoreModel" ({ cls := "LogStoreModel", name := "count", desc := "()I" } : Jvm.MethodName) ({ cls := "LogStoreModel", name := "count", desc := "()I" } : Jvm.MethodName)) ∈ lw_all := lw_g (lw_at lw_m2 16 rfl) rfl
theorem q268 : (Jvm.Cond.code ({ cls := "LogStoreModel", name := "count", desc := "()I" } : Jvm.MethodName) prog_3_method_17_code (3 : Nat) (Option.some Jvm.ClassFile.FieldType.int)) ∈ lw_all := lw_g (lw_at lw_m2 17 rfl) rfl
theorem q270 : (Jvm.Cond.instanceMethod ({ cls := "LogStoreModel", name := "safeKeys", desc := "()I" } : Jvm.MethodName)) ∈ lw_all := lw_g (lw_at lw_m2 19 rfl) rfl
theorem q271 : (Jvm.Cond.selects "LogStoreModel" ({ cls := "LogStoreModel", name := "safeKeys", desc := "()I" } : Jvm.MethodName) ({ cls := "LogStoreModel", name := "safeKeys", desc := "()I" } : Jvm.MethodName)) ∈ lw_all := lw_g (lw_at lw_m2 20 rfl) rfl
theorem q272 : (Jvm.Cond.code ({ cls := "LogStoreModel", name := "safeKeys", desc := "()I" } : Jvm.MethodName) prog_3_method_18_code (1 : Nat) (Option.some Jvm.ClassFile.FieldType.int)) ∈ lw_all := lw_g (lw_at lw_m2 21 rfl) rfl
theorem q274 : (Jvm.Cond.instanceMethod ({ cls := "LogStoreModel", name := "safeValue", desc := "(I)I" } : Jvm.MethodName)) ∈ lw_all := lw_g (lw_at lw_m2 23 rfl) rfl
theorem q275 : (Jvm.Cond.selects "LogStoreModel" ({ cls := "LogStoreModel", name := "safeValue", desc := "(I)I" } : Jvm.MethodName) ({ cls := "LogStoreModel", name := "safeValue", desc := "(I)I" } : Jvm.MethodName)) ∈ lw_all := lw_g (lw_at lw_m2 24 rfl) rfl
theorem q276 : (Jvm.Cond.code ({ cls := "LogStoreModel", name := "safeValue", desc := "(I)I" } : Jvm.MethodName) prog_3_method_19_code (2 : Nat) (Option.some Jvm.ClassFile.FieldType.int)) ∈ lw_all := lw_g (lw_at lw_m2 25 rfl) rfl
theorem q278 : (Jvm.Cond.instanceMethod site_363) ∈ lw_all := lw_g (lw_at lw_m2 27 rfl) rfl
theorem q279 : (Jvm.Cond.selects "LogStoreModel" site_363 site_363) ∈ lw_all := lw_g (lw_at lw_m2 28 rfl) rfl
theorem q280 : (Jvm.Cond.code site_363 prog_3_method_20_code (4 : Nat) (Option.some Jvm.ClassFile.FieldType.int)) ∈ lw_all := lw_g (lw_at lw_m2 29 rfl) rfl
theorem q282 : (Jvm.Cond.instanceMethod ({ cls := "LogStoreModel", name := "pending", desc := "()I" } : Jvm.MethodName)) ∈ lw_all := lw_g (lw_at lw_m2 31 rfl) rfl
theorem q283 : (Jvm.Cond.selects "LogStoreModel" ({ cls := "LogStoreModel", name := "pending", desc := "()I" } : Jvm.MethodName) ({ cls := "LogStoreModel", name := "pending", desc := "()I" } : Jvm.MethodName)) ∈ lw_all := lw_g (lw_at lw_m2 32 rfl) rfl
theorem q284 : (Jvm.Cond.code ({ cls := "LogStoreModel", name := "pending", desc := "()I" } : Jvm.MethodName) prog_3_method_21_code (1 : Nat) (Option.some Jvm.ClassFile.FieldType.int)) ∈ lw_all := lw_g (lw_at lw_m2 33 rfl) rfl
theorem in_X1 : ∀ w ∈ wsX10, w ∈ lw_all := lw_in wsX10 [187, 189, 191, 193, 195, 197, 199, 201] (by decide +kernel) (by decide +kernel)

theorem dX1_init_0 : decode cX1_init 0 = .ok (.aload_n 0, 1) := by decide +kernel
theorem dX1_init_1 : decode cX1_init 1 = .ok (.invokespecial 1, 3) := by decide +kernel
theorem dX1_init_4 : decode cX1_init 4 = .ok (.aload_n 0, 1) := by decide +kernel
theorem dX1_init_5 : decode cX1_init 5 = .ok (.bipush 16, 2) := by decide +kernel
theorem dX1_init_7 : decode cX1_init 7 = .ok (.newarray .int, 2) := by decide +kernel
theorem dX1_init_9 : decode cX1_init 9 = .ok (.putfield 7, 3) := by decide +kernel
theorem dX1_init_12 : decode cX1_init 12 = .ok (.aload_n 0, 1) := by decide +kernel
theorem dX1_init_13 : decode cX1_init 13 = .ok (.bipush 16, 2) := by decide +kernel
theorem dX1_init_15 : decode cX1_init 15 = .ok (.newarray .int, 2) := by decide +kernel
theorem dX1_init_17 : decode cX1_init 17 = .ok (.putfield 13, 3) := by decide +kernel
theorem dX1_init_20 : decode cX1_init 20 = .ok (.aload_n 0, 1) := by decide +kernel
theorem dX1_init_21 : decode cX1_init 21 = .ok (.bipush 16, 2) := by decide +kernel
theorem dX1_init_23 : decode cX1_init 23 = .ok (.newarray .int, 2) := by decide +kernel
theorem dX1_init_25 : decode cX1_init 25 = .ok (.putfield 16, 3) := by decide +kernel
theorem dX1_init_28 : decode cX1_init 28 = .ok (.return_, 1) := by decide +kernel
theorem dX1_begin_0 : decode cX1_begin 0 = .ok (.aload_n 0, 1) := by decide +kernel
theorem dX1_begin_1 : decode cX1_begin 1 = .ok (.getfield 26, 3) := by decide +kernel
theorem dX1_begin_4 : decode cX1_begin 4 = .ok (.ifCond .eq 6, 3) := by decide +kernel
theorem dX1_begin_7 : decode cX1_begin 7 = .ok (.bipush (-2), 2) := by decide +kernel
theorem dX1_begin_9 : decode cX1_begin 9 = .ok (.ireturn, 1) := by decide +kernel
theorem dX1_begin_10 : decode cX1_begin 10 = .ok (.aload_n 0, 1) := by decide +kernel
theorem dX1_begin_11 : decode cX1_begin 11 = .ok (.iconst 1, 1) := by decide +kernel
theorem dX1_begin_12 : decode cX1_begin 12 = .ok (.putfield 26, 3) := by decide +kernel
theorem dX1_begin_15 : decode cX1_begin 15 = .ok (.aload_n 0, 1) := by decide +kernel
theorem dX1_begin_16 : decode cX1_begin 16 = .ok (.iconst 0, 1) := by decide +kernel
theorem dX1_begin_17 : decode cX1_begin 17 = .ok (.putfield 30, 3) := by decide +kernel
theorem dX1_begin_20 : decode cX1_begin 20 = .ok (.iconst 0, 1) := by decide +kernel
theorem dX1_begin_21 : decode cX1_begin 21 = .ok (.ireturn, 1) := by decide +kernel
theorem dX1_put_0 : decode cX1_put 0 = .ok (.aload_n 0, 1) := by decide +kernel
theorem dX1_put_1 : decode cX1_put 1 = .ok (.iload_n 1, 1) := by decide +kernel
theorem dX1_put_2 : decode cX1_put 2 = .ok (.invokevirtual 36, 3) := by decide +kernel
theorem dX1_put_5 : decode cX1_put 5 = .ok (.ifCond .ne 5, 3) := by decide +kernel
theorem dX1_put_8 : decode cX1_put 8 = .ok (.iconst 0, 1) := by decide +kernel
theorem dX1_put_9 : decode cX1_put 9 = .ok (.ireturn, 1) := by decide +kernel
theorem dX1_put_10 : decode cX1_put 10 = .ok (.aload_n 0, 1) := by decide +kernel
theorem dX1_put_11 : decode cX1_put 11 = .ok (.aload_n 0, 1) := by decide +kernel
theorem dX1_put_12 : decode cX1_put 12 = .ok (.getfield 19, 3) := by decide +kernel
theorem dX1_put_15 : decode cX1_put 15 = .ok (.iconst 1, 1) := by decide +kernel
theorem dX1_put_16 : decode cX1_put 16 = .ok (.iload_n 1, 1) := by decide +kernel
theorem dX1_put_17 : decode cX1_put 17 = .ok (.ishl, 1) := by decide +kernel
theorem dX1_put_18 : decode cX1_put 18 = .ok (.ior, 1) := by decide +kernel
theorem dX1_put_19 : decode cX1_put 19 = .ok (.putfield 19, 3) := by decide +kernel
theorem dX1_put_22 : decode cX1_put 22 = .ok (.aload_n 0, 1) := by decide +kernel
theorem dX1_put_23 : decode cX1_put 23 = .ok (.getfield 7, 3) := by decide +kernel
theorem dX1_put_26 : decode cX1_put 26 = .ok (.iload_n 1, 1) := by decide +kernel
theorem dX1_put_27 : decode cX1_put 27 = .ok (.iload_n 2, 1) := by decide +kernel
theorem dX1_put_28 : decode cX1_put 28 = .ok (.iastore, 1) := by decide +kernel
theorem dX1_put_29 : decode cX1_put 29 = .ok (.aload_n 0, 1) := by decide +kernel
theorem dX1_put_30 : decode cX1_put 30 = .ok (.invokevirtual 40, 3) := by decide +kernel
theorem dX1_put_33 : decode cX1_put 33 = .ok (.iconst 1, 1) := by decide +kernel
theorem dX1_put_34 : decode cX1_put 34 = .ok (.ireturn, 1) := by decide +kernel
theorem dX1_key_0 : decode cX1_key 0 = .ok (.iload_n 1, 1) := by decide +kernel
theorem dX1_key_1 : decode cX1_key 1 = .ok (.ifCond .lt 13, 3) := by decide +kernel
theorem dX1_key_4 : decode cX1_key 4 = .ok (.iload_n 1, 1) := by decide +kernel
theorem dX1_key_5 : decode cX1_key 5 = .ok (.bipush 15, 2) := by decide +kernel
theorem dX1_key_7 : decode cX1_key 7 = .ok (.if_icmp .gt 7, 3) := by decide +kernel
theorem dX1_key_10 : decode cX1_key 10 = .ok (.iconst 1, 1) := by decide +kernel
theorem dX1_key_11 : decode cX1_key 11 = .ok (.goto 4, 3) := by decide +kernel
theorem dX1_key_14 : decode cX1_key 14 = .ok (.iconst 0, 1) := by decide +kernel
theorem dX1_key_15 : decode cX1_key 15 = .ok (.ireturn, 1) := by decide +kernel
theorem dX1_change_0 : decode cX1_change 0 = .ok (.aload_n 0, 1) := by decide +kernel
theorem dX1_change_1 : decode cX1_change 1 = .ok (.getfield 26, 3) := by decide +kernel
theorem dX1_change_4 : decode cX1_change 4 = .ok (.ifCond .eq 16, 3) := by decide +kernel
theorem dX1_change_7 : decode cX1_change 7 = .ok (.aload_n 0, 1) := by decide +kernel
theorem dX1_change_8 : decode cX1_change 8 = .ok (.dup, 1) := by decide +kernel
theorem dX1_change_9 : decode cX1_change 9 = .ok (.getfield 30, 3) := by decide +kernel
theorem dX1_change_12 : decode cX1_change 12 = .ok (.iconst 1, 1) := by decide +kernel
theorem dX1_change_13 : decode cX1_change 13 = .ok (.iadd, 1) := by decide +kernel
theorem dX1_change_14 : decode cX1_change 14 = .ok (.putfield 30, 3) := by decide +kernel
theorem dX1_change_17 : decode cX1_change 17 = .ok (.goto 7, 3) := by decide +kernel
theorem dX1_change_20 : decode cX1_change 20 = .ok (.aload_n 0, 1) := by decide +kernel
theorem dX1_change_21 : decode cX1_change 21 = .ok (.invokevirtual 33, 3) := by decide +kernel
theorem dX1_change_24 : decode cX1_change 24 = .ok (.return_, 1) := by decide +kernel
theorem dX1_settle_0 : decode cX1_settle 0 = .ok (.aload_n 0, 1) := by decide +kernel
theorem dX1_settle_1 : decode cX1_settle 1 = .ok (.aload_n 0, 1) := by decide +kernel
theorem dX1_settle_2 : decode cX1_settle 2 = .ok (.getfield 19, 3) := by decide +kernel
theorem dX1_settle_5 : decode cX1_settle 5 = .ok (.putfield 23, 3) := by decide +kernel
theorem dX1_settle_8 : decode cX1_settle 8 = .ok (.iconst 0, 1) := by decide +kernel
theorem dX1_settle_9 : decode cX1_settle 9 = .ok (.istore_n 1, 1) := by decide +kernel
theorem dX1_settle_10 : decode cX1_settle 10 = .ok (.iload_n 1, 1) := by decide +kernel
theorem dX1_settle_11 : decode cX1_settle 11 = .ok (.bipush 16, 2) := by decide +kernel
theorem dX1_settle_13 : decode cX1_settle 13 = .ok (.if_icmp .ge 21, 3) := by decide +kernel
theorem dX1_settle_16 : decode cX1_settle 16 = .ok (.aload_n 0, 1) := by decide +kernel
theorem dX1_settle_17 : decode cX1_settle 17 = .ok (.getfield 13, 3) := by decide +kernel
theorem dX1_settle_20 : decode cX1_settle 20 = .ok (.iload_n 1, 1) := by decide +kernel
theorem dX1_settle_21 : decode cX1_settle 21 = .ok (.aload_n 0, 1) := by decide +kernel
theorem dX1_settle_22 : decode cX1_settle 22 = .ok (.getfield 7, 3) := by decide +kernel
theorem dX1_settle_25 : decode cX1_settle 25 = .ok (.iload_n 1, 1) := by decide +kernel
theorem dX1_settle_26 : decode cX1_settle 26 = .ok (.iaload, 1) := by decide +kernel
theorem dX1_settle_27 : decode cX1_settle 27 = .ok (.iastore, 1) := by decide +kernel
theorem dX1_settle_28 : decode cX1_settle 28 = .ok (.iinc 1 1, 3) := by decide +kernel
theorem dX1_settle_31 : decode cX1_settle 31 = .ok (.goto (-21), 3) := by decide +kernel
theorem dX1_settle_34 : decode cX1_settle 34 = .ok (.return_, 1) := by decide +kernel
theorem dX1_remove_0 : decode cX1_remove 0 = .ok (.aload_n 0, 1) := by decide +kernel
theorem dX1_remove_1 : decode cX1_remove 1 = .ok (.iload_n 1, 1) := by decide +kernel
theorem dX1_remove_2 : decode cX1_remove 2 = .ok (.invokevirtual 43, 3) := by decide +kernel
theorem dX1_remove_5 : decode cX1_remove 5 = .ok (.ifCond .ne 5, 3) := by decide +kernel
theorem dX1_remove_8 : decode cX1_remove 8 = .ok (.iconst 0, 1) := by decide +kernel
theorem dX1_remove_9 : decode cX1_remove 9 = .ok (.ireturn, 1) := by decide +kernel
theorem dX1_remove_10 : decode cX1_remove 10 = .ok (.aload_n 0, 1) := by decide +kernel
theorem dX1_remove_11 : decode cX1_remove 11 = .ok (.aload_n 0, 1) := by decide +kernel
theorem dX1_remove_12 : decode cX1_remove 12 = .ok (.getfield 19, 3) := by decide +kernel
theorem dX1_remove_15 : decode cX1_remove 15 = .ok (.iconst 1, 1) := by decide +kernel
theorem dX1_remove_16 : decode cX1_remove 16 = .ok (.iload_n 1, 1) := by decide +kernel
theorem dX1_remove_17 : decode cX1_remove 17 = .ok (.ishl, 1) := by decide +kernel
theorem dX1_remove_18 : decode cX1_remove 18 = .ok (.iconst (-1), 1) := by decide +kernel
theorem dX1_remove_19 : decode cX1_remove 19 = .ok (.ixor, 1) := by decide +kernel
theorem dX1_remove_20 : decode cX1_remove 20 = .ok (.iand, 1) := by decide +kernel
theorem dX1_remove_21 : decode cX1_remove 21 = .ok (.putfield 19, 3) := by decide +kernel
theorem dX1_remove_24 : decode cX1_remove 24 = .ok (.aload_n 0, 1) := by decide +kernel
theorem dX1_remove_25 : decode cX1_remove 25 = .ok (.invokevirtual 40, 3) := by decide +kernel
theorem dX1_remove_28 : decode cX1_remove 28 = .ok (.iconst 1, 1) := by decide +kernel
theorem dX1_remove_29 : decode cX1_remove 29 = .ok (.ireturn, 1) := by decide +kernel
theorem dX1_has_0 : decode cX1_has 0 = .ok (.aload_n 0, 1) := by decide +kernel
theorem dX1_has_1 : decode cX1_has 1 = .ok (.iload_n 1, 1) := by decide +kernel
theorem dX1_has_2 : decode cX1_has 2 = .ok (.invokevirtual 36, 3) := by decide +kernel
theorem dX1_has_5 : decode cX1_has 5 = .ok (.ifCond .eq 19, 3) := by decide +kernel
theorem dX1_has_8 : decode cX1_has 8 = .ok (.aload_n 0, 1) := by decide +kernel
theorem dX1_has_9 : decode cX1_has 9 = .ok (.getfield 19, 3) := by decide +kernel
theorem dX1_has_12 : decode cX1_has 12 = .ok (.iload_n 1, 1) := by decide +kernel
theorem dX1_has_13 : decode cX1_has 13 = .ok (.ishr, 1) := by decide +kernel
theorem dX1_has_14 : decode cX1_has 14 = .ok (.iconst 1, 1) := by decide +kernel
theorem dX1_has_15 : decode cX1_has 15 = .ok (.iand, 1) := by decide +kernel
theorem dX1_has_16 : decode cX1_has 16 = .ok (.iconst 1, 1) := by decide +kernel
theorem dX1_has_17 : decode cX1_has 17 = .ok (.if_icmp .ne 7, 3) := by decide +kernel
theorem dX1_has_20 : decode cX1_has 20 = .ok (.iconst 1, 1) := by decide +kernel
theorem dX1_has_21 : decode cX1_has 21 = .ok (.goto 4, 3) := by decide +kernel
theorem dX1_has_24 : decode cX1_has 24 = .ok (.iconst 0, 1) := by decide +kernel
theorem dX1_has_25 : decode cX1_has 25 = .ok (.ireturn, 1) := by decide +kernel
theorem dX1_commit_0 : decode cX1_commit 0 = .ok (.aload_n 0, 1) := by decide +kernel
theorem dX1_commit_1 : decode cX1_commit 1 = .ok (.getfield 26, 3) := by decide +kernel
theorem dX1_commit_4 : decode cX1_commit 4 = .ok (.ifCond .ne 5, 3) := by decide +kernel
theorem dX1_commit_7 : decode cX1_commit 7 = .ok (.iconst (-1), 1) := by decide +kernel
theorem dX1_commit_8 : decode cX1_commit 8 = .ok (.ireturn, 1) := by decide +kernel
theorem dX1_commit_9 : decode cX1_commit 9 = .ok (.aload_n 0, 1) := by decide +kernel
theorem dX1_commit_10 : decode cX1_commit 10 = .ok (.iconst 0, 1) := by decide +kernel
theorem dX1_commit_11 : decode cX1_commit 11 = .ok (.putfield 26, 3) := by decide +kernel
theorem dX1_commit_14 : decode cX1_commit 14 = .ok (.aload_n 0, 1) := by decide +kernel
theorem dX1_commit_15 : decode cX1_commit 15 = .ok (.invokevirtual 33, 3) := by decide +kernel
theorem dX1_commit_18 : decode cX1_commit 18 = .ok (.iconst 0, 1) := by decide +kernel
theorem dX1_commit_19 : decode cX1_commit 19 = .ok (.ireturn, 1) := by decide +kernel
theorem dX1_abort_0 : decode cX1_abort 0 = .ok (.aload_n 0, 1) := by decide +kernel
theorem dX1_abort_1 : decode cX1_abort 1 = .ok (.getfield 26, 3) := by decide +kernel
theorem dX1_abort_4 : decode cX1_abort 4 = .ok (.ifCond .ne 5, 3) := by decide +kernel
theorem dX1_abort_7 : decode cX1_abort 7 = .ok (.iconst (-1), 1) := by decide +kernel
theorem dX1_abort_8 : decode cX1_abort 8 = .ok (.ireturn, 1) := by decide +kernel
theorem dX1_abort_9 : decode cX1_abort 9 = .ok (.aload_n 0, 1) := by decide +kernel
theorem dX1_abort_10 : decode cX1_abort 10 = .ok (.iconst 0, 1) := by decide +kernel
theorem dX1_abort_11 : decode cX1_abort 11 = .ok (.putfield 26, 3) := by decide +kernel
theorem dX1_abort_14 : decode cX1_abort 14 = .ok (.aload_n 0, 1) := by decide +kernel
theorem dX1_abort_15 : decode cX1_abort 15 = .ok (.invokevirtual 46, 3) := by decide +kernel
theorem dX1_abort_18 : decode cX1_abort 18 = .ok (.iconst 0, 1) := by decide +kernel
theorem dX1_abort_19 : decode cX1_abort 19 = .ok (.ireturn, 1) := by decide +kernel
theorem dX1_back_0 : decode cX1_back 0 = .ok (.aload_n 0, 1) := by decide +kernel
theorem dX1_back_1 : decode cX1_back 1 = .ok (.aload_n 0, 1) := by decide +kernel
theorem dX1_back_2 : decode cX1_back 2 = .ok (.getfield 23, 3) := by decide +kernel
theorem dX1_back_5 : decode cX1_back 5 = .ok (.putfield 19, 3) := by decide +kernel
theorem dX1_back_8 : decode cX1_back 8 = .ok (.iconst 0, 1) := by decide +kernel
theorem dX1_back_9 : decode cX1_back 9 = .ok (.istore_n 1, 1) := by decide +kernel
theorem dX1_back_10 : decode cX1_back 10 = .ok (.iload_n 1, 1) := by decide +kernel
theorem dX1_back_11 : decode cX1_back 11 = .ok (.bipush 16, 2) := by decide +kernel
theorem dX1_back_13 : decode cX1_back 13 = .ok (.if_icmp .ge 21, 3) := by decide +kernel
theorem dX1_back_16 : decode cX1_back 16 = .ok (.aload_n 0, 1) := by decide +kernel
theorem dX1_back_17 : decode cX1_back 17 = .ok (.getfield 7, 3) := by decide +kernel
theorem dX1_back_20 : decode cX1_back 20 = .ok (.iload_n 1, 1) := by decide +kernel
theorem dX1_back_21 : decode cX1_back 21 = .ok (.aload_n 0, 1) := by decide +kernel
theorem dX1_back_22 : decode cX1_back 22 = .ok (.getfield 13, 3) := by decide +kernel
theorem dX1_back_25 : decode cX1_back 25 = .ok (.iload_n 1, 1) := by decide +kernel
theorem dX1_back_26 : decode cX1_back 26 = .ok (.iaload, 1) := by decide +kernel
theorem dX1_back_27 : decode cX1_back 27 = .ok (.iastore, 1) := by decide +kernel
theorem dX1_back_28 : decode cX1_back 28 = .ok (.iinc 1 1, 3) := by decide +kernel
theorem dX1_back_31 : decode cX1_back 31 = .ok (.goto (-21), 3) := by decide +kernel
theorem dX1_back_34 : decode cX1_back 34 = .ok (.return_, 1) := by decide +kernel
theorem dX1_sync_0 : decode cX1_sync 0 = .ok (.aload_n 0, 1) := by decide +kernel
theorem dX1_sync_1 : decode cX1_sync 1 = .ok (.aload_n 0, 1) := by decide +kernel
theorem dX1_sync_2 : decode cX1_sync 2 = .ok (.getfield 23, 3) := by decide +kernel
theorem dX1_sync_5 : decode cX1_sync 5 = .ok (.putfield 49, 3) := by decide +kernel
theorem dX1_sync_8 : decode cX1_sync 8 = .ok (.iconst 0, 1) := by decide +kernel
theorem dX1_sync_9 : decode cX1_sync 9 = .ok (.istore_n 1, 1) := by decide +kernel
theorem dX1_sync_10 : decode cX1_sync 10 = .ok (.iload_n 1, 1) := by decide +kernel
theorem dX1_sync_11 : decode cX1_sync 11 = .ok (.bipush 16, 2) := by decide +kernel
theorem dX1_sync_13 : decode cX1_sync 13 = .ok (.if_icmp .ge 21, 3) := by decide +kernel
theorem dX1_sync_16 : decode cX1_sync 16 = .ok (.aload_n 0, 1) := by decide +kernel
theorem dX1_sync_17 : decode cX1_sync 17 = .ok (.getfield 16, 3) := by decide +kernel
theorem dX1_sync_20 : decode cX1_sync 20 = .ok (.iload_n 1, 1) := by decide +kernel
theorem dX1_sync_21 : decode cX1_sync 21 = .ok (.aload_n 0, 1) := by decide +kernel
theorem dX1_sync_22 : decode cX1_sync 22 = .ok (.getfield 13, 3) := by decide +kernel
theorem dX1_sync_25 : decode cX1_sync 25 = .ok (.iload_n 1, 1) := by decide +kernel
theorem dX1_sync_26 : decode cX1_sync 26 = .ok (.iaload, 1) := by decide +kernel
theorem dX1_sync_27 : decode cX1_sync 27 = .ok (.iastore, 1) := by decide +kernel
theorem dX1_sync_28 : decode cX1_sync 28 = .ok (.iinc 1 1, 3) := by decide +kernel
theorem dX1_sync_31 : decode cX1_sync 31 = .ok (.goto (-21), 3) := by decide +kernel
theorem dX1_sync_34 : decode cX1_sync 34 = .ok (.return_, 1) := by decide +kernel
theorem dX1_clean_0 : decode cX1_clean 0 = .ok (.return_, 1) := by decide +kernel
theorem dX1_crash_0 : decode cX1_crash 0 = .ok (.aload_n 0, 1) := by decide +kernel
theorem dX1_crash_1 : decode cX1_crash 1 = .ok (.iconst 0, 1) := by decide +kernel
theorem dX1_crash_2 : decode cX1_crash 2 = .ok (.putfield 26, 3) := by decide +kernel
theorem dX1_crash_5 : decode cX1_crash 5 = .ok (.aload_n 0, 1) := by decide +kernel
theorem dX1_crash_6 : decode cX1_crash 6 = .ok (.aload_n 0, 1) := by decide +kernel
theorem dX1_crash_7 : decode cX1_crash 7 = .ok (.getfield 49, 3) := by decide +kernel
theorem dX1_crash_10 : decode cX1_crash 10 = .ok (.putfield 23, 3) := by decide +kernel
theorem dX1_crash_13 : decode cX1_crash 13 = .ok (.iconst 0, 1) := by decide +kernel
theorem dX1_crash_14 : decode cX1_crash 14 = .ok (.istore_n 1, 1) := by decide +kernel
theorem dX1_crash_15 : decode cX1_crash 15 = .ok (.iload_n 1, 1) := by decide +kernel
theorem dX1_crash_16 : decode cX1_crash 16 = .ok (.bipush 16, 2) := by decide +kernel
theorem dX1_crash_18 : decode cX1_crash 18 = .ok (.if_icmp .ge 21, 3) := by decide +kernel
theorem dX1_crash_21 : decode cX1_crash 21 = .ok (.aload_n 0, 1) := by decide +kernel
theorem dX1_crash_22 : decode cX1_crash 22 = .ok (.getfield 13, 3) := by decide +kernel
theorem dX1_crash_25 : decode cX1_crash 25 = .ok (.iload_n 1, 1) := by decide +kernel
theorem dX1_crash_26 : decode cX1_crash 26 = .ok (.aload_n 0, 1) := by decide +kernel
theorem dX1_crash_27 : decode cX1_crash 27 = .ok (.getfield 16, 3) := by decide +kernel
theorem dX1_crash_30 : decode cX1_crash 30 = .ok (.iload_n 1, 1) := by decide +kernel
theorem dX1_crash_31 : decode cX1_crash 31 = .ok (.iaload, 1) := by decide +kernel
theorem dX1_crash_32 : decode cX1_crash 32 = .ok (.iastore, 1) := by decide +kernel
theorem dX1_crash_33 : decode cX1_crash 33 = .ok (.iinc 1 1, 3) := by decide +kernel
theorem dX1_crash_36 : decode cX1_crash 36 = .ok (.goto (-21), 3) := by decide +kernel
theorem dX1_crash_39 : decode cX1_crash 39 = .ok (.aload_n 0, 1) := by decide +kernel
theorem dX1_crash_40 : decode cX1_crash 40 = .ok (.invokevirtual 46, 3) := by decide +kernel
theorem dX1_crash_43 : decode cX1_crash 43 = .ok (.return_, 1) := by decide +kernel
theorem dX1_get_0 : decode cX1_get 0 = .ok (.aload_n 0, 1) := by decide +kernel
theorem dX1_get_1 : decode cX1_get 1 = .ok (.iload_n 1, 1) := by decide +kernel
theorem dX1_get_2 : decode cX1_get 2 = .ok (.invokevirtual 43, 3) := by decide +kernel
theorem dX1_get_5 : decode cX1_get 5 = .ok (.ifCond .eq 12, 3) := by decide +kernel
theorem dX1_get_8 : decode cX1_get 8 = .ok (.aload_n 0, 1) := by decide +kernel
theorem dX1_get_9 : decode cX1_get 9 = .ok (.getfield 7, 3) := by decide +kernel
theorem dX1_get_12 : decode cX1_get 12 = .ok (.iload_n 1, 1) := by decide +kernel
theorem dX1_get_13 : decode cX1_get 13 = .ok (.iaload, 1) := by decide +kernel
theorem dX1_get_14 : decode cX1_get 14 = .ok (.goto 4, 3) := by decide +kernel
theorem dX1_get_17 : decode cX1_get 17 = .ok (.iconst 0, 1) := by decide +kernel
theorem dX1_get_18 : decode cX1_get 18 = .ok (.ireturn, 1) := by decide +kernel
theorem dX1_next_0 : decode cX1_next 0 = .ok (.iconst 0, 1) := by decide +kernel
theorem dX1_next_1 : decode cX1_next 1 = .ok (.istore_n 2, 1) := by decide +kernel
theorem dX1_next_2 : decode cX1_next 2 = .ok (.iload_n 2, 1) := by decide +kernel
theorem dX1_next_3 : decode cX1_next 3 = .ok (.bipush 16, 2) := by decide +kernel
theorem dX1_next_5 : decode cX1_next 5 = .ok (.if_icmp .ge 28, 3) := by decide +kernel
theorem dX1_next_8 : decode cX1_next 8 = .ok (.iload_n 2, 1) := by decide +kernel
theorem dX1_next_9 : decode cX1_next 9 = .ok (.iload_n 1, 1) := by decide +kernel
theorem dX1_next_10 : decode cX1_next 10 = .ok (.if_icmp .lt 17, 3) := by decide +kernel
theorem dX1_next_13 : decode cX1_next 13 = .ok (.aload_n 0, 1) := by decide +kernel
theorem dX1_next_14 : decode cX1_next 14 = .ok (.getfield 19, 3) := by decide +kernel
theorem dX1_next_17 : decode cX1_next 17 = .ok (.iload_n 2, 1) := by decide +kernel
theorem dX1_next_18 : decode cX1_next 18 = .ok (.ishr, 1) := by decide +kernel
theorem dX1_next_19 : decode cX1_next 19 = .ok (.iconst 1, 1) := by decide +kernel
theorem dX1_next_20 : decode cX1_next 20 = .ok (.iand, 1) := by decide +kernel
theorem dX1_next_21 : decode cX1_next 21 = .ok (.iconst 1, 1) := by decide +kernel
theorem dX1_next_22 : decode cX1_next 22 = .ok (.if_icmp .ne 5, 3) := by decide +kernel
theorem dX1_next_25 : decode cX1_next 25 = .ok (.iload_n 2, 1) := by decide +kernel
theorem dX1_next_26 : decode cX1_next 26 = .ok (.ireturn, 1) := by decide +kernel
theorem dX1_next_27 : decode cX1_next 27 = .ok (.iinc 2 1, 3) := by decide +kernel
theorem dX1_next_30 : decode cX1_next 30 = .ok (.goto (-28), 3) := by decide +kernel
theorem dX1_next_33 : decode cX1_next 33 = .ok (.iconst (-1), 1) := by decide +kernel
theorem dX1_next_34 : decode cX1_next 34 = .ok (.ireturn, 1) := by decide +kernel
theorem dX1_count_0 : decode cX1_count 0 = .ok (.iconst 0, 1) := by decide +kernel
theorem dX1_count_1 : decode cX1_count 1 = .ok (.istore_n 1, 1) := by decide +kernel
theorem dX1_count_2 : decode cX1_count 2 = .ok (.iconst 0, 1) := by decide +kernel
theorem dX1_count_3 : decode cX1_count 3 = .ok (.istore_n 2, 1) := by decide +kernel
theorem dX1_count_4 : decode cX1_count 4 = .ok (.iload_n 2, 1) := by decide +kernel
theorem dX1_count_5 : decode cX1_count 5 = .ok (.bipush 16, 2) := by decide +kernel
theorem dX1_count_7 : decode cX1_count 7 = .ok (.if_icmp .ge 20, 3) := by decide +kernel
theorem dX1_count_10 : decode cX1_count 10 = .ok (.iload_n 1, 1) := by decide +kernel
theorem dX1_count_11 : decode cX1_count 11 = .ok (.aload_n 0, 1) := by decide +kernel
theorem dX1_count_12 : decode cX1_count 12 = .ok (.getfield 19, 3) := by decide +kernel
theorem dX1_count_15 : decode cX1_count 15 = .ok (.iload_n 2, 1) := by decide +kernel
theorem dX1_count_16 : decode cX1_count 16 = .ok (.ishr, 1) := by decide +kernel
theorem dX1_count_17 : decode cX1_count 17 = .ok (.iconst 1, 1) := by decide +kernel
theorem dX1_count_18 : decode cX1_count 18 = .ok (.iand, 1) := by decide +kernel
theorem dX1_count_19 : decode cX1_count 19 = .ok (.iadd, 1) := by decide +kernel
theorem dX1_count_20 : decode cX1_count 20 = .ok (.istore_n 1, 1) := by decide +kernel
theorem dX1_count_21 : decode cX1_count 21 = .ok (.iinc 2 1, 3) := by decide +kernel
theorem dX1_count_24 : decode cX1_count 24 = .ok (.goto (-20), 3) := by decide +kernel
theorem dX1_count_27 : decode cX1_count 27 = .ok (.iload_n 1, 1) := by decide +kernel
theorem dX1_count_28 : decode cX1_count 28 = .ok (.ireturn, 1) := by decide +kernel
theorem dX1_safeKeys_0 : decode cX1_safeKeys 0 = .ok (.aload_n 0, 1) := by decide +kernel
theorem dX1_safeKeys_1 : decode cX1_safeKeys 1 = .ok (.getfield 49, 3) := by decide +kernel
theorem dX1_safeKeys_4 : decode cX1_safeKeys 4 = .ok (.ireturn, 1) := by decide +kernel
theorem dX1_safeValue_0 : decode cX1_safeValue 0 = .ok (.aload_n 0, 1) := by decide +kernel
theorem dX1_safeValue_1 : decode cX1_safeValue 1 = .ok (.iload_n 1, 1) := by decide +kernel
theorem dX1_safeValue_2 : decode cX1_safeValue 2 = .ok (.invokevirtual 36, 3) := by decide +kernel
theorem dX1_safeValue_5 : decode cX1_safeValue 5 = .ok (.ifCond .eq 24, 3) := by decide +kernel
theorem dX1_safeValue_8 : decode cX1_safeValue 8 = .ok (.aload_n 0, 1) := by decide +kernel
theorem dX1_safeValue_9 : decode cX1_safeValue 9 = .ok (.getfield 49, 3) := by decide +kernel
theorem dX1_safeValue_12 : decode cX1_safeValue 12 = .ok (.iload_n 1, 1) := by decide +kernel
theorem dX1_safeValue_13 : decode cX1_safeValue 13 = .ok (.ishr, 1) := by decide +kernel
theorem dX1_safeValue_14 : decode cX1_safeValue 14 = .ok (.iconst 1, 1) := by decide +kernel
theorem dX1_safeValue_15 : decode cX1_safeValue 15 = .ok (.iand, 1) := by decide +kernel
theorem dX1_safeValue_16 : decode cX1_safeValue 16 = .ok (.iconst 1, 1) := by decide +kernel
theorem dX1_safeValue_17 : decode cX1_safeValue 17 = .ok (.if_icmp .ne 12, 3) := by decide +kernel
theorem dX1_safeValue_20 : decode cX1_safeValue 20 = .ok (.aload_n 0, 1) := by decide +kernel
theorem dX1_safeValue_21 : decode cX1_safeValue 21 = .ok (.getfield 16, 3) := by decide +kernel
theorem dX1_safeValue_24 : decode cX1_safeValue 24 = .ok (.iload_n 1, 1) := by decide +kernel
theorem dX1_safeValue_25 : decode cX1_safeValue 25 = .ok (.iaload, 1) := by decide +kernel
theorem dX1_safeValue_26 : decode cX1_safeValue 26 = .ok (.goto 4, 3) := by decide +kernel
theorem dX1_safeValue_29 : decode cX1_safeValue 29 = .ok (.iconst 0, 1) := by decide +kernel
theorem dX1_safeValue_30 : decode cX1_safeValue 30 = .ok (.ireturn, 1) := by decide +kernel
theorem dX1_unsafe_0 : decode cX1_unsafe 0 = .ok (.aload_n 0, 1) := by decide +kernel
theorem dX1_unsafe_1 : decode cX1_unsafe 1 = .ok (.getfield 19, 3) := by decide +kernel
theorem dX1_unsafe_4 : decode cX1_unsafe 4 = .ok (.aload_n 0, 1) := by decide +kernel
theorem dX1_unsafe_5 : decode cX1_unsafe 5 = .ok (.getfield 49, 3) := by decide +kernel
theorem dX1_unsafe_8 : decode cX1_unsafe 8 = .ok (.ixor, 1) := by decide +kernel
theorem dX1_unsafe_9 : decode cX1_unsafe 9 = .ok (.istore_n 1, 1) := by decide +kernel
theorem dX1_unsafe_10 : decode cX1_unsafe 10 = .ok (.iconst 0, 1) := by decide +kernel
theorem dX1_unsafe_11 : decode cX1_unsafe 11 = .ok (.istore_n 2, 1) := by decide +kernel
theorem dX1_unsafe_12 : decode cX1_unsafe 12 = .ok (.iload_n 2, 1) := by decide +kernel
theorem dX1_unsafe_13 : decode cX1_unsafe 13 = .ok (.bipush 16, 2) := by decide +kernel
theorem dX1_unsafe_15 : decode cX1_unsafe 15 = .ok (.if_icmp .ge 68, 3) := by decide +kernel
theorem dX1_unsafe_18 : decode cX1_unsafe 18 = .ok (.aload_n 0, 1) := by decide +kernel
theorem dX1_unsafe_19 : decode cX1_unsafe 19 = .ok (.getfield 19, 3) := by decide +kernel
theorem dX1_unsafe_22 : decode cX1_unsafe 22 = .ok (.iload_n 2, 1) := by decide +kernel
theorem dX1_unsafe_23 : decode cX1_unsafe 23 = .ok (.ishr, 1) := by decide +kernel
theorem dX1_unsafe_24 : decode cX1_unsafe 24 = .ok (.iconst 1, 1) := by decide +kernel
theorem dX1_unsafe_25 : decode cX1_unsafe 25 = .ok (.iand, 1) := by decide +kernel
theorem dX1_unsafe_26 : decode cX1_unsafe 26 = .ok (.iconst 1, 1) := by decide +kernel
theorem dX1_unsafe_27 : decode cX1_unsafe 27 = .ok (.if_icmp .ne 19, 3) := by decide +kernel
theorem dX1_unsafe_30 : decode cX1_unsafe 30 = .ok (.aload_n 0, 1) := by decide +kernel
theorem dX1_unsafe_31 : decode cX1_unsafe 31 = .ok (.getfield 49, 3) := by decide +kernel
theorem dX1_unsafe_34 : decode cX1_unsafe 34 = .ok (.iload_n 2, 1) := by decide +kernel
theorem dX1_unsafe_35 : decode cX1_unsafe 35 = .ok (.ishr, 1) := by decide +kernel
theorem dX1_unsafe_36 : decode cX1_unsafe 36 = .ok (.iconst 1, 1) := by decide +kernel
theorem dX1_unsafe_37 : decode cX1_unsafe 37 = .ok (.iand, 1) := by decide +kernel
theorem dX1_unsafe_38 : decode cX1_unsafe 38 = .ok (.iconst 1, 1) := by decide +kernel
theorem dX1_unsafe_39 : decode cX1_unsafe 39 = .ok (.if_icmp .ne 7, 3) := by decide +kernel
theorem dX1_unsafe_42 : decode cX1_unsafe 42 = .ok (.iconst 1, 1) := by decide +kernel
theorem dX1_unsafe_43 : decode cX1_unsafe 43 = .ok (.goto 4, 3) := by decide +kernel
theorem dX1_unsafe_46 : decode cX1_unsafe 46 = .ok (.iconst 0, 1) := by decide +kernel
theorem dX1_unsafe_47 : decode cX1_unsafe 47 = .ok (.istore_n 3, 1) := by decide +kernel
theorem dX1_unsafe_48 : decode cX1_unsafe 48 = .ok (.iload_n 3, 1) := by decide +kernel
theorem dX1_unsafe_49 : decode cX1_unsafe 49 = .ok (.ifCond .eq 26, 3) := by decide +kernel
theorem dX1_unsafe_52 : decode cX1_unsafe 52 = .ok (.aload_n 0, 1) := by decide +kernel
theorem dX1_unsafe_53 : decode cX1_unsafe 53 = .ok (.getfield 7, 3) := by decide +kernel
theorem dX1_unsafe_56 : decode cX1_unsafe 56 = .ok (.iload_n 2, 1) := by decide +kernel
theorem dX1_unsafe_57 : decode cX1_unsafe 57 = .ok (.iaload, 1) := by decide +kernel
theorem dX1_unsafe_58 : decode cX1_unsafe 58 = .ok (.aload_n 0, 1) := by decide +kernel
theorem dX1_unsafe_59 : decode cX1_unsafe 59 = .ok (.getfield 16, 3) := by decide +kernel
theorem dX1_unsafe_62 : decode cX1_unsafe 62 = .ok (.iload_n 2, 1) := by decide +kernel
theorem dX1_unsafe_63 : decode cX1_unsafe 63 = .ok (.iaload, 1) := by decide +kernel
theorem dX1_unsafe_64 : decode cX1_unsafe 64 = .ok (.if_icmp .eq 11, 3) := by decide +kernel
theorem dX1_unsafe_67 : decode cX1_unsafe 67 = .ok (.iload_n 1, 1) := by decide +kernel
theorem dX1_unsafe_68 : decode cX1_unsafe 68 = .ok (.iconst 1, 1) := by decide +kernel
theorem dX1_unsafe_69 : decode cX1_unsafe 69 = .ok (.iload_n 2, 1) := by decide +kernel
theorem dX1_unsafe_70 : decode cX1_unsafe 70 = .ok (.ishl, 1) := by decide +kernel
theorem dX1_unsafe_71 : decode cX1_unsafe 71 = .ok (.ior, 1) := by decide +kernel
theorem dX1_unsafe_72 : decode cX1_unsafe 72 = .ok (.goto 4, 3) := by decide +kernel
theorem dX1_unsafe_75 : decode cX1_unsafe 75 = .ok (.iload_n 1, 1) := by decide +kernel
theorem dX1_unsafe_76 : decode cX1_unsafe 76 = .ok (.istore_n 1, 1) := by decide +kernel
theorem dX1_unsafe_77 : decode cX1_unsafe 77 = .ok (.iinc 2 1, 3) := by decide +kernel
theorem dX1_unsafe_80 : decode cX1_unsafe 80 = .ok (.goto (-68), 3) := by decide +kernel
theorem dX1_unsafe_83 : decode cX1_unsafe 83 = .ok (.iload_n 1, 1) := by decide +kernel
theorem dX1_unsafe_84 : decode cX1_unsafe 84 = .ok (.ireturn, 1) := by decide +kernel
theorem dX1_pending_0 : decode cX1_pending 0 = .ok (.aload_n 0, 1) := by decide +kernel
theorem dX1_pending_1 : decode cX1_pending 1 = .ok (.getfield 26, 3) := by decide +kernel
theorem dX1_pending_4 : decode cX1_pending 4 = .ok (.ifCond .eq 10, 3) := by decide +kernel
theorem dX1_pending_7 : decode cX1_pending 7 = .ok (.aload_n 0, 1) := by decide +kernel
theorem dX1_pending_8 : decode cX1_pending 8 = .ok (.getfield 30, 3) := by decide +kernel
theorem dX1_pending_11 : decode cX1_pending 11 = .ok (.goto 4, 3) := by decide +kernel
theorem dX1_pending_14 : decode cX1_pending 14 = .ok (.iconst 0, 1) := by decide +kernel
theorem dX1_pending_15 : decode cX1_pending 15 = .ok (.ireturn, 1) := by decide +kernel
end
section
/-! the law's own entry -/
set_option maxRecDepth 100000
abbrev cL_law : ByteArray := code

theorem dL_law_0 : decode cL_law 0 = .ok (.new 7, 3) := by decide +kernel
theorem dL_law_3 : decode cL_law 3 = .ok (.dup, 1) := by decide +kernel
theorem dL_law_4 : decode cL_law 4 = .ok (.invokespecial 9, 3) := by decide +kernel
theorem dL_law_7 : decode cL_law 7 = .ok (.astore_n 1, 1) := by decide +kernel
theorem dL_law_8 : decode cL_law 8 = .ok (.new 10, 3) := by decide +kernel
theorem dL_law_11 : decode cL_law 11 = .ok (.dup, 1) := by decide +kernel
theorem dL_law_12 : decode cL_law 12 = .ok (.invokespecial 12, 3) := by decide +kernel
theorem dL_law_15 : decode cL_law 15 = .ok (.astore_n 2, 1) := by decide +kernel
theorem dL_law_16 : decode cL_law 16 = .ok (.iconst 0, 1) := by decide +kernel
theorem dL_law_17 : decode cL_law 17 = .ok (.istore_n 3, 1) := by decide +kernel
theorem dL_law_18 : decode cL_law 18 = .ok (.iload_n 3, 1) := by decide +kernel
theorem dL_law_19 : decode cL_law 19 = .ok (.aload_n 0, 1) := by decide +kernel
theorem dL_law_20 : decode cL_law 20 = .ok (.arraylength, 1) := by decide +kernel
theorem dL_law_21 : decode cL_law 21 = .ok (.iconst 3, 1) := by decide +kernel
theorem dL_law_22 : decode cL_law 22 = .ok (.isub, 1) := by decide +kernel
theorem dL_law_23 : decode cL_law 23 = .ok (.if_icmp .gt 367, 3) := by decide +kernel
theorem dL_law_26 : decode cL_law 26 = .ok (.aload_n 0, 1) := by decide +kernel
theorem dL_law_27 : decode cL_law 27 = .ok (.iload_n 3, 1) := by decide +kernel
theorem dL_law_28 : decode cL_law 28 = .ok (.iaload, 1) := by decide +kernel
theorem dL_law_29 : decode cL_law 29 = .ok (.bipush 15, 2) := by decide +kernel
theorem dL_law_31 : decode cL_law 31 = .ok (.iand, 1) := by decide +kernel
theorem dL_law_32 : decode cL_law 32 = .ok (.tableswitch 352 0 15 #[80, 93, 126, 149, 162, 175, 186, 197, 208, 231, 254, 277, 290, 303, 326, 339], 80) := by decide +kernel
theorem dL_law_112 : decode cL_law 112 = .ok (.aload_n 1, 1) := by decide +kernel
theorem dL_law_113 : decode cL_law 113 = .ok (.invokevirtual 13, 3) := by decide +kernel
theorem dL_law_116 : decode cL_law 116 = .ok (.aload_n 2, 1) := by decide +kernel
theorem dL_law_117 : decode cL_law 117 = .ok (.invokevirtual 17, 3) := by decide +kernel
theorem dL_law_120 : decode cL_law 120 = .ok (.if_icmp .eq 264, 3) := by decide +kernel
theorem dL_law_123 : decode cL_law 123 = .ok (.iconst 0, 1) := by decide +kernel
theorem dL_law_124 : decode cL_law 124 = .ok (.ireturn, 1) := by decide +kernel
theorem dL_law_125 : decode cL_law 125 = .ok (.aload_n 1, 1) := by decide +kernel
theorem dL_law_126 : decode cL_law 126 = .ok (.aload_n 0, 1) := by decide +kernel
theorem dL_law_127 : decode cL_law 127 = .ok (.iload_n 3, 1) := by decide +kernel
theorem dL_law_128 : decode cL_law 128 = .ok (.iconst 1, 1) := by decide +kernel
theorem dL_law_129 : decode cL_law 129 = .ok (.iadd, 1) := by decide +kernel
theorem dL_law_130 : decode cL_law 130 = .ok (.iaload, 1) := by decide +kernel
theorem dL_law_131 : decode cL_law 131 = .ok (.aload_n 0, 1) := by decide +kernel
theorem dL_law_132 : decode cL_law 132 = .ok (.iload_n 3, 1) := by decide +kernel
theorem dL_law_133 : decode cL_law 133 = .ok (.iconst 2, 1) := by decide +kernel
theorem dL_law_134 : decode cL_law 134 = .ok (.iadd, 1) := by decide +kernel
theorem dL_law_135 : decode cL_law 135 = .ok (.iaload, 1) := by decide +kernel
theorem dL_law_136 : decode cL_law 136 = .ok (.invokevirtual 18, 3) := by decide +kernel
theorem dL_law_139 : decode cL_law 139 = .ok (.aload_n 2, 1) := by decide +kernel
theorem dL_law_140 : decode cL_law 140 = .ok (.aload_n 0, 1) := by decide +kernel
theorem dL_law_141 : decode cL_law 141 = .ok (.iload_n 3, 1) := by decide +kernel
theorem dL_law_142 : decode cL_law 142 = .ok (.iconst 1, 1) := by decide +kernel
theorem dL_law_143 : decode cL_law 143 = .ok (.iadd, 1) := by decide +kernel
theorem dL_law_144 : decode cL_law 144 = .ok (.iaload, 1) := by decide +kernel
theorem dL_law_145 : decode cL_law 145 = .ok (.aload_n 0, 1) := by decide +kernel
theorem dL_law_146 : decode cL_law 146 = .ok (.iload_n 3, 1) := by decide +kernel
theorem dL_law_147 : decode cL_law 147 = .ok (.iconst 2, 1) := by decide +kernel
theorem dL_law_148 : decode cL_law 148 = .ok (.iadd, 1) := by decide +kernel
theorem dL_law_149 : decode cL_law 149 = .ok (.iaload, 1) := by decide +kernel
theorem dL_law_150 : decode cL_law 150 = .ok (.invokevirtual 22, 3) := by decide +kernel
theorem dL_law_153 : decode cL_law 153 = .ok (.if_icmp .eq 231, 3) := by decide +kernel
theorem dL_law_156 : decode cL_law 156 = .ok (.iconst 0, 1) := by decide +kernel
theorem dL_law_157 : decode cL_law 157 = .ok (.ireturn, 1) := by decide +kernel
theorem dL_law_158 : decode cL_law 158 = .ok (.aload_n 1, 1) := by decide +kernel
theorem dL_law_159 : decode cL_law 159 = .ok (.aload_n 0, 1) := by decide +kernel
theorem dL_law_160 : decode cL_law 160 = .ok (.iload_n 3, 1) := by decide +kernel
theorem dL_law_161 : decode cL_law 161 = .ok (.iconst 1, 1) := by decide +kernel
theorem dL_law_162 : decode cL_law 162 = .ok (.iadd, 1) := by decide +kernel
theorem dL_law_163 : decode cL_law 163 = .ok (.iaload, 1) := by decide +kernel
theorem dL_law_164 : decode cL_law 164 = .ok (.invokevirtual 23, 3) := by decide +kernel
theorem dL_law_167 : decode cL_law 167 = .ok (.aload_n 2, 1) := by decide +kernel
theorem dL_law_168 : decode cL_law 168 = .ok (.aload_n 0, 1) := by decide +kernel
theorem dL_law_169 : decode cL_law 169 = .ok (.iload_n 3, 1) := by decide +kernel
theorem dL_law_170 : decode cL_law 170 = .ok (.iconst 1, 1) := by decide +kernel
theorem dL_law_171 : decode cL_law 171 = .ok (.iadd, 1) := by decide +kernel
theorem dL_law_172 : decode cL_law 172 = .ok (.iaload, 1) := by decide +kernel
theorem dL_law_173 : decode cL_law 173 = .ok (.invokevirtual 27, 3) := by decide +kernel
theorem dL_law_176 : decode cL_law 176 = .ok (.if_icmp .eq 208, 3) := by decide +kernel
theorem dL_law_179 : decode cL_law 179 = .ok (.iconst 0, 1) := by decide +kernel
theorem dL_law_180 : decode cL_law 180 = .ok (.ireturn, 1) := by decide +kernel
theorem dL_law_181 : decode cL_law 181 = .ok (.aload_n 1, 1) := by decide +kernel
theorem dL_law_182 : decode cL_law 182 = .ok (.invokevirtual 28, 3) := by decide +kernel
theorem dL_law_185 : decode cL_law 185 = .ok (.aload_n 2, 1) := by decide +kernel
theorem dL_law_186 : decode cL_law 186 = .ok (.invokevirtual 31, 3) := by decide +kernel
theorem dL_law_189 : decode cL_law 189 = .ok (.if_icmp .eq 195, 3) := by decide +kernel
theorem dL_law_192 : decode cL_law 192 = .ok (.iconst 0, 1) := by decide +kernel
theorem dL_law_193 : decode cL_law 193 = .ok (.ireturn, 1) := by decide +kernel
theorem dL_law_194 : decode cL_law 194 = .ok (.aload_n 1, 1) := by decide +kernel
theorem dL_law_195 : decode cL_law 195 = .ok (.invokevirtual 32, 3) := by decide +kernel
theorem dL_law_198 : decode cL_law 198 = .ok (.aload_n 2, 1) := by decide +kernel
theorem dL_law_199 : decode cL_law 199 = .ok (.invokevirtual 35, 3) := by decide +kernel
theorem dL_law_202 : decode cL_law 202 = .ok (.if_icmp .eq 182, 3) := by decide +kernel
theorem dL_law_205 : decode cL_law 205 = .ok (.iconst 0, 1) := by decide +kernel
theorem dL_law_206 : decode cL_law 206 = .ok (.ireturn, 1) := by decide +kernel
theorem dL_law_207 : decode cL_law 207 = .ok (.aload_n 1, 1) := by decide +kernel
theorem dL_law_208 : decode cL_law 208 = .ok (.invokevirtual 36, 3) := by decide +kernel
theorem dL_law_211 : decode cL_law 211 = .ok (.aload_n 2, 1) := by decide +kernel
theorem dL_law_212 : decode cL_law 212 = .ok (.invokevirtual 39, 3) := by decide +kernel
theorem dL_law_215 : decode cL_law 215 = .ok (.goto 169, 3) := by decide +kernel
theorem dL_law_218 : decode cL_law 218 = .ok (.aload_n 1, 1) := by decide +kernel
theorem dL_law_219 : decode cL_law 219 = .ok (.invokevirtual 40, 3) := by decide +kernel
theorem dL_law_222 : decode cL_law 222 = .ok (.aload_n 2, 1) := by decide +kernel
theorem dL_law_223 : decode cL_law 223 = .ok (.invokevirtual 43, 3) := by decide +kernel
theorem dL_law_226 : decode cL_law 226 = .ok (.goto 158, 3) := by decide +kernel
theorem dL_law_229 : decode cL_law 229 = .ok (.aload_n 1, 1) := by decide +kernel
theorem dL_law_230 : decode cL_law 230 = .ok (.invokevirtual 44, 3) := by decide +kernel
theorem dL_law_233 : decode cL_law 233 = .ok (.aload_n 2, 1) := by decide +kernel
theorem dL_law_234 : decode cL_law 234 = .ok (.invokevirtual 47, 3) := by decide +kernel
theorem dL_law_237 : decode cL_law 237 = .ok (.goto 147, 3) := by decide +kernel
theorem dL_law_240 : decode cL_law 240 = .ok (.aload_n 1, 1) := by decide +kernel
theorem dL_law_241 : decode cL_law 241 = .ok (.aload_n 0, 1) := by decide +kernel
theorem dL_law_242 : decode cL_law 242 = .ok (.iload_n 3, 1) := by decide +kernel
theorem dL_law_243 : decode cL_law 243 = .ok (.iconst 1, 1) := by decide +kernel
theorem dL_law_244 : decode cL_law 244 = .ok (.iadd, 1) := by decide +kernel
theorem dL_law_245 : decode cL_law 245 = .ok (.iaload, 1) := by decide +kernel
theorem dL_law_246 : decode cL_law 246 = .ok (.invokevirtual 48, 3) := by decide +kernel
theorem dL_law_249 : decode cL_law 249 = .ok (.aload_n 2, 1) := by decide +kernel
theorem dL_law_250 : decode cL_law 250 = .ok (.aload_n 0, 1) := by decide +kernel
theorem dL_law_251 : decode cL_law 251 = .ok (.iload_n 3, 1) := by decide +kernel
theorem dL_law_252 : decode cL_law 252 = .ok (.iconst 1, 1) := by decide +kernel
theorem dL_law_253 : decode cL_law 253 = .ok (.iadd, 1) := by decide +kernel
theorem dL_law_254 : decode cL_law 254 = .ok (.iaload, 1) := by decide +kernel
theorem dL_law_255 : decode cL_law 255 = .ok (.invokevirtual 51, 3) := by decide +kernel
theorem dL_law_258 : decode cL_law 258 = .ok (.if_icmp .eq 126, 3) := by decide +kernel
theorem dL_law_261 : decode cL_law 261 = .ok (.iconst 0, 1) := by decide +kernel
theorem dL_law_262 : decode cL_law 262 = .ok (.ireturn, 1) := by decide +kernel
theorem dL_law_263 : decode cL_law 263 = .ok (.aload_n 1, 1) := by decide +kernel
theorem dL_law_264 : decode cL_law 264 = .ok (.aload_n 0, 1) := by decide +kernel
theorem dL_law_265 : decode cL_law 265 = .ok (.iload_n 3, 1) := by decide +kernel
theorem dL_law_266 : decode cL_law 266 = .ok (.iconst 1, 1) := by decide +kernel
theorem dL_law_267 : decode cL_law 267 = .ok (.iadd, 1) := by decide +kernel
theorem dL_law_268 : decode cL_law 268 = .ok (.iaload, 1) := by decide +kernel
theorem dL_law_269 : decode cL_law 269 = .ok (.invokevirtual 52, 3) := by decide +kernel
theorem dL_law_272 : decode cL_law 272 = .ok (.aload_n 2, 1) := by decide +kernel
theorem dL_law_273 : decode cL_law 273 = .ok (.aload_n 0, 1) := by decide +kernel
theorem dL_law_274 : decode cL_law 274 = .ok (.iload_n 3, 1) := by decide +kernel
theorem dL_law_275 : decode cL_law 275 = .ok (.iconst 1, 1) := by decide +kernel
theorem dL_law_276 : decode cL_law 276 = .ok (.iadd, 1) := by decide +kernel
theorem dL_law_277 : decode cL_law 277 = .ok (.iaload, 1) := by decide +kernel
theorem dL_law_278 : decode cL_law 278 = .ok (.invokevirtual 56, 3) := by decide +kernel
theorem dL_law_281 : decode cL_law 281 = .ok (.if_icmp .eq 103, 3) := by decide +kernel
theorem dL_law_284 : decode cL_law 284 = .ok (.iconst 0, 1) := by decide +kernel
theorem dL_law_285 : decode cL_law 285 = .ok (.ireturn, 1) := by decide +kernel
theorem dL_law_286 : decode cL_law 286 = .ok (.aload_n 1, 1) := by decide +kernel
theorem dL_law_287 : decode cL_law 287 = .ok (.aload_n 0, 1) := by decide +kernel
theorem dL_law_288 : decode cL_law 288 = .ok (.iload_n 3, 1) := by decide +kernel
theorem dL_law_289 : decode cL_law 289 = .ok (.iconst 1, 1) := by decide +kernel
theorem dL_law_290 : decode cL_law 290 = .ok (.iadd, 1) := by decide +kernel
theorem dL_law_291 : decode cL_law 291 = .ok (.iaload, 1) := by decide +kernel
theorem dL_law_292 : decode cL_law 292 = .ok (.invokevirtual 57, 3) := by decide +kernel
theorem dL_law_295 : decode cL_law 295 = .ok (.aload_n 2, 1) := by decide +kernel
theorem dL_law_296 : decode cL_law 296 = .ok (.aload_n 0, 1) := by decide +kernel
theorem dL_law_297 : decode cL_law 297 = .ok (.iload_n 3, 1) := by decide +kernel
theorem dL_law_298 : decode cL_law 298 = .ok (.iconst 1, 1) := by decide +kernel
theorem dL_law_299 : decode cL_law 299 = .ok (.iadd, 1) := by decide +kernel
theorem dL_law_300 : decode cL_law 300 = .ok (.iaload, 1) := by decide +kernel
theorem dL_law_301 : decode cL_law 301 = .ok (.invokevirtual 60, 3) := by decide +kernel
theorem dL_law_304 : decode cL_law 304 = .ok (.if_icmp .eq 80, 3) := by decide +kernel
theorem dL_law_307 : decode cL_law 307 = .ok (.iconst 0, 1) := by decide +kernel
theorem dL_law_308 : decode cL_law 308 = .ok (.ireturn, 1) := by decide +kernel
theorem dL_law_309 : decode cL_law 309 = .ok (.aload_n 1, 1) := by decide +kernel
theorem dL_law_310 : decode cL_law 310 = .ok (.invokevirtual 61, 3) := by decide +kernel
theorem dL_law_313 : decode cL_law 313 = .ok (.aload_n 2, 1) := by decide +kernel
theorem dL_law_314 : decode cL_law 314 = .ok (.invokevirtual 64, 3) := by decide +kernel
theorem dL_law_317 : decode cL_law 317 = .ok (.if_icmp .eq 67, 3) := by decide +kernel
theorem dL_law_320 : decode cL_law 320 = .ok (.iconst 0, 1) := by decide +kernel
theorem dL_law_321 : decode cL_law 321 = .ok (.ireturn, 1) := by decide +kernel
theorem dL_law_322 : decode cL_law 322 = .ok (.aload_n 1, 1) := by decide +kernel
theorem dL_law_323 : decode cL_law 323 = .ok (.invokevirtual 65, 3) := by decide +kernel
theorem dL_law_326 : decode cL_law 326 = .ok (.aload_n 2, 1) := by decide +kernel
theorem dL_law_327 : decode cL_law 327 = .ok (.invokevirtual 68, 3) := by decide +kernel
theorem dL_law_330 : decode cL_law 330 = .ok (.if_icmp .eq 54, 3) := by decide +kernel
theorem dL_law_333 : decode cL_law 333 = .ok (.iconst 0, 1) := by decide +kernel
theorem dL_law_334 : decode cL_law 334 = .ok (.ireturn, 1) := by decide +kernel
theorem dL_law_335 : decode cL_law 335 = .ok (.aload_n 1, 1) := by decide +kernel
theorem dL_law_336 : decode cL_law 336 = .ok (.aload_n 0, 1) := by decide +kernel
theorem dL_law_337 : decode cL_law 337 = .ok (.iload_n 3, 1) := by decide +kernel
theorem dL_law_338 : decode cL_law 338 = .ok (.iconst 1, 1) := by decide +kernel
theorem dL_law_339 : decode cL_law 339 = .ok (.iadd, 1) := by decide +kernel
theorem dL_law_340 : decode cL_law 340 = .ok (.iaload, 1) := by decide +kernel
theorem dL_law_341 : decode cL_law 341 = .ok (.invokevirtual 69, 3) := by decide +kernel
theorem dL_law_344 : decode cL_law 344 = .ok (.aload_n 2, 1) := by decide +kernel
theorem dL_law_345 : decode cL_law 345 = .ok (.aload_n 0, 1) := by decide +kernel
theorem dL_law_346 : decode cL_law 346 = .ok (.iload_n 3, 1) := by decide +kernel
theorem dL_law_347 : decode cL_law 347 = .ok (.iconst 1, 1) := by decide +kernel
theorem dL_law_348 : decode cL_law 348 = .ok (.iadd, 1) := by decide +kernel
theorem dL_law_349 : decode cL_law 349 = .ok (.iaload, 1) := by decide +kernel
theorem dL_law_350 : decode cL_law 350 = .ok (.invokevirtual 72, 3) := by decide +kernel
theorem dL_law_353 : decode cL_law 353 = .ok (.if_icmp .eq 31, 3) := by decide +kernel
theorem dL_law_356 : decode cL_law 356 = .ok (.iconst 0, 1) := by decide +kernel
theorem dL_law_357 : decode cL_law 357 = .ok (.ireturn, 1) := by decide +kernel
theorem dL_law_358 : decode cL_law 358 = .ok (.aload_n 1, 1) := by decide +kernel
theorem dL_law_359 : decode cL_law 359 = .ok (.invokevirtual 73, 3) := by decide +kernel
theorem dL_law_362 : decode cL_law 362 = .ok (.aload_n 2, 1) := by decide +kernel
theorem dL_law_363 : decode cL_law 363 = .ok (.invokevirtual 76, 3) := by decide +kernel
theorem dL_law_366 : decode cL_law 366 = .ok (.if_icmp .eq 18, 3) := by decide +kernel
theorem dL_law_369 : decode cL_law 369 = .ok (.iconst 0, 1) := by decide +kernel
theorem dL_law_370 : decode cL_law 370 = .ok (.ireturn, 1) := by decide +kernel
theorem dL_law_371 : decode cL_law 371 = .ok (.aload_n 1, 1) := by decide +kernel
theorem dL_law_372 : decode cL_law 372 = .ok (.invokevirtual 77, 3) := by decide +kernel
theorem dL_law_375 : decode cL_law 375 = .ok (.aload_n 2, 1) := by decide +kernel
theorem dL_law_376 : decode cL_law 376 = .ok (.invokevirtual 80, 3) := by decide +kernel
theorem dL_law_379 : decode cL_law 379 = .ok (.if_icmp .eq 5, 3) := by decide +kernel
theorem dL_law_382 : decode cL_law 382 = .ok (.iconst 0, 1) := by decide +kernel
theorem dL_law_383 : decode cL_law 383 = .ok (.ireturn, 1) := by decide +kernel
theorem dL_law_384 : decode cL_law 384 = .ok (.iinc 3 3, 3) := by decide +kernel
theorem dL_law_387 : decode cL_law 387 = .ok (.goto (-369), 3) := by decide +kernel
theorem dL_law_390 : decode cL_law 390 = .ok (.iconst 1, 1) := by decide +kernel
theorem dL_law_391 : decode cL_law 391 = .ok (.ireturn, 1) := by decide +kernel
theorem q11 : (Jvm.Cond.initialized "LogStoreLaw") ∈ lw_all := lw_g (lw_at lw_m1 0 rfl) rfl
set_option maxRecDepth 100000
theorem q14 : (Jvm.Cond.classLink "LogStoreLaw" (7 : Nat) "LogStore") ∈ lw_all := lw_g (lw_at lw_m1 3 rfl) rfl
theorem q16 : (Jvm.Cond.methodLink "LogStoreLaw" (9 : Nat) ({ cls := "LogStore", name := "<init>", desc := "()V" } : Jvm.MethodName)) ∈ lw_all := lw_g (lw_at lw_m1 5 rfl) rfl
theorem q77 : (Jvm.Cond.methodLink "LogStoreLaw" (13 : Nat) ({ cls := "LogStore", name := "begin", desc := "()I" } : Jvm.MethodName)) ∈ lw_all := lw_g (lw_at lw_m1 66 rfl) rfl
theorem q81 : (Jvm.Cond.methodLink "LogStoreLaw" (18 : Nat) ({ cls := "LogStore", name := "put", desc := "(II)Z" } : Jvm.MethodName)) ∈ lw_all := lw_g (lw_at lw_m1 70 rfl) rfl
theorem q108 : (Jvm.Cond.methodLink "LogStoreLaw" (23 : Nat) ({ cls := "LogStore", name := "remove", desc := "(I)Z" } : Jvm.MethodName)) ∈ lw_all := lw_g (lw_at lw_m1 97 rfl) rfl
theorem q116 : (Jvm.Cond.methodLink "LogStoreLaw" (28 : Nat) ({ cls := "LogStore", name := "commit", desc := "()I" } : Jvm.MethodName)) ∈ lw_all := lw_g (lw_at lw_m1 105 rfl) rfl
theorem q120 : (Jvm.Cond.methodLink "LogStoreLaw" (32 : Nat) ({ cls := "LogStore", name := "abort", desc := "()I" } : Jvm.MethodName)) ∈ lw_all := lw_g (lw_at lw_m1 109 rfl) rfl
theorem q128 : (Jvm.Cond.methodLink "LogStoreLaw" (36 : Nat) ({ cls := "LogStore", name := "sync", desc := "()V" } : Jvm.MethodName)) ∈ lw_all := lw_g (lw_at lw_m1 117 rfl) rfl
theorem q132 : (Jvm.Cond.methodLink "LogStoreLaw" (40 : Nat) ({ cls := "LogStore", name := "clean", desc := "()V" } : Jvm.MethodName)) ∈ lw_all := lw_g (lw_at lw_m1 121 rfl) rfl
theorem q136 : (Jvm.Cond.methodLink "LogStoreLaw" (44 : Nat) ({ cls := "LogStore", name := "crash", desc := "()V" } : Jvm.MethodName)) ∈ lw_all := lw_g (lw_at lw_m1 125 rfl) rfl
theorem q140 : (Jvm.Cond.methodLink "LogStoreLaw" (48 : Nat) ({ cls := "LogStore", name := "has", desc := "(I)Z" } : Jvm.MethodName)) ∈ lw_all := lw_g (lw_at lw_m1 129 rfl) rfl
theorem q141 : (Jvm.Cond.methodLink "LogStoreLaw" (52 : Nat) ({ cls := "LogStore", name := "get", desc := "(I)I" } : Jvm.MethodName)) ∈ lw_all := lw_g (lw_at lw_m1 130 rfl) rfl
theorem q145 : (Jvm.Cond.methodLink "LogStoreLaw" (57 : Nat) ({ cls := "LogStore", name := "next", desc := "(I)I" } : Jvm.MethodName)) ∈ lw_all := lw_g (lw_at lw_m1 134 rfl) rfl
theorem q149 : (Jvm.Cond.methodLink "LogStoreLaw" (61 : Nat) ({ cls := "LogStore", name := "count", desc := "()I" } : Jvm.MethodName)) ∈ lw_all := lw_g (lw_at lw_m1 138 rfl) rfl
theorem q153 : (Jvm.Cond.methodLink "LogStoreLaw" (65 : Nat) ({ cls := "LogStore", name := "safeKeys", desc := "()I" } : Jvm.MethodName)) ∈ lw_all := lw_g (lw_at lw_m1 142 rfl) rfl
theorem q157 : (Jvm.Cond.methodLink "LogStoreLaw" (69 : Nat) ({ cls := "LogStore", name := "safeValue", desc := "(I)I" } : Jvm.MethodName)) ∈ lw_all := lw_g (lw_at lw_m1 146 rfl) rfl
theorem q161 : (Jvm.Cond.methodLink "LogStoreLaw" (73 : Nat) site_359) ∈ lw_all := lw_g (lw_at lw_m1 150 rfl) rfl
theorem q169 : (Jvm.Cond.methodLink "LogStoreLaw" (77 : Nat) ({ cls := "LogStore", name := "pending", desc := "()I" } : Jvm.MethodName)) ∈ lw_all := lw_g (lw_at lw_m1 158 rfl) rfl
theorem q173 : (Jvm.Cond.classLink "LogStoreLaw" (10 : Nat) "LogStoreModel") ∈ lw_all := lw_g (lw_at lw_m1 162 rfl) rfl
theorem q175 : (Jvm.Cond.methodLink "LogStoreLaw" (12 : Nat) ({ cls := "LogStoreModel", name := "<init>", desc := "()V" } : Jvm.MethodName)) ∈ lw_all := lw_g (lw_at lw_m1 164 rfl) rfl
theorem q204 : (Jvm.Cond.methodLink "LogStoreLaw" (17 : Nat) ({ cls := "LogStoreModel", name := "begin", desc := "()I" } : Jvm.MethodName)) ∈ lw_all := lw_g (lw_at lw_m1 193 rfl) rfl
theorem q208 : (Jvm.Cond.methodLink "LogStoreLaw" (22 : Nat) ({ cls := "LogStoreModel", name := "put", desc := "(II)Z" } : Jvm.MethodName)) ∈ lw_all := lw_g (lw_at lw_m1 197 rfl) rfl
theorem q224 : (Jvm.Cond.methodLink "LogStoreLaw" (27 : Nat) ({ cls := "LogStoreModel", name := "remove", desc := "(I)Z" } : Jvm.MethodName)) ∈ lw_all := lw_g (lw_at lw_m1 213 rfl) rfl
theorem q232 : (Jvm.Cond.methodLink "LogStoreLaw" (31 : Nat) ({ cls := "LogStoreModel", name := "commit", desc := "()I" } : Jvm.MethodName)) ∈ lw_all := lw_g (lw_at lw_m1 221 rfl) rfl
theorem q236 : (Jvm.Cond.methodLink "LogStoreLaw" (35 : Nat) ({ cls := "LogStoreModel", name := "abort", desc := "()I" } : Jvm.MethodName)) ∈ lw_all := lw_g (lw_at lw_m1 225 rfl) rfl
theorem q244 : (Jvm.Cond.methodLink "LogStoreLaw" (39 : Nat) ({ cls := "LogStoreModel", name := "sync", desc := "()V" } : Jvm.MethodName)) ∈ lw_all := lw_g (lw_at lw_m1 233 rfl) rfl
theorem q248 : (Jvm.Cond.methodLink "LogStoreLaw" (43 : Nat) ({ cls := "LogStoreModel", name := "clean", desc := "()V" } : Jvm.MethodName)) ∈ lw_all := lw_g (lw_at lw_m1 237 rfl) rfl
theorem q252 : (Jvm.Cond.methodLink "LogStoreLaw" (47 : Nat) ({ cls := "LogStoreModel", name := "crash", desc := "()V" } : Jvm.MethodName)) ∈ lw_all := lw_g (lw_at lw_m2 1 rfl) rfl
theorem q256 : (Jvm.Cond.methodLink "LogStoreLaw" (51 : Nat) ({ cls := "LogStoreModel", name := "has", desc := "(I)Z" } : Jvm.MethodName)) ∈ lw_all := lw_g (lw_at lw_m2 5 rfl) rfl
theorem q257 : (Jvm.Cond.methodLink "LogStoreLaw" (56 : Nat) ({ cls := "LogStoreModel", name := "get", desc := "(I)I" } : Jvm.MethodName)) ∈ lw_all := lw_g (lw_at lw_m2 6 rfl) rfl
theorem q261 : (Jvm.Cond.methodLink "LogStoreLaw" (60 : Nat) ({ cls := "LogStoreModel", name := "next", desc := "(I)I" } : Jvm.MethodName)) ∈ lw_all := lw_g (lw_at lw_m2 10 rfl) rfl
theorem q265 : (Jvm.Cond.methodLink "LogStoreLaw" (64 : Nat) ({ cls := "LogStoreModel", name := "count", desc := "()I" } : Jvm.MethodName)) ∈ lw_all := lw_g (lw_at lw_m2 14 rfl) rfl
theorem q269 : (Jvm.Cond.methodLink "LogStoreLaw" (68 : Nat) ({ cls := "LogStoreModel", name := "safeKeys", desc := "()I" } : Jvm.MethodName)) ∈ lw_all := lw_g (lw_at lw_m2 18 rfl) rfl
theorem q273 : (Jvm.Cond.methodLink "LogStoreLaw" (72 : Nat) ({ cls := "LogStoreModel", name := "safeValue", desc := "(I)I" } : Jvm.MethodName)) ∈ lw_all := lw_g (lw_at lw_m2 22 rfl) rfl
theorem q277 : (Jvm.Cond.methodLink "LogStoreLaw" (76 : Nat) site_363) ∈ lw_all := lw_g (lw_at lw_m2 26 rfl) rfl
theorem q281 : (Jvm.Cond.methodLink "LogStoreLaw" (80 : Nat) ({ cls := "LogStoreModel", name := "pending", desc := "()I" } : Jvm.MethodName)) ∈ lw_all := lw_g (lw_at lw_m2 30 rfl) rfl
end
section
set_option maxRecDepth 100000
/-! ===== Int32 by its bits: bt x i ===== -/
def bt (x : Int32) (i : Nat) : Bool := x.toBitVec.getLsbD i
theorem b_ext {x y : Int32} (h : ∀ i, i < 32 → bt x i = bt y i) : x = y := Int32.toBitVec_inj.mp (BitVec.eq_of_getLsbD_eq (fun i hi => h i hi))
theorem b_or (x y : Int32) (i : Nat) : bt (x ||| y) i = (bt x i || bt y i) := by unfold bt; rw [Int32.toBitVec_or, BitVec.getLsbD_or]
theorem b_and (x y : Int32) (i : Nat) : bt (x &&& y) i = (bt x i && bt y i) := by unfold bt; rw [Int32.toBitVec_and, BitVec.getLsbD_and]
theorem b_xor (x y : Int32) (i : Nat) : bt (x ^^^ y) i = (bt x i ^^ bt y i) := by unfold bt; rw [Int32.toBitVec_xor, BitVec.getLsbD_xor]
theorem b_big {x : Int32} {i : Nat} (h : 32 ≤ i) : bt x i = false := BitVec.getLsbD_of_ge _ _ h
theorem b_255 (i : Nat) : bt 255 i = decide (i < 8) := by
  rcases Nat.lt_or_ge i 32 with h | h
  · exact (by decide +kernel : ∀ i, i < 32 → bt 255 i = decide (i < 8)) i h
  · rw [b_big h, decide_eq_false (by omega)]
theorem b_65535 (i : Nat) : bt 65535 i = decide (i < 16) := by
  rcases Nat.lt_or_ge i 32 with h | h
  · exact (by decide +kernel : ∀ i, i < 32 → bt 65535 i = decide (i < 16)) i h
  · rw [b_big h, decide_eq_false (by omega)]
theorem b_m1 : ∀ i, i < 32 → bt (-1) i = true := by decide +kernel
theorem b_0 (i : Nat) : bt 0 i = false := BitVec.getLsbD_zero
theorem s_l : ∀ n, n < 32 → ((nI n &&& 31).toBitVec.smod 32).toNat = n := by decide +kernel
theorem s_u : ∀ n, n < 32 → (((nI n).toUInt32 &&& Int32.toUInt32 31).toBitVec % 32).toNat = n := by decide +kernel
theorem b_shl (n : Nat) (hn : n < 32) (x : Int32) {i : Nat} (hi : i < 32) : bt (x <<< (nI n &&& 31)) i = (decide (n ≤ i) && bt x (i - n)) := by
  unfold bt
  rw [Int32.toBitVec_shiftLeft]
  show (x.toBitVec <<< ((nI n &&& 31).toBitVec.smod 32).toNat).getLsbD i = _
  rw [s_l n hn, BitVec.getLsbD_shiftLeft]
  rcases Nat.lt_or_ge i n with h | h
  · simp [h, Nat.not_le.mpr h]
  · simp [hi, h, Nat.not_lt.mpr h]
theorem b_ushr (n : Nat) (hn : n < 32) (x : Int32) (i : Nat) : bt ((x.toUInt32 >>> ((nI n).toUInt32 &&& Int32.toUInt32 31)).toInt32) i = bt x (n + i) := by
  show (x.toUInt32 >>> ((nI n).toUInt32 &&& Int32.toUInt32 31)).toBitVec.getLsbD i = x.toUInt32.toBitVec.getLsbD (n + i)
  rw [UInt32.toBitVec_shiftRight]
  show (x.toUInt32.toBitVec >>> (((nI n).toUInt32 &&& Int32.toUInt32 31).toBitVec % 32).toNat).getLsbD i = _
  rw [s_u n hn, BitVec.getLsbD_ushiftRight]
theorem b_sshr (n : Nat) (hn : n < 32) (x : Int32) {i : Nat} (hi : i < 32) : bt (x >>> (nI n &&& 31)) i = if n + i < 32 then bt x (n + i) else bt x 31 := by
  unfold bt
  rw [Int32.toBitVec_shiftRight]
  show (x.toBitVec.sshiftRight ((nI n &&& 31).toBitVec.smod 32).toNat).getLsbD i = _
  rw [s_l n hn, BitVec.getLsbD_sshiftRight, BitVec.msb_eq_getLsbD_last]
  simp [hi]
/-! ===== own rows on one bit and masks ===== -/
theorem ls_b1 : ∀ n, n < 32 → ∀ i, i < 32 → bt ((1 : Int32) <<< (nI n &&& 31)) i = decide (i = n) := by decide +kernel
theorem ls_b10 : ∀ i, i < 32 → bt (1 : Int32) i = decide (i = 0) := by decide +kernel
theorem ls_bm1 : ∀ i, i < 32 → bt (-1 : Int32) i = true := by decide +kernel
theorem ls_one (y : Int32) : y &&& 1 = if bt y 0 = true then 1 else 0 := by
  refine b_ext (fun i hi => ?_)
  rw [b_and, ls_b10 i hi]
  by_cases h : bt y 0 = true
  · rw [if_pos h, ls_b10 i hi]
    by_cases e : i = 0
    · rw [e, h]; rfl
    · simp [e]
  · rw [if_neg h, b_0]
    by_cases e : i = 0
    · rw [e]
      cases hb : bt y 0 with
      | false => rfl
      | true => exact absurd hb h
    · simp [e]
/-- one bit of a mask, as the bytecode reads it -/
theorem ls_bit (y : Int32) {n : Nat} (hn : n < 16) : (y >>> (nI n &&& 31)) &&& 1 = if bt y n = true then 1 else 0 := by
  have e := b_sshr n (by omega) y (i := 0) (by omega)
  rw [if_pos (show n + 0 < 32 by omega), Nat.add_zero] at e
  rw [ls_one, e]
theorem ls_bset (y : Int32) {n i : Nat} (hn : n < 16) (hi : i < 32) : bt (y ||| ((1 : Int32) <<< (nI n &&& 31))) i = (bt y i || decide (i = n)) := by
  rw [b_or, ls_b1 n (by omega) i hi]
theorem ls_bclr (y : Int32) {n i : Nat} (hn : n < 16) (hi : i < 32) : bt (y &&& (((1 : Int32) <<< (nI n &&& 31)) ^^^ (-1))) i = (bt y i && !decide (i = n)) := by
  rw [b_and, b_xor, ls_b1 n (by omega) i hi, ls_bm1 i hi]
  simp
/-- a mask under making: the bits below i are f's -/
def ls_mi (f : Nat → Bool) (i : Nat) (r : Int32) : Prop := ∀ b, b < 32 → bt r b = (decide (b < i) && f b)
theorem ls_mi_0 {f : Nat → Bool} : ls_mi f 0 0 := fun b _ => by rw [b_0]; simp
theorem ls_mi_t {f : Nat → Bool} {i : Nat} {r : Int32} (h : ls_mi f i r) (hi : i < 16) (hf : f i = true) : ls_mi f (i + 1) (r ||| ((1 : Int32) <<< (nI i &&& 31))) := fun b hb => by
  rw [ls_bset r hi hb, h b hb]
  by_cases e : b = i
  · rw [e]; simp [hf]
  · have e2 : (decide (b < i + 1)) = decide (b < i) := by
      apply decide_eq_decide.mpr
      omega
    rw [e2]; simp [e]
theorem ls_mi_f {f : Nat → Bool} {i : Nat} {r : Int32} (h : ls_mi f i r) (hf : f i = false) : ls_mi f (i + 1) r := fun b hb => by
  rw [h b hb]
  by_cases e : b = i
  · rw [e]; simp [hf]
  · have e2 : (decide (b < i + 1)) = decide (b < i) := by
      apply decide_eq_decide.mpr
      omega
    rw [e2]
theorem ls_or0 (r : Int32) : r ||| 0 = r := b_ext (fun i _ => by rw [b_or, b_0]; simp)
end
section
/-! THE PLAIN LAW, first half: a row of entries, the latest entry of a key before a place, what a key shows there -/
/-- the latest entry of key k before place n -/
def ls_at (K : Nat → Int32) (k : Int32) : Nat → Option Nat
  | 0 => none
  | n + 1 => if K n = k then some n else ls_at K k n
/-- an entry as the class writes it: -1 for none -/
def ls_i (r : Option Nat) : Int32 := match r with
  | none => -1
  | some j => nI j
/-- what an entry shows: removed or a value -/
def ls_e (X V : Nat → Int32) (r : Option Nat) : Option Int32 := match r with
  | none => none
  | some j => if X j = 0 then some (V j) else none
def ls_pv (K X V : Nat → Int32) (k : Int32) (n : Nat) : Option Int32 := ls_e X V (ls_at K k n)
/-- whether an entry holds a value, as the class answers it -/
def ls_hd (X : Nat → Int32) (r : Option Nat) : Int32 := match r with
  | none => 0
  | some j => if X j = 0 then 1 else 0
def ls_cut (r : Option Nat) (q : Nat) : Option Nat := match r with
  | none => none
  | some j => if q ≤ j then some j else none
theorem ls_e_s {X V : Nat → Int32} {j : Nat} : ls_e X V (some j) = if X j = 0 then some (V j) else none := rfl
theorem ls_hd_s {X : Nat → Int32} {j : Nat} : ls_hd X (some j) = if X j = 0 then 1 else 0 := rfl
theorem ls_cut_s {q j : Nat} : ls_cut (some j) q = if q ≤ j then some j else none := rfl
def ls_up (f : Nat → Option Int32) (j : Nat) (v : Option Int32) : Nat → Option Int32 := fun i => if i = j then v else f i
theorem ls_up_s {f : Nat → Option Int32} {j : Nat} {v : Option Int32} : ls_up f j v j = v := by simp [ls_up]
theorem ls_up_n {f : Nat → Option Int32} {j i : Nat} {v : Option Int32} (h : i ≠ j) : ls_up f j v i = f i := by simp [ls_up, h]
theorem ls_at_s {K : Nat → Int32} {k : Int32} {n : Nat} : ls_at K k (n + 1) = if K n = k then some n else ls_at K k n := rfl
theorem ls_at_lt {K : Nat → Int32} {k : Int32} : ∀ {n r : Nat}, ls_at K k n = some r → r < n ∧ K r = k
  | 0, r, h => by cases h
  | n + 1, r, h => by
    rw [ls_at_s] at h
    by_cases e : K n = k
    · rw [if_pos e] at h
      cases h
      exact ⟨Nat.lt_succ_self _, e⟩
    · rw [if_neg e] at h
      have := ls_at_lt h
      exact ⟨by omega, this.2⟩
theorem ls_at_mono {K : Nat → Int32} {k : Int32} {q : Nat} : ∀ n, q ≤ n → (∀ r, ls_at K k n = some r → r < q) → ls_at K k n = ls_at K k q
  | 0, h, _ => by
    have : q = 0 := by omega
    rw [this]
  | n + 1, h, hr => by
    by_cases e : q = n + 1
    · rw [e]
    · rw [ls_at_s] at hr ⊢
      by_cases e2 : K n = k
      · rw [if_pos e2] at hr
        have := hr n rfl
        omega
      · rw [if_neg e2] at hr ⊢
        exact ls_at_mono n (by omega) hr
theorem ls_at_congr {K K' : Nat → Int32} {k : Int32} : ∀ n, (∀ r, r < n → K r = K' r) → ls_at K k n = ls_at K' k n
  | 0, _ => rfl
  | n + 1, h => by
    rw [ls_at_s, ls_at_s, h n (Nat.lt_succ_self _), ls_at_congr n (fun r hr => h r (by omega))]
theorem ls_at_none {K : Nat → Int32} {k : Int32} : ls_at K k 0 = none := rfl
/-- no entry of the key below q: nothing is cut away -/
theorem ls_cut_none {K : Nat → Int32} {k : Int32} {q n : Nat} (hq : q ≤ n) (h : ls_cut (ls_at K k n) q = none) : ls_at K k n = ls_at K k q := by
  refine ls_at_mono n hq (fun r hr => ?_)
  rw [hr] at h
  rw [ls_cut_s] at h
  by_cases e : q ≤ r
  · rw [if_pos e] at h
    cases h
  · omega
theorem ls_cut_some {r : Option Nat} {q j : Nat} (h : ls_cut r q = some j) : r = some j ∧ q ≤ j := by
  cases r with
  | none => cases h
  | some i =>
    rw [ls_cut_s] at h
    by_cases e : q ≤ i
    · rw [if_pos e] at h
      cases h
      exact ⟨rfl, e⟩
    · rw [if_neg e] at h
      cases h
theorem ls_cut_self {K : Nat → Int32} {k : Int32} {n : Nat} : ls_cut (ls_at K k n) n = none := by
  cases h : ls_at K k n with
  | none => rfl
  | some r =>
    have := (ls_at_lt h).1
    rw [ls_cut_s, if_neg (by omega)]
/-- the chain fields of a row of n entries are right -/
def ls_ok (K X E la : Nat → Int32) (n : Nat) : Prop := (∀ r, r < n → ∃ j, j < 16 ∧ K r = nI j) ∧ (∀ r, r < n → X r = 0 ∨ X r = 1) ∧ (∀ r, r < n → E r = ls_i (ls_at K (K r) r)) ∧ (∀ j, j < 16 → la j = ls_i (ls_at K (nI j) n))
theorem ls_nI {i j : Nat} (hi : i < 16) (hj : j < 16) : nI i = nI j ↔ i = j := nI_eq (by omega) (by omega)
theorem ls_ok_push {K X E la : Nat → Int32} {n j : Nat} {x0 : Int32} (h : ls_ok K X E la n) (hj : j < 16) (hx : x0 = 0 ∨ x0 = 1) : ls_ok (upd K n (nI j)) (upd X n x0) (upd E n (la j)) (upd la j (nI n)) (n + 1) := by
  have hc : ∀ k i, i ≤ n → ls_at (upd K n (nI j)) k i = ls_at K k i := fun k i hi => ls_at_congr i (fun r hr => pk_un (by omega))
  refine ⟨fun r hr => ?_, fun r hr => ?_, fun r hr => ?_, fun i hi => ?_⟩
  · by_cases e : r = n
    · exact ⟨j, hj, by rw [e, pk_us]⟩
    · rw [pk_un e]
      exact h.1 r (by omega)
  · by_cases e : r = n
    · rw [e, pk_us]
      exact hx
    · rw [pk_un e]
      exact h.2.1 r (by omega)
  · by_cases e : r = n
    · rw [e, pk_us, pk_us, hc _ _ (Nat.le_refl _)]
      exact h.2.2.2 j hj
    · rw [pk_un e, pk_un e, hc _ _ (by omega)]
      exact h.2.2.1 r (by omega)
  · rw [ls_at_s, pk_us]
    by_cases e : i = j
    · rw [e, pk_us, if_pos rfl]
      rfl
    · rw [pk_un e, if_neg (fun q => e ((ls_nI hj hi).mp q).symm), hc _ _ (Nat.le_refl _)]
      exact h.2.2.2 i hi
theorem ls_pv_congr {K X V K' X' V' : Nat → Int32} {k : Int32} (n : Nat) (h : ∀ r, r < n → K r = K' r ∧ X r = X' r ∧ V r = V' r) : ls_pv K X V k n = ls_pv K' X' V' k n := by
  unfold ls_pv
  rw [ls_at_congr n (fun r hr => (h r hr).1)]
  cases e : ls_at K' k n with
  | none => rfl
  | some r =>
    have := h r (ls_at_lt e).1
    rw [ls_e_s, ls_e_s, this.2.1, this.2.2]
theorem ls_pv_keep {K X V : Nat → Int32} {k a0 b0 c0 : Int32} {n q : Nat} (h : q ≤ n) : ls_pv (upd K n a0) (upd X n b0) (upd V n c0) k q = ls_pv K X V k q := ls_pv_congr q (fun r hr => ⟨pk_un (by omega), pk_un (by omega), pk_un (by omega)⟩)
theorem ls_pv_push {K X V : Nat → Int32} {n i j : Nat} {x0 v : Int32} (hi : i < 16) (hj : j < 16) : ls_pv (upd K n (nI j)) (upd X n x0) (upd V n v) (nI i) (n + 1) = if i = j then (if x0 = 0 then some v else none) else ls_pv K X V (nI i) n := by
  by_cases e : i = j
  · rw [if_pos e]
    unfold ls_pv
    rw [ls_at_s, pk_us, e, if_pos rfl]
    rw [ls_e_s, pk_us, pk_us]
  · rw [if_neg e, ← ls_pv_keep (K := K) (X := X) (V := V) (a0 := nI j) (b0 := x0) (c0 := v) (Nat.le_refl n)]
    unfold ls_pv
    rw [ls_at_s, pk_us, if_neg (fun q => e ((ls_nI hj hi).mp q).symm)]
theorem ls_pv_e {K X V : Nat → Int32} {k : Int32} {n r : Nat} (h : ls_at K k n = some r) : ls_pv K X V k n = if X r = 0 then some (V r) else none := by
  unfold ls_pv
  rw [h]
  rfl
theorem ls_hd_pv {K X V : Nat → Int32} {k : Int32} {n : Nat} : ls_hd X (ls_at K k n) = if (ls_pv K X V k n).isSome then 1 else 0 := by
  unfold ls_pv
  cases ls_at K k n with
  | none => rfl
  | some r =>
    rw [ls_hd_s, ls_e_s]
    by_cases e : X r = 0
    · rw [if_pos e, if_pos e]; rfl
    · rw [if_neg e, if_neg e]; rfl
/-! narrowing: small entries and flags stay what they are -/
theorem ls_b8 : ∀ j, j < 128 → (nI j).toInt8.toInt32 = nI j := by decide +kernel
theorem ls_b8m : (-1 : Int32).toInt8.toInt32 = -1 := by decide +kernel
theorem ls_nb {j : Nat} (h : j < 128) : vp_nar .byte (nI j) = nI j := by rw [vp_nar_byte]; exact ls_b8 j h
theorem ls_nbi {r : Option Nat} (h : ∀ j, r = some j → j < 128) : vp_nar .byte (ls_i r) = ls_i r := by
  rw [vp_nar_byte]
  cases r with
  | none => exact ls_b8m
  | some j => exact ls_b8 j (h j rfl)
theorem ls_b8i {r : Option Nat} (h : ∀ j, r = some j → j < 128) : (ls_i r).toInt8.toInt32 = ls_i r := by
  cases r with
  | none => exact ls_b8m
  | some j => exact ls_b8 j (h j rfl)
theorem ls_nz {x0 : Int32} (h : x0 = 0 ∨ x0 = 1) : vp_nar .boolean x0 = x0 := by
  rcases h with h | h <;> rw [h] <;> decide +kernel
theorem ls_at_b {K : Nat → Int32} {k : Int32} {n N : Nat} (h : n ≤ N) : ∀ j, ls_at K k n = some j → j < N := fun j hj => Nat.lt_of_lt_of_le (ls_at_lt hj).1 h
/-! the abstract state: cu, ba, sa (current, without the running transaction, safe), o (a transaction runs), ch (its changes) -/
def ls_Q (N n q c : Nat) (K X V E la : Nat → Int32) (op os : Int32) (cu ba sa : Nat → Option Int32) (o : Bool) (ch : Int32) : Prop :=
  n ≤ N ∧ q ≤ c ∧ c ≤ n ∧ (o = true → op = 1 ∧ os = nI c) ∧ (o = false → op = 0 ∧ c = n ∧ ch = 0) ∧ ls_ok K X E la n ∧ (∀ j, j < 16 → ls_pv K X V (nI j) n = cu j) ∧ (∀ j, j < 16 → ls_pv K X V (nI j) c = ba j) ∧ (∀ j, j < 16 → ls_pv K X V (nI j) q = sa j)
def ls_R (N : Nat) (K X V E la : Nat → Int32) (en se op os oc : Int32) (cu ba sa : Nat → Option Int32) (o : Bool) (ch : Int32) : Prop :=
  oc = ch ∧ ∃ n q c : Nat, en = nI n ∧ se = nI q ∧ ls_Q N n q c K X V E la op os cu ba sa o ch
/-! keys and answers -/
def ls_kb (k : Int32) : Int32 := if k < 0 then 0 else if nI 16 ≤ k then 0 else 1
theorem ls_kb_c (k : Int32) : (ls_kb k = 0 ∧ (k < 0 ∨ nI 16 ≤ k)) ∨ ∃ j, j < 16 ∧ k = nI j ∧ ls_kb k = 1 := by
  rcases pk_ix k (n := 16) (by omega) with h | h | ⟨j, hj, e⟩
  · exact Or.inl ⟨by unfold ls_kb; rw [if_pos h], Or.inl h⟩
  · refine Or.inl ⟨?_, Or.inr h⟩
    unfold ls_kb
    by_cases h0 : k < 0
    · rw [if_pos h0]
    · rw [if_neg h0, if_pos h]
  · refine Or.inr ⟨j, hj, e, ?_⟩
    unfold ls_kb
    rw [e, if_neg (nI_pos (by omega)), if_neg (nI_ge hj (by omega))]
theorem ls_kb_1 {j : Nat} (hj : j < 16) : ls_kb (nI j) = 1 := by
  unfold ls_kb
  rw [if_neg (nI_pos (by omega)), if_neg (nI_ge hj (by omega))]
theorem ls_cl {j : Nat} (hj : j < 16) : (nI j).toNatClampNeg = j := nI_clamp (by omega)
def ls_has (cu : Nat → Option Int32) (k : Int32) : Int32 := if ls_kb k = 0 then 0 else if (cu k.toNatClampNeg).isSome then 1 else 0
def ls_get (cu : Nat → Option Int32) (k : Int32) : Int32 := if ls_kb k = 0 then 0 else (cu k.toNatClampNeg).getD 0
/-- a change at key j (b = 0: none): the current state, the one without the transaction, the count -/
def ls_cC (b : Int32) (cu : Nat → Option Int32) (k : Int32) (v : Option Int32) : Nat → Option Int32 := if b = 0 then cu else ls_up cu k.toNatClampNeg v
def ls_cB (b : Int32) (o : Bool) (cu ba : Nat → Option Int32) (k : Int32) (v : Option Int32) : Nat → Option Int32 := if b = 0 then ba else if o = true then ba else ls_up cu k.toNatClampNeg v
def ls_cN (b : Int32) (o : Bool) (ch : Int32) : Int32 := if b = 0 then ch else if o = true then ch + 1 else ch
/-- the next key from k on -/
def ls_nx (cu : Nat → Option Int32) (k r : Int32) : Prop := (r = -1 ∧ ∀ i, i < 16 → k ≤ nI i → cu i = none) ∨ ∃ i, i < 16 ∧ r = nI i ∧ k ≤ nI i ∧ cu i ≠ none ∧ ∀ j, j < i → k ≤ nI j → cu j = none
theorem ls_nx_u {cu : Nat → Option Int32} {k r r' : Int32} (h : ls_nx cu k r) (h' : ls_nx cu k r') : r = r' := by
  rcases h with ⟨e, h⟩ | ⟨i, hi, e, hk, hc, hb⟩ <;> rcases h' with ⟨e', h'⟩ | ⟨i', hi', e', hk', hc', hb'⟩
  · rw [e, e']
  · exact absurd (h i' hi' hk') hc'
  · exact absurd (h' i hi hk) hc
  · rcases Nat.lt_trichotomy i i' with z | z | z
    · exact absurd (hb' i z hk) hc
    · rw [e, e', z]
    · exact absurd (hb i' z hk') hc'
def ls_ct (cu : Nat → Option Int32) : Nat → Nat
  | 0 => 0
  | n + 1 => ls_ct cu n + if (cu n).isSome then 1 else 0
/-- masks, by their bits -/
def ls_mk (f : Nat → Bool) (r : Int32) : Prop := ∀ i, i < 32 → bt r i = (decide (i < 16) && f i)
theorem ls_mk_u {f : Nat → Bool} {r r' : Int32} (h : ls_mk f r) (h' : ls_mk f r') : r = r' := b_ext (fun i hi => (h i hi).trans (h' i hi).symm)
/-! the row written anew: what each key shows goes from f to g, key by key -/
def ls_mix (f g : Nat → Option Int32) (i : Nat) : Nat → Option Int32 := fun j => if j < i then g j else f j
theorem ls_mix_0 {f g : Nat → Option Int32} (j : Nat) : ls_mix f g 0 j = f j := by simp [ls_mix]
theorem ls_mix_e {f g : Nat → Option Int32} {j i : Nat} (h : j < i) : ls_mix f g i j = g j := by simp [ls_mix, h]
theorem ls_mix_skip {f g : Nat → Option Int32} {i : Nat} (h : g i = f i) (j : Nat) : ls_mix f g (i + 1) j = ls_mix f g i j := by
  unfold ls_mix
  by_cases e : j = i
  · rw [e, if_pos (Nat.lt_succ_self i), if_neg (Nat.lt_irrefl i), h]
  · by_cases e2 : j < i
    · rw [if_pos e2, if_pos (by omega)]
    · rw [if_neg e2, if_neg (by omega)]
theorem ls_mix_push {K X V : Nat → Int32} {f g : Nat → Option Int32} {n i : Nat} {x0 v : Int32} (hi : i < 16) (h : ∀ j, j < 16 → ls_pv K X V (nI j) n = ls_mix f g i j) (hg : g i = if x0 = 0 then some v else none) : ∀ j, j < 16 → ls_pv (upd K n (nI i)) (upd X n x0) (upd V n v) (nI j) (n + 1) = ls_mix f g (i + 1) j := by
  intro j hj
  rw [ls_pv_push hj hi]
  by_cases e : j = i
  · rw [if_pos e, ls_mix_e (by omega), e, hg]
  · rw [if_neg e, h j hj]
    unfold ls_mix
    by_cases e2 : j < i
    · rw [if_pos e2, if_pos (by omega)]
    · rw [if_neg e2, if_neg (by omega)]
theorem ls_ok_congr {K X E la K' X' E' : Nat → Int32} {n : Nat} (h : ls_ok K X E la n) (hc : ∀ r, r < n → K' r = K r ∧ X' r = X r ∧ E' r = E r) : ls_ok K' X' E' la n := by
  have ha : ∀ k i, i ≤ n → ls_at K' k i = ls_at K k i := fun k i hi => ls_at_congr i (fun r hr => (hc r (by omega)).1)
  refine ⟨fun r hr => ?_, fun r hr => ?_, fun r hr => ?_, fun j hj => ?_⟩
  · rw [(hc r hr).1]; exact h.1 r hr
  · rw [(hc r hr).2.1]; exact h.2.1 r hr
  · rw [(hc r hr).2.2, (hc r hr).1, ha _ _ (by omega)]; exact h.2.2.1 r hr
  · rw [ha _ _ (Nat.le_refl n)]; exact h.2.2.2 j hj
theorem ls_ok_nb {K X E la : Nat → Int32} {n j : Nat} (h : ls_ok K X E la n) (hn : n ≤ 96) (hj : j < 16) : vp_nar .byte (la j) = la j := by
  rw [h.2.2.2 j hj]
  exact ls_nbi (fun i hi => by have := (ls_at_lt hi).1; omega)
theorem ls_ok_0 {K X E la : Nat → Int32} (h : ∀ j, j < 16 → la j = -1) : ls_ok K X E la 0 := ⟨fun r hr => by omega, fun r hr => by omega, fun r hr => by omega, fun j hj => h j hj⟩
theorem ls_hd_0 {K X V : Nat → Int32} {k : Int32} {n : Nat} (h : ls_hd X (ls_at K k n) = 0) : ls_pv K X V k n = none := by
  rw [ls_hd_pv (V := V)] at h
  cases e : ls_pv K X V k n with
  | none => rfl
  | some v => rw [e] at h; exact absurd (show (1 : Int32) = 0 from h) (by decide)
theorem ls_hd_1 {X : Nat → Int32} {r : Option Nat} (h : ¬ ls_hd X r = 0) : ∃ i, r = some i ∧ X i = 0 := by
  cases r with
  | none => exact absurd rfl h
  | some i =>
    rw [ls_hd_s] at h
    by_cases e : X i = 0
    · exact ⟨i, rfl, e⟩
    · rw [if_neg e] at h; exact absurd rfl h
/-- the whole row anew -/
theorem ls_Q_rw {N n q c n' q' c' : Nat} {K X V E la K' X' V' E' la' nk nr nv ne : Nat → Int32} {op os os' : Int32} {cu ba sa : Nat → Option Int32} {o : Bool} {ch : Int32} (h : ls_Q N n q c K X V E la op os cu ba sa o ch) (h1 : n' ≤ 48) (h2 : q' ≤ c') (h3 : c' ≤ n') (hos : os' = nI c') (ho : o = false → c' = n') (hok : ls_ok nk nr ne la' n') (hcp : ∀ r, r < n' → K' r = nk r ∧ X' r = nr r ∧ V' r = nv r ∧ E' r = ne r)
    (hn : ∀ j, j < 16 → ls_pv nk nr nv (nI j) n' = ls_pv K X V (nI j) n) (hc : ∀ j, j < 16 → ls_pv nk nr nv (nI j) c' = ls_pv K X V (nI j) c) (hq : ∀ j, j < 16 → ls_pv nk nr nv (nI j) q' = ls_pv K X V (nI j) q) : ls_Q 48 n' q' c' K' X' V' E' la' op os' cu ba sa o ch := by
  obtain ⟨-, -, -, g1, g2, -, g3, g4, g5⟩ := h
  have hp : ∀ z, z ≤ n' → ∀ k, ls_pv K' X' V' k z = ls_pv nk nr nv k z := fun z hz k => ls_pv_congr z (fun r hr => by
    have := hcp r (by omega)
    exact ⟨this.1, this.2.1, this.2.2.1⟩)
  refine ⟨h1, h2, h3, fun e => ⟨(g1 e).1, hos⟩, fun e => ⟨(g2 e).1, ho e, (g2 e).2.2⟩, ls_ok_congr hok (fun r hr => ⟨(hcp r hr).1, (hcp r hr).2.1, (hcp r hr).2.2.2⟩), fun j hj => ?_, fun j hj => ?_, fun j hj => ?_⟩
  · rw [hp _ (Nat.le_refl _), hn j hj, g3 j hj]
  · rw [hp _ h3, hc j hj, g4 j hj]
  · rw [hp _ (by omega), hq j hj, g5 j hj]
end
section
/-! the abstract state under the class's calls -/
theorem ls_R_mono {N M : Nat} {K X V E la : Nat → Int32} {en se op os oc : Int32} {cu ba sa : Nat → Option Int32} {o : Bool} {ch : Int32} (hNM : N ≤ M) (h : ls_R N K X V E la en se op os oc cu ba sa o ch) : ls_R M K X V E la en se op os oc cu ba sa o ch := by
  obtain ⟨hoc, n, q, c, e1, e2, hn, hr⟩ := h
  exact ⟨hoc, n, q, c, e1, e2, Nat.le_trans hn hNM, hr⟩
theorem ls_Q_app {N n q c j : Nat} {K X V E la : Nat → Int32} {op os x0 v : Int32} {cu ba sa : Nat → Option Int32} {o : Bool} {ch : Int32} (h : ls_Q N n q c K X V E la op os cu ba sa o ch) (hn : n < 96) (hj : j < 16) (hx : x0 = 0 ∨ x0 = 1) :
    ls_Q 96 (n + 1) q (if o = true then c else n + 1) (upd K n (nI j)) (upd X n x0) (upd V n v) (upd E n (la j)) (upd la j (nI n)) op os (ls_up cu j (if x0 = 0 then some v else none)) (if o = true then ba else ls_up cu j (if x0 = 0 then some v else none)) sa o (if o = true then ch + 1 else ch) := by
  obtain ⟨h1, h2, h3, ho1, ho0, hok, hcu, hba, hsa⟩ := h
  have hcu' : ∀ i, i < 16 → ls_pv (upd K n (nI j)) (upd X n x0) (upd V n v) (nI i) (n + 1) = ls_up cu j (if x0 = 0 then some v else none) i := by
    intro i hi
    rw [ls_pv_push hi hj]
    by_cases e : i = j
    · rw [if_pos e, e, ls_up_s]
    · rw [if_neg e, ls_up_n e]; exact hcu i hi
  cases o with
  | true =>
    refine ⟨by omega, h2, Nat.le_succ_of_le h3, ho1, fun z => (by cases z), ls_ok_push hok hj hx, hcu', fun i hi => ?_, fun i hi => ?_⟩
    · rw [if_pos rfl, if_pos rfl, ls_pv_keep h3]; exact hba i hi
    · rw [ls_pv_keep (by omega)]; exact hsa i hi
  | false =>
    refine ⟨by omega, ?_, Nat.le_refl _, fun z => (by cases z), fun z => ⟨(ho0 rfl).1, rfl, (ho0 rfl).2.2⟩, ls_ok_push hok hj hx, hcu', hcu', fun i hi => ?_⟩
    · show q ≤ n + 1
      omega
    · rw [ls_pv_keep (by omega)]; exact hsa i hi
theorem ls_cC_0 {b : Int32} {cu : Nat → Option Int32} {k : Int32} {v : Option Int32} (h : b = 0) : ls_cC b cu k v = cu := by unfold ls_cC; rw [if_pos h]
theorem ls_cB_0 {b : Int32} {o : Bool} {cu ba : Nat → Option Int32} {k : Int32} {v : Option Int32} (h : b = 0) : ls_cB b o cu ba k v = ba := by unfold ls_cB; rw [if_pos h]
theorem ls_cN_0 {b : Int32} {o : Bool} {ch : Int32} (h : b = 0) : ls_cN b o ch = ch := by unfold ls_cN; rw [if_pos h]
theorem ls_cC_1 {b : Int32} {cu : Nat → Option Int32} {j : Nat} {v : Option Int32} (h : ¬ b = 0) (hj : j < 16) : ls_cC b cu (nI j) v = ls_up cu j v := by unfold ls_cC; rw [if_neg h, ls_cl hj]
theorem ls_cB_1 {b : Int32} {o : Bool} {cu ba : Nat → Option Int32} {j : Nat} {v : Option Int32} (h : ¬ b = 0) (hj : j < 16) : ls_cB b o cu ba (nI j) v = if o = true then ba else ls_up cu j v := by unfold ls_cB; rw [if_neg h, ls_cl hj]
theorem ls_cN_1 {b : Int32} {o : Bool} {ch : Int32} (h : ¬ b = 0) : ls_cN b o ch = if o = true then ch + 1 else ch := by unfold ls_cN; rw [if_neg h]
theorem ls_has_0 {cu : Nat → Option Int32} {k : Int32} (h : ls_kb k = 0) : ls_has cu k = 0 := by unfold ls_has; rw [if_pos h]
theorem ls_has_j {cu : Nat → Option Int32} {j : Nat} (hj : j < 16) : ls_has cu (nI j) = if (cu j).isSome then 1 else 0 := by
  unfold ls_has
  rw [if_neg (by rw [ls_kb_1 hj]; decide), ls_cl hj]
theorem ls_has_hd {K X V : Nat → Int32} {cu : Nat → Option Int32} {n j : Nat} (hj : j < 16) (h : ls_pv K X V (nI j) n = cu j) : ls_has cu (nI j) = ls_hd X (ls_at K (nI j) n) := by
  rw [ls_has_j hj, ls_hd_pv (V := V), h]
theorem ls_hd_ne {X : Nat → Int32} {r : Option Nat} (h : ¬ ls_hd X r = 0) : ls_hd X r = 1 := by
  obtain ⟨i, e, hx⟩ := ls_hd_1 h
  rw [e, ls_hd_s, if_pos hx]
/-- a key that is held: its number, and the entry that shows it -/
theorem ls_has_ne {cu : Nat → Option Int32} {k : Int32} (h : ¬ ls_has cu k = 0) : ∃ j v, j < 16 ∧ k = nI j ∧ cu j = some v ∧ ls_has cu k = 1 := by
  rcases ls_kb_c k with ⟨h0, -⟩ | ⟨j, hj, e, -⟩
  · exact absurd (ls_has_0 h0) h
  · rw [e, ls_has_j hj] at h ⊢
    cases hc : cu j with
    | none => rw [hc] at h; exact absurd rfl h
    | some v => exact ⟨j, v, hj, rfl, hc, rfl⟩
theorem ls_has_no {cu : Nat → Option Int32} {j : Nat} (hj : j < 16) (h : ls_has cu (nI j) = 0) : cu j = none := by
  rw [ls_has_j hj] at h
  cases hc : cu j with
  | none => rfl
  | some v => rw [hc] at h; exact absurd (show (1 : Int32) = 0 from h) (by decide)
theorem ls_get_0 {cu : Nat → Option Int32} {k : Int32} (h : ls_has cu k = 0) : ls_get cu k = 0 := by
  rcases ls_kb_c k with ⟨h0, -⟩ | ⟨j, hj, e, -⟩
  · unfold ls_get; rw [if_pos h0]
  · rw [e] at h ⊢
    unfold ls_get
    rw [if_neg (by rw [ls_kb_1 hj]; decide), ls_cl hj, ls_has_no hj h]
    rfl
theorem ls_get_1 {cu : Nat → Option Int32} {j : Nat} {v : Int32} (hj : j < 16) (h : cu j = some v) : ls_get cu (nI j) = v := by
  unfold ls_get
  rw [if_neg (by rw [ls_kb_1 hj]; decide), ls_cl hj, h]
  rfl
theorem ls_get_k {cu : Nat → Option Int32} {k : Int32} (h : ls_kb k = 0) : ls_get cu k = 0 := by unfold ls_get; rw [if_pos h]
theorem ls_get_n {cu : Nat → Option Int32} {j : Nat} (hj : j < 16) (h : cu j = none) : ls_get cu (nI j) = 0 := by
  unfold ls_get
  rw [if_neg (by rw [ls_kb_1 hj]; decide), ls_cl hj, h]
  rfl
/-- what is seen, by its entry -/
theorem ls_pv_some {K X V : Nat → Int32} {k v : Int32} {n : Nat} (h : ls_pv K X V k n = some v) : ∃ r, ls_at K k n = some r ∧ X r = 0 ∧ V r = v ∧ r < n := by
  cases e : ls_at K k n with
  | none => unfold ls_pv at h; rw [e] at h; cases h
  | some r =>
    rw [ls_pv_e e] at h
    by_cases hx : X r = 0
    · rw [if_pos hx] at h
      exact ⟨r, rfl, hx, Option.some.inj h, (ls_at_lt e).1⟩
    · rw [if_neg hx] at h; cases h
theorem ls_pv_hd1 {K X V : Nat → Int32} {k : Int32} {n r : Nat} (h : ls_at K k n = some r) (hx : X r = 0) : ls_pv K X V k n = some (V r) := by rw [ls_pv_e h, if_pos hx]
theorem ls_ct_s {cu : Nat → Option Int32} {i : Nat} : ls_ct cu (i + 1) = ls_ct cu i + if (cu i).isSome then 1 else 0 := rfl
theorem ls_ct_le {cu : Nat → Option Int32} : ∀ i, ls_ct cu i ≤ i
  | 0 => Nat.le_refl 0
  | i + 1 => by
    have := ls_ct_le (cu := cu) i
    rw [ls_ct_s]
    by_cases h : (cu i).isSome = true
    · rw [if_pos h]; omega
    · rw [if_neg h]; omega
theorem ls_mi_mk {f : Nat → Bool} {r : Int32} (h : ls_mi f 16 r) : ls_mk f r := h
/-- whether a key differs from the safe state -/
def ls_df (cu sa : Nat → Option Int32) (j : Nat) : Int32 := if cu j = sa j then 0 else 1
theorem ls_Q_cut {N n q c : Nat} {K X V E la la' : Nat → Int32} {op os : Int32} {cu ba sa : Nat → Option Int32} {o : Bool} {ch : Int32} (h : ls_Q N n q c K X V E la op os cu ba sa o ch) (hla : ∀ j, j < 16 → la' j = ls_i (ls_at K (nI j) c)) : ls_Q N c q c K X V E la' 0 os ba ba sa false 0 := by
  obtain ⟨h1, h2, h3, -, -, hok, -, hba, hsa⟩ := h
  exact ⟨by omega, h2, Nat.le_refl _, fun z => (by cases z), fun _ => ⟨rfl, rfl, rfl⟩, ⟨fun r hr => hok.1 r (by omega), fun r hr => hok.2.1 r (by omega), fun r hr => hok.2.2.1 r (by omega), hla⟩, hba, hba, hsa⟩
theorem ls_Q_crash {N n q c : Nat} {K X V E E' la la' : Nat → Int32} {op os : Int32} {cu ba sa : Nat → Option Int32} {o : Bool} {ch : Int32} (h : ls_Q N n q c K X V E la op os cu ba sa o ch) (hok' : ls_ok K X E' la' q) : ls_Q N q q q K X V E' la' 0 os sa sa sa false 0 := by
  obtain ⟨h1, h2, h3, -, -, hok, -, hba, hsa⟩ := h
  exact ⟨by omega, Nat.le_refl _, Nat.le_refl _, fun z => (by cases z), fun _ => ⟨rfl, rfl, rfl⟩, hok', hsa, hsa, hsa⟩
/-- one entry of the row read anew -/
theorem ls_ok_read {K X E la : Nat → Int32} {i j : Nat} (h : ls_ok K X E la i) (hj : j < 16) (hK : K i = nI j) (hX : X i = 0 ∨ X i = 1) : ls_ok K X (upd E i (la j)) (upd la j (nI i)) (i + 1) := by
  have h1 := ls_ok_push h hj hX
  have e1 : upd K i (nI j) = K := by
    funext z
    by_cases e : z = i
    · rw [e, pk_us, hK]
    · rw [pk_un e]
  have e2 : upd X i (X i) = X := by
    funext z
    by_cases e : z = i
    · rw [e, pk_us]
    · rw [pk_un e]
  rw [e1, e2] at h1
  exact h1
end
section
set_option maxRecDepth 100000
abbrev ls_C : List vw_C := [(RX0, TX0, 17), (RX1, TX1, 8)]
def ls_T (dB dZ dN : ClassId) : List (ClassId × FieldType) := [(dB, .byte), (dZ, .boolean), (dN, .int)]
def ls_W (h : Nat) (a : Nat → Nat) (dB dZ dN : ClassId) (K : Nat → Int32) (X : Nat → Int32) (V : Nat → Int32) (E : Nat → Int32) (en : Int32) (se : Int32) (op : Int32) (os : Int32) (oc : Int32) (la : Nat → Int32) (ks : Nat → Int32) (kl : Nat → Int32) (ko : Nat → Int32) (nk : Nat → Int32) (nr : Nat → Int32) (nv : Nat → Int32) (ne : Nat → Int32) : va_W := [(h, .inr (0, [.ref (a 0), .ref (a 1), .ref (a 2), .ref (a 3), .int en, .int se, .int op, .int os, .int oc, .ref (a 4), .ref (a 5), .ref (a 6), .ref (a 7), .ref (a 8), .ref (a 9), .ref (a 10), .ref (a 11)])), (a 0, .inl (dB, 96, .inl K)), (a 1, .inl (dZ, 96, .inl X)), (a 2, .inl (dN, 96, .inl V)), (a 3, .inl (dB, 96, .inl E)), (a 4, .inl (dB, 16, .inl la)), (a 5, .inl (dB, 16, .inl ks)), (a 6, .inl (dB, 16, .inl kl)), (a 7, .inl (dB, 16, .inl ko)), (a 8, .inl (dB, 96, .inl nk)), (a 9, .inl (dZ, 96, .inl nr)), (a 10, .inl (dN, 96, .inl nv)), (a 11, .inl (dB, 96, .inl ne))]
def ml_W (h : Nat) (a : Nat → Nat) (dN : ClassId) (ky : Int32) (bk : Int32) (kp : Int32) (op : Int32) (cg : Int32) (vv : Nat → Int32) (bv : Nat → Int32) (kv : Nat → Int32) : va_W := [(h, .inr (1, [.int ky, .int bk, .int kp, .ref (a 0), .ref (a 1), .ref (a 2), .int op, .int cg])), (a 0, .inl (dN, 16, .inl vv)), (a 1, .inl (dN, 16, .inl bv)), (a 2, .inl (dN, 16, .inl kv))]
/-! compares of small numbers -/
section
variable {p : Program} {l : Launch} {e : Env} {R : Room} {s : State} {m : MethodId} {args : Array Value} {below : List Frame} {meth : Method} {c : Code} {H : Heap} {locs : List Loc} {cells slots : Nat} {Q : State → Prop} {cc : ByteArray} {pc : Nat} {ls : Array Slot} {rest : List Value}
theorem ls_ige (hx : p.tables.exec = Jvm.exec) (hb : c.code = cc) {i j : Nat} {off : Int} {tgt : Nat} (hi : i < 2 ^ 31) (hj : j < 2 ^ 31) (hd : decode cc pc = .ok (.if_icmp .ge off, 3)) (ht : (pc : Int) + off = (tgt : Int))
    (kt : j ≤ i → W p l e R s m args below meth c H locs cells slots Q (F0 m tgt ls rest)) (kf : i < j → W p l e R s m args below meth c H locs cells slots Q (F0 m (pc + 3) ls rest)) : W p l e R s m args below meth c H locs cells slots Q (F0 m pc ls (.int (nI j) :: .int (nI i) :: rest)) :=
  lv_icmp_ge hx hb hd ht (fun q => kt ((nI_leI hj hi).mp q)) (fun q => kf (Nat.not_le.mp fun z => q ((nI_leI hj hi).mpr z)))
theorem ls_ilt (hx : p.tables.exec = Jvm.exec) (hb : c.code = cc) {i j : Nat} {off : Int} {tgt : Nat} (hi : i < 2 ^ 31) (hj : j < 2 ^ 31) (hd : decode cc pc = .ok (.if_icmp .lt off, 3)) (ht : (pc : Int) + off = (tgt : Int))
    (kt : i < j → W p l e R s m args below meth c H locs cells slots Q (F0 m tgt ls rest)) (kf : j ≤ i → W p l e R s m args below meth c H locs cells slots Q (F0 m (pc + 3) ls rest)) : W p l e R s m args below meth c H locs cells slots Q (F0 m pc ls (.int (nI j) :: .int (nI i) :: rest)) :=
  lv_icmp_lt hx hb hd ht (fun q => kt ((nI_ltI hi hj).mp q)) (fun q => kf (Nat.not_lt.mp fun z => q ((nI_ltI hi hj).mpr z)))
theorem ls_inc (i : Nat) : nI i + Int32.ofInt 1 = nI (i + 1) := nI_1 i
theorem ls_rd (S0 : Prop) (h : S0) : S0 := h
end
/-! calls of a class's own methods, on the same object: a reader (the heap stays), a writer -/
section
variable {p : Program} {l : Launch} {e : Env} {R : Room} {s : State} {m : MethodId} {args : Array Value} {below : List Frame} {meth : Method} {c : Code} {H : Heap} {locs : List Loc} {cells slots : Nat} {Q : State → Prop}
variable {cc : ByteArray} {nL pc : Nat} {ls : Array Slot} {rest st0 : List Value} {dC : Nat → ClassId} {dI : Nat → Nat → Nat} {A : Nat → Prop} {H0 : Heap} {dB dZ dN : ClassId}
variable {h : Nat} {a : Nat → Nat}
variable {own C : String} {y : MethodName} {bytes : ByteArray} {maxL n index ci : Nat} {ret : Option FieldType} {rm : Room} {As fs : List Value} {q0 : vw_C} {w0 : va_W} {tys : List (ClassId × FieldType)}
theorem ls_rV {post : Int32 → Prop} (S : CallFix p m c cc nL s args lw_all own) (hK : va_K (dC, dI) ls_C tys s) (hP : va_P (dC, dI) ls_C w0 H) (hM : Met l y (ws_ y bytes maxL ret) rm (va_Pc (.ref h :: As) (fun U => va_P (dC, dI) ls_C w0 U.heap ∧ va_K (dC, dI) ls_C tys U)) (vp_Si post) 0 0 (fun _ => False)) (cw : CallW R s args own q0.1 index y bytes maxL ret (ws_ y bytes maxL ret) rm 0 0 n)
    (hc : ls_C[ci]? = some q0) (he : w0[0]? = some (h, .inr (ci, fs))) (hn : As.length = n) (hsz : ls.size = nL) (hst : st0 = As.reverse ++ .ref h :: rest) (hrm : (rest.map fun v => v.category).sum ≤ 8) (hd : decode cc pc = .ok (.invokevirtual index, 3)) (hf : cells ≤ R.cells ∧ slots ≤ R.slots)
    (kk : ∀ r : Int32, post r → W p l e R s m args below meth c H locs cells slots Q (F0 m (pc + 3) ls (.int r :: rest))) : W p l e R s m args below meth c H locs cells slots Q (F0 m pc ls st0) :=
  vp_callSi (va_Run.run (va_runV (As := As) (rest := rest) S hM cw ⟨fun a U g mk q => by obtain ⟨q0, qP, qK⟩ := q; exact ⟨q0, qP, va_K.moved (u := U) (U := U.calling g mk a) (Vm.Alike.refl U.vm) qK⟩, va_recv hK hP hc he, fun U hU hW => ⟨rfl, by rw [hU]; exact hP, va_K.moved hW.alike hK⟩⟩ rfl hn hsz hst (lv_room hrm) hd hf)) kk
theorem ls_cV {S0 : Type} {post : S0 → Prop} {B : S0 → State → Prop} (S : CallFix p m c cc nL s args lw_all own) (hK : va_K (dC, dI) ls_C tys s) (hP : va_P (dC, dI) ls_C w0 H) (hD : va_D A w0) (hS : va_S A H0 H locs) (hA : ∀ q, H0.size ≤ q → A q) (hM : Met l y (ws_ y bytes maxL ret) rm (va_Pc (.ref h :: As) (fun U => U.heap.size = H.size ∧ va_P (dC, dI) ls_C w0 U.heap ∧ va_K (dC, dI) ls_C tys U ∧ va_D (fun _ => True) w0)) (va_Qv post B (va_A w0 H.size)) 0 0 (va_A w0 H.size)) (cw : CallW R s args own q0.1 index y bytes maxL ret (ws_ y bytes maxL ret) rm 0 0 n)
    (hc : ls_C[ci]? = some q0) (he : w0[0]? = some (h, .inr (ci, fs))) (hn : As.length = n) (hsz : ls.size = nL) (hst : st0 = As.reverse ++ .ref h :: rest) (hrm : (rest.map fun v => v.category).sum ≤ 8) (hd : decode cc pc = .ok (.invokevirtual index, 3)) (hf : cells ≤ R.cells ∧ slots ≤ R.slots)
    (kk : ∀ (u : S0) (t : State) (H1 : Heap) (locs1 : List Loc), t.heap = H1 → s.vm.Alike t.vm → post u → B u t → va_S A H0 H1 locs1 → (∀ q, va_A w0 H.size q → A q) → W p l e R s m args below meth c H1 locs1 cells slots Q (F0 m (pc + 3) ls rest)) : W p l e R s m args below meth c H locs cells slots Q (F0 m pc ls st0) := by
  have hF : ∀ q, va_A w0 H.size q → A q := by
    intro q hq
    rcases hq with ⟨k, e0, hk⟩ | hq
    · exact hD.2 k (q, e0) hk
    · exact hA q (Nat.le_trans hS.1 hq)
  exact va_callv (va_runV (As := As) (rest := rest) S hM cw ⟨fun a U g mk q => by obtain ⟨q0, q1, qP, qK, qD⟩ := q; exact ⟨q0, q1, qP, va_K.moved (u := U) (U := U.calling g mk a) (Vm.Alike.refl U.vm) qK, qD⟩, va_recv hK hP hc he, fun U hU hW => ⟨rfl, by rw [hU], by rw [hU]; exact hP, va_K.moved hW.alike hK, hD.weaken (fun _ _ _ _ => trivial)⟩⟩ rfl hn hsz hst (lv_room hrm) hd hf) hS (fun q _ hq => hF q hq) hF (fun u t H1 locs1 ht hvm hp hB _ _ hS1 => kk u t H1 locs1 ht hvm hp hB hS1 hF)
theorem ls_cI {S0 : Type} {post : Int32 → S0 → Prop} {B : S0 → State → Prop} (S : CallFix p m c cc nL s args lw_all own) (hK : va_K (dC, dI) ls_C tys s) (hP : va_P (dC, dI) ls_C w0 H) (hD : va_D A w0) (hS : va_S A H0 H locs) (hA : ∀ q, H0.size ≤ q → A q) (hM : Met l y (ws_ y bytes maxL ret) rm (va_Pc (.ref h :: As) (fun U => U.heap.size = H.size ∧ va_P (dC, dI) ls_C w0 U.heap ∧ va_K (dC, dI) ls_C tys U ∧ va_D (fun _ => True) w0)) (va_Qi post B (va_A w0 H.size)) 0 0 (va_A w0 H.size)) (cw : CallW R s args own q0.1 index y bytes maxL ret (ws_ y bytes maxL ret) rm 0 0 n)
    (hc : ls_C[ci]? = some q0) (he : w0[0]? = some (h, .inr (ci, fs))) (hn : As.length = n) (hsz : ls.size = nL) (hst : st0 = As.reverse ++ .ref h :: rest) (hrm : (rest.map fun v => v.category).sum ≤ 8) (hd : decode cc pc = .ok (.invokevirtual index, 3)) (hf : cells ≤ R.cells ∧ slots ≤ R.slots)
    (kk : ∀ (r : Int32) (u : S0) (t : State) (H1 : Heap) (locs1 : List Loc), t.heap = H1 → s.vm.Alike t.vm → post r u → B u t → va_S A H0 H1 locs1 → (∀ q, va_A w0 H.size q → A q) → W p l e R s m args below meth c H1 locs1 cells slots Q (F0 m (pc + 3) ls (.int r :: rest))) : W p l e R s m args below meth c H locs cells slots Q (F0 m pc ls st0) := by
  have hF : ∀ q, va_A w0 H.size q → A q := by
    intro q hq
    rcases hq with ⟨k, e0, hk⟩ | hq
    · exact hD.2 k (q, e0) hk
    · exact hA q (Nat.le_trans hS.1 hq)
  exact va_calli (va_runV (As := As) (rest := rest) S hM cw ⟨fun a U g mk q => by obtain ⟨q0, q1, qP, qK, qD⟩ := q; exact ⟨q0, q1, qP, va_K.moved (u := U) (U := U.calling g mk a) (Vm.Alike.refl U.vm) qK, qD⟩, va_recv hK hP hc he, fun U hU hW => ⟨rfl, by rw [hU], by rw [hU]; exact hP, va_K.moved hW.alike hK, hD.weaken (fun _ _ _ _ => trivial)⟩⟩ rfl hn hsz hst (lv_room hrm) hd hf) hS (fun q _ hq => hF q hq) hF (fun r u t H1 locs1 ht hvm hp hB _ _ hS1 => kk r u t H1 locs1 ht hvm hp hB hS1 hF)
end
section
variable {p : Program} {l : Launch} {e : Env} {R : Room} {s : State} {m : MethodId} {args : Array Value} {below : List Frame} {meth : Method} {c : Code} {H : Heap} {locs : List Loc} {cells slots : Nat} {Q : State → Prop}
variable {cc : ByteArray} {nL pc : Nat} {ls : Array Slot} {rest st0 : List Value} {dC : Nat → ClassId} {dI : Nat → Nat → Nat} {A : Nat → Prop} {H0 : Heap} {dB dZ dN : ClassId}
variable {h : Nat} {a : Nat → Nat}
variable {K X V E la ks kl ko nk nr nv ne : Nat → Int32} {en se op os oc : Int32}
/-- getfield keyOf -/
theorem ls_g0 (S : CallFix p m c cc nL s args lw_all RX0) (hK : va_K (dC, dI) ls_C (ls_T dB dZ dN) s) (hP : va_P (dC, dI) ls_C (ls_W h a dB dZ dN K X V E en se op os oc la ks kl ko nk nr nv ne) H) (hd : decode cc pc = .ok (.getfield 7, 3))
    (kk : W p l e R s m args below meth c H locs cells slots Q (F0 m (pc + 3) ls (.ref (a 0) :: rest))) : W p l e R s m args below meth c H locs cells slots Q (F0 m pc ls (.ref h :: rest)) :=
  va_get (D := (dC, dI)) (ci := 0) (C := RX0) (T := TX0) (N := 17) S.1 S.2.1 S.2.2.2.2 in_X0 S.2.2.2.1 hK hP 0 rfl rfl 0 (by decide) (S.2.2.2.2 _ q22) (fun _ h9 => h9) rfl hd kk
/-- getfield removes -/
theorem ls_g1 (S : CallFix p m c cc nL s args lw_all RX0) (hK : va_K (dC, dI) ls_C (ls_T dB dZ dN) s) (hP : va_P (dC, dI) ls_C (ls_W h a dB dZ dN K X V E en se op os oc la ks kl ko nk nr nv ne) H) (hd : decode cc pc = .ok (.getfield 13, 3))
    (kk : W p l e R s m args below meth c H locs cells slots Q (F0 m (pc + 3) ls (.ref (a 1) :: rest))) : W p l e R s m args below meth c H locs cells slots Q (F0 m pc ls (.ref h :: rest)) :=
  va_get (D := (dC, dI)) (ci := 0) (C := RX0) (T := TX0) (N := 17) S.1 S.2.1 S.2.2.2.2 in_X0 S.2.2.2.1 hK hP 0 rfl rfl 1 (by decide) (S.2.2.2.2 _ q23) (fun _ h9 => h9) rfl hd kk
/-- getfield valueOf -/
theorem ls_g2 (S : CallFix p m c cc nL s args lw_all RX0) (hK : va_K (dC, dI) ls_C (ls_T dB dZ dN) s) (hP : va_P (dC, dI) ls_C (ls_W h a dB dZ dN K X V E en se op os oc la ks kl ko nk nr nv ne) H) (hd : decode cc pc = .ok (.getfield 17, 3))
    (kk : W p l e R s m args below meth c H locs cells slots Q (F0 m (pc + 3) ls (.ref (a 2) :: rest))) : W p l e R s m args below meth c H locs cells slots Q (F0 m pc ls (.ref h :: rest)) :=
  va_get (D := (dC, dI)) (ci := 0) (C := RX0) (T := TX0) (N := 17) S.1 S.2.1 S.2.2.2.2 in_X0 S.2.2.2.1 hK hP 0 rfl rfl 2 (by decide) (S.2.2.2.2 _ q24) (fun _ h9 => h9) rfl hd kk
/-- getfield earlier -/
theorem ls_g3 (S : CallFix p m c cc nL s args lw_all RX0) (hK : va_K (dC, dI) ls_C (ls_T dB dZ dN) s) (hP : va_P (dC, dI) ls_C (ls_W h a dB dZ dN K X V E en se op os oc la ks kl ko nk nr nv ne) H) (hd : decode cc pc = .ok (.getfield 21, 3))
    (kk : W p l e R s m args below meth c H locs cells slots Q (F0 m (pc + 3) ls (.ref (a 3) :: rest))) : W p l e R s m args below meth c H locs cells slots Q (F0 m pc ls (.ref h :: rest)) :=
  va_get (D := (dC, dI)) (ci := 0) (C := RX0) (T := TX0) (N := 17) S.1 S.2.1 S.2.2.2.2 in_X0 S.2.2.2.1 hK hP 0 rfl rfl 3 (by decide) (S.2.2.2.2 _ q25) (fun _ h9 => h9) rfl hd kk
/-- getfield end -/
theorem ls_g4 (S : CallFix p m c cc nL s args lw_all RX0) (hK : va_K (dC, dI) ls_C (ls_T dB dZ dN) s) (hP : va_P (dC, dI) ls_C (ls_W h a dB dZ dN K X V E en se op os oc la ks kl ko nk nr nv ne) H) (hd : decode cc pc = .ok (.getfield 48, 3))
    (kk : W p l e R s m args below meth c H locs cells slots Q (F0 m (pc + 3) ls (.int en :: rest))) : W p l e R s m args below meth c H locs cells slots Q (F0 m pc ls (.ref h :: rest)) :=
  va_get (D := (dC, dI)) (ci := 0) (C := RX0) (T := TX0) (N := 17) S.1 S.2.1 S.2.2.2.2 in_X0 S.2.2.2.1 hK hP 0 rfl rfl 4 (by decide) (S.2.2.2.2 _ q26) (fun _ h9 => h9) rfl hd kk
/-- getfield safeEnd -/
theorem ls_g5 (S : CallFix p m c cc nL s args lw_all RX0) (hK : va_K (dC, dI) ls_C (ls_T dB dZ dN) s) (hP : va_P (dC, dI) ls_C (ls_W h a dB dZ dN K X V E en se op os oc la ks kl ko nk nr nv ne) H) (hd : decode cc pc = .ok (.getfield 65, 3))
    (kk : W p l e R s m args below meth c H locs cells slots Q (F0 m (pc + 3) ls (.int se :: rest))) : W p l e R s m args below meth c H locs cells slots Q (F0 m pc ls (.ref h :: rest)) :=
  va_get (D := (dC, dI)) (ci := 0) (C := RX0) (T := TX0) (N := 17) S.1 S.2.1 S.2.2.2.2 in_X0 S.2.2.2.1 hK hP 0 rfl rfl 5 (by decide) (S.2.2.2.2 _ q27) (fun _ h9 => h9) rfl hd kk
/-- getfield open -/
theorem ls_g6 (S : CallFix p m c cc nL s args lw_all RX0) (hK : va_K (dC, dI) ls_C (ls_T dB dZ dN) s) (hP : va_P (dC, dI) ls_C (ls_W h a dB dZ dN K X V E en se op os oc la ks kl ko nk nr nv ne) H) (hd : decode cc pc = .ok (.getfield 55, 3))
    (kk : W p l e R s m args below meth c H locs cells slots Q (F0 m (pc + 3) ls (.int op :: rest))) : W p l e R s m args below meth c H locs cells slots Q (F0 m pc ls (.ref h :: rest)) :=
  va_get (D := (dC, dI)) (ci := 0) (C := RX0) (T := TX0) (N := 17) S.1 S.2.1 S.2.2.2.2 in_X0 S.2.2.2.1 hK hP 0 rfl rfl 6 (by decide) (S.2.2.2.2 _ q28) (fun _ h9 => h9) rfl hd kk
/-- getfield openStart -/
theorem ls_g7 (S : CallFix p m c cc nL s args lw_all RX0) (hK : va_K (dC, dI) ls_C (ls_T dB dZ dN) s) (hP : va_P (dC, dI) ls_C (ls_W h a dB dZ dN K X V E en se op os oc la ks kl ko nk nr nv ne) H) (hd : decode cc pc = .ok (.getfield 62, 3))
    (kk : W p l e R s m args below meth c H locs cells slots Q (F0 m (pc + 3) ls (.int os :: rest))) : W p l e R s m args below meth c H locs cells slots Q (F0 m pc ls (.ref h :: rest)) :=
  va_get (D := (dC, dI)) (ci := 0) (C := RX0) (T := TX0) (N := 17) S.1 S.2.1 S.2.2.2.2 in_X0 S.2.2.2.1 hK hP 0 rfl rfl 7 (by decide) (S.2.2.2.2 _ q29) (fun _ h9 => h9) rfl hd kk
/-- getfield openChanges -/
theorem ls_g8 (S : CallFix p m c cc nL s args lw_all RX0) (hK : va_K (dC, dI) ls_C (ls_T dB dZ dN) s) (hP : va_P (dC, dI) ls_C (ls_W h a dB dZ dN K X V E en se op os oc la ks kl ko nk nr nv ne) H) (hd : decode cc pc = .ok (.getfield 59, 3))
    (kk : W p l e R s m args below meth c H locs cells slots Q (F0 m (pc + 3) ls (.int oc :: rest))) : W p l e R s m args below meth c H locs cells slots Q (F0 m pc ls (.ref h :: rest)) :=
  va_get (D := (dC, dI)) (ci := 0) (C := RX0) (T := TX0) (N := 17) S.1 S.2.1 S.2.2.2.2 in_X0 S.2.2.2.1 hK hP 0 rfl rfl 8 (by decide) (S.2.2.2.2 _ q30) (fun _ h9 => h9) rfl hd kk
/-- getfield latest -/
theorem ls_g9 (S : CallFix p m c cc nL s args lw_all RX0) (hK : va_K (dC, dI) ls_C (ls_T dB dZ dN) s) (hP : va_P (dC, dI) ls_C (ls_W h a dB dZ dN K X V E en se op os oc la ks kl ko nk nr nv ne) H) (hd : decode cc pc = .ok (.getfield 24, 3))
    (kk : W p l e R s m args below meth c H locs cells slots Q (F0 m (pc + 3) ls (.ref (a 4) :: rest))) : W p l e R s m args below meth c H locs cells slots Q (F0 m pc ls (.ref h :: rest)) :=
  va_get (D := (dC, dI)) (ci := 0) (C := RX0) (T := TX0) (N := 17) S.1 S.2.1 S.2.2.2.2 in_X0 S.2.2.2.1 hK hP 0 rfl rfl 9 (by decide) (S.2.2.2.2 _ q31) (fun _ h9 => h9) rfl hd kk
/-- getfield keptSafe -/
theorem ls_g10 (S : CallFix p m c cc nL s args lw_all RX0) (hK : va_K (dC, dI) ls_C (ls_T dB dZ dN) s) (hP : va_P (dC, dI) ls_C (ls_W h a dB dZ dN K X V E en se op os oc la ks kl ko nk nr nv ne) H) (hd : decode cc pc = .ok (.getfield 27, 3))
    (kk : W p l e R s m args below meth c H locs cells slots Q (F0 m (pc + 3) ls (.ref (a 5) :: rest))) : W p l e R s m args below meth c H locs cells slots Q (F0 m pc ls (.ref h :: rest)) :=
  va_get (D := (dC, dI)) (ci := 0) (C := RX0) (T := TX0) (N := 17) S.1 S.2.1 S.2.2.2.2 in_X0 S.2.2.2.1 hK hP 0 rfl rfl 10 (by decide) (S.2.2.2.2 _ q32) (fun _ h9 => h9) rfl hd kk
/-- getfield keptLater -/
theorem ls_g11 (S : CallFix p m c cc nL s args lw_all RX0) (hK : va_K (dC, dI) ls_C (ls_T dB dZ dN) s) (hP : va_P (dC, dI) ls_C (ls_W h a dB dZ dN K X V E en se op os oc la ks kl ko nk nr nv ne) H) (hd : decode cc pc = .ok (.getfield 30, 3))
    (kk : W p l e R s m args below meth c H locs cells slots Q (F0 m (pc + 3) ls (.ref (a 6) :: rest))) : W p l e R s m args below meth c H locs cells slots Q (F0 m pc ls (.ref h :: rest)) :=
  va_get (D := (dC, dI)) (ci := 0) (C := RX0) (T := TX0) (N := 17) S.1 S.2.1 S.2.2.2.2 in_X0 S.2.2.2.1 hK hP 0 rfl rfl 11 (by decide) (S.2.2.2.2 _ q33) (fun _ h9 => h9) rfl hd kk
/-- getfield keptOpen -/
theorem ls_g12 (S : CallFix p m c cc nL s args lw_all RX0) (hK : va_K (dC, dI) ls_C (ls_T dB dZ dN) s) (hP : va_P (dC, dI) ls_C (ls_W h a dB dZ dN K X V E en se op os oc la ks kl ko nk nr nv ne) H) (hd : decode cc pc = .ok (.getfield 33, 3))
    (kk : W p l e R s m args below meth c H locs cells slots Q (F0 m (pc + 3) ls (.ref (a 7) :: rest))) : W p l e R s m args below meth c H locs cells slots Q (F0 m pc ls (.ref h :: rest)) :=
  va_get (D := (dC, dI)) (ci := 0) (C := RX0) (T := TX0) (N := 17) S.1 S.2.1 S.2.2.2.2 in_X0 S.2.2.2.1 hK hP 0 rfl rfl 12 (by decide) (S.2.2.2.2 _ q34) (fun _ h9 => h9) rfl hd kk
/-- getfield newKey -/
theorem ls_g13 (S : CallFix p m c cc nL s args lw_all RX0) (hK : va_K (dC, dI) ls_C (ls_T dB dZ dN) s) (hP : va_P (dC, dI) ls_C (ls_W h a dB dZ dN K X V E en se op os oc la ks kl ko nk nr nv ne) H) (hd : decode cc pc = .ok (.getfield 36, 3))
    (kk : W p l e R s m args below meth c H locs cells slots Q (F0 m (pc + 3) ls (.ref (a 8) :: rest))) : W p l e R s m args below meth c H locs cells slots Q (F0 m pc ls (.ref h :: rest)) :=
  va_get (D := (dC, dI)) (ci := 0) (C := RX0) (T := TX0) (N := 17) S.1 S.2.1 S.2.2.2.2 in_X0 S.2.2.2.1 hK hP 0 rfl rfl 13 (by decide) (S.2.2.2.2 _ q35) (fun _ h9 => h9) rfl hd kk
/-- getfield newRemoves -/
theorem ls_g14 (S : CallFix p m c cc nL s args lw_all RX0) (hK : va_K (dC, dI) ls_C (ls_T dB dZ dN) s) (hP : va_P (dC, dI) ls_C (ls_W h a dB dZ dN K X V E en se op os oc la ks kl ko nk nr nv ne) H) (hd : decode cc pc = .ok (.getfield 39, 3))
    (kk : W p l e R s m args below meth c H locs cells slots Q (F0 m (pc + 3) ls (.ref (a 9) :: rest))) : W p l e R s m args below meth c H locs cells slots Q (F0 m pc ls (.ref h :: rest)) :=
  va_get (D := (dC, dI)) (ci := 0) (C := RX0) (T := TX0) (N := 17) S.1 S.2.1 S.2.2.2.2 in_X0 S.2.2.2.1 hK hP 0 rfl rfl 14 (by decide) (S.2.2.2.2 _ q36) (fun _ h9 => h9) rfl hd kk
/-- getfield newValue -/
theorem ls_g15 (S : CallFix p m c cc nL s args lw_all RX0) (hK : va_K (dC, dI) ls_C (ls_T dB dZ dN) s) (hP : va_P (dC, dI) ls_C (ls_W h a dB dZ dN K X V E en se op os oc la ks kl ko nk nr nv ne) H) (hd : decode cc pc = .ok (.getfield 42, 3))
    (kk : W p l e R s m args below meth c H locs cells slots Q (F0 m (pc + 3) ls (.ref (a 10) :: rest))) : W p l e R s m args below meth c H locs cells slots Q (F0 m pc ls (.ref h :: rest)) :=
  va_get (D := (dC, dI)) (ci := 0) (C := RX0) (T := TX0) (N := 17) S.1 S.2.1 S.2.2.2.2 in_X0 S.2.2.2.1 hK hP 0 rfl rfl 15 (by decide) (S.2.2.2.2 _ q37) (fun _ h9 => h9) rfl hd kk
/-- getfield newEarlier -/
theorem ls_g16 (S : CallFix p m c cc nL s args lw_all RX0) (hK : va_K (dC, dI) ls_C (ls_T dB dZ dN) s) (hP : va_P (dC, dI) ls_C (ls_W h a dB dZ dN K X V E en se op os oc la ks kl ko nk nr nv ne) H) (hd : decode cc pc = .ok (.getfield 45, 3))
    (kk : W p l e R s m args below meth c H locs cells slots Q (F0 m (pc + 3) ls (.ref (a 11) :: rest))) : W p l e R s m args below meth c H locs cells slots Q (F0 m pc ls (.ref h :: rest)) :=
  va_get (D := (dC, dI)) (ci := 0) (C := RX0) (T := TX0) (N := 17) S.1 S.2.1 S.2.2.2.2 in_X0 S.2.2.2.1 hK hP 0 rfl rfl 16 (by decide) (S.2.2.2.2 _ q38) (fun _ h9 => h9) rfl hd kk
/-- putfield end -/
theorem ls_p4 (S : CallFix p m c cc nL s args lw_all RX0) (hK : va_K (dC, dI) ls_C (ls_T dB dZ dN) s) (hP : va_P (dC, dI) ls_C (ls_W h a dB dZ dN K X V E en se op os oc la ks kl ko nk nr nv ne) H) (hD : va_D A (ls_W h a dB dZ dN K X V E en se op os oc la ks kl ko nk nr nv ne)) (hS : va_S A H0 H locs) {y0 : Int32} (hd : decode cc pc = .ok (.putfield 48, 3))
    (kk : ∀ (H1 : Heap) (locs1 : List Loc), va_P (dC, dI) ls_C (ls_W h a dB dZ dN K X V E y0 se op os oc la ks kl ko nk nr nv ne) H1 → va_D A (ls_W h a dB dZ dN K X V E y0 se op os oc la ks kl ko nk nr nv ne) → va_S A H0 H1 locs1 → W p l e R s m args below meth c H1 locs1 cells slots Q (F0 m (pc + 3) ls rest)) : W p l e R s m args below meth c H locs cells slots Q (F0 m pc ls (.int y0 :: .ref h :: rest)) :=
  va_put (D := (dC, dI)) (ci := 0) (v := .int y0) (ty := .int) (C := RX0) (T := TX0) (N := 17) S.1 S.2.1 S.2.2.2.2 in_X0 tyX0 tyX0_ok nmX0 S.2.2.2.1 hK hP hD hS 0 rfl rfl 4 (by decide) (S.2.2.2.2 _ q26) (fun _ h9 => h9) rfl (by decide +kernel) rfl rfl (Nat.le_of_ble_eq_true rfl) hd (fun H1 locs1 hP hD hS => kk H1 locs1 hP hD hS)
/-- putfield safeEnd -/
theorem ls_p5 (S : CallFix p m c cc nL s args lw_all RX0) (hK : va_K (dC, dI) ls_C (ls_T dB dZ dN) s) (hP : va_P (dC, dI) ls_C (ls_W h a dB dZ dN K X V E en se op os oc la ks kl ko nk nr nv ne) H) (hD : va_D A (ls_W h a dB dZ dN K X V E en se op os oc la ks kl ko nk nr nv ne)) (hS : va_S A H0 H locs) {y0 : Int32} (hd : decode cc pc = .ok (.putfield 65, 3))
    (kk : ∀ (H1 : Heap) (locs1 : List Loc), va_P (dC, dI) ls_C (ls_W h a dB dZ dN K X V E en y0 op os oc la ks kl ko nk nr nv ne) H1 → va_D A (ls_W h a dB dZ dN K X V E en y0 op os oc la ks kl ko nk nr nv ne) → va_S A H0 H1 locs1 → W p l e R s m args below meth c H1 locs1 cells slots Q (F0 m (pc + 3) ls rest)) : W p l e R s m args below meth c H locs cells slots Q (F0 m pc ls (.int y0 :: .ref h :: rest)) :=
  va_put (D := (dC, dI)) (ci := 0) (v := .int y0) (ty := .int) (C := RX0) (T := TX0) (N := 17) S.1 S.2.1 S.2.2.2.2 in_X0 tyX0 tyX0_ok nmX0 S.2.2.2.1 hK hP hD hS 0 rfl rfl 5 (by decide) (S.2.2.2.2 _ q27) (fun _ h9 => h9) rfl (by decide +kernel) rfl rfl (Nat.le_of_ble_eq_true rfl) hd (fun H1 locs1 hP hD hS => kk H1 locs1 hP hD hS)
/-- putfield open -/
theorem ls_p6 (S : CallFix p m c cc nL s args lw_all RX0) (hK : va_K (dC, dI) ls_C (ls_T dB dZ dN) s) (hP : va_P (dC, dI) ls_C (ls_W h a dB dZ dN K X V E en se op os oc la ks kl ko nk nr nv ne) H) (hD : va_D A (ls_W h a dB dZ dN K X V E en se op os oc la ks kl ko nk nr nv ne)) (hS : va_S A H0 H locs) {y0 : Int32} (hn : narrow .boolean (.int y0) = .int y0) (hfi : fits .boolean (.int y0) = true) (hd : decode cc pc = .ok (.putfield 55, 3))
    (kk : ∀ (H1 : Heap) (locs1 : List Loc), va_P (dC, dI) ls_C (ls_W h a dB dZ dN K X V E en se y0 os oc la ks kl ko nk nr nv ne) H1 → va_D A (ls_W h a dB dZ dN K X V E en se y0 os oc la ks kl ko nk nr nv ne) → va_S A H0 H1 locs1 → W p l e R s m args below meth c H1 locs1 cells slots Q (F0 m (pc + 3) ls rest)) : W p l e R s m args below meth c H locs cells slots Q (F0 m pc ls (.int y0 :: .ref h :: rest)) :=
  va_put (D := (dC, dI)) (ci := 0) (v := .int y0) (ty := .boolean) (C := RX0) (T := TX0) (N := 17) S.1 S.2.1 S.2.2.2.2 in_X0 tyX0 tyX0_ok nmX0 S.2.2.2.1 hK hP hD hS 0 rfl rfl 6 (by decide) (S.2.2.2.2 _ q28) (fun _ h9 => h9) rfl (by decide +kernel) hn hfi (Nat.le_of_ble_eq_true rfl) hd (fun H1 locs1 hP hD hS => kk H1 locs1 hP hD hS)
/-- putfield openStart -/
theorem ls_p7 (S : CallFix p m c cc nL s args lw_all RX0) (hK : va_K (dC, dI) ls_C (ls_T dB dZ dN) s) (hP : va_P (dC, dI) ls_C (ls_W h a dB dZ dN K X V E en se op os oc la ks kl ko nk nr nv ne) H) (hD : va_D A (ls_W h a dB dZ dN K X V E en se op os oc la ks kl ko nk nr nv ne)) (hS : va_S A H0 H locs) {y0 : Int32} (hd : decode cc pc = .ok (.putfield 62, 3))
    (kk : ∀ (H1 : Heap) (locs1 : List Loc), va_P (dC, dI) ls_C (ls_W h a dB dZ dN K X V E en se op y0 oc la ks kl ko nk nr nv ne) H1 → va_D A (ls_W h a dB dZ dN K X V E en se op y0 oc la ks kl ko nk nr nv ne) → va_S A H0 H1 locs1 → W p l e R s m args below meth c H1 locs1 cells slots Q (F0 m (pc + 3) ls rest)) : W p l e R s m args below meth c H locs cells slots Q (F0 m pc ls (.int y0 :: .ref h :: rest)) :=
  va_put (D := (dC, dI)) (ci := 0) (v := .int y0) (ty := .int) (C := RX0) (T := TX0) (N := 17) S.1 S.2.1 S.2.2.2.2 in_X0 tyX0 tyX0_ok nmX0 S.2.2.2.1 hK hP hD hS 0 rfl rfl 7 (by decide) (S.2.2.2.2 _ q29) (fun _ h9 => h9) rfl (by decide +kernel) rfl rfl (Nat.le_of_ble_eq_true rfl) hd (fun H1 locs1 hP hD hS => kk H1 locs1 hP hD hS)
/-- putfield openChanges -/
theorem ls_p8 (S : CallFix p m c cc nL s args lw_all RX0) (hK : va_K (dC, dI) ls_C (ls_T dB dZ dN) s) (hP : va_P (dC, dI) ls_C (ls_W h a dB dZ dN K X V E en se op os oc la ks kl ko nk nr nv ne) H) (hD : va_D A (ls_W h a dB dZ dN K X V E en se op os oc la ks kl ko nk nr nv ne)) (hS : va_S A H0 H locs) {y0 : Int32} (hd : decode cc pc = .ok (.putfield 59, 3))
    (kk : ∀ (H1 : Heap) (locs1 : List Loc), va_P (dC, dI) ls_C (ls_W h a dB dZ dN K X V E en se op os y0 la ks kl ko nk nr nv ne) H1 → va_D A (ls_W h a dB dZ dN K X V E en se op os y0 la ks kl ko nk nr nv ne) → va_S A H0 H1 locs1 → W p l e R s m args below meth c H1 locs1 cells slots Q (F0 m (pc + 3) ls rest)) : W p l e R s m args below meth c H locs cells slots Q (F0 m pc ls (.int y0 :: .ref h :: rest)) :=
  va_put (D := (dC, dI)) (ci := 0) (v := .int y0) (ty := .int) (C := RX0) (T := TX0) (N := 17) S.1 S.2.1 S.2.2.2.2 in_X0 tyX0 tyX0_ok nmX0 S.2.2.2.1 hK hP hD hS 0 rfl rfl 8 (by decide) (S.2.2.2.2 _ q30) (fun _ h9 => h9) rfl (by decide +kernel) rfl rfl (Nat.le_of_ble_eq_true rfl) hd (fun H1 locs1 hP hD hS => kk H1 locs1 hP hD hS)
theorem ls_l0 (S : CallFix p m c cc nL s args lw_all RX0) (hK : va_K (dC, dI) ls_C (ls_T dB dZ dN) s) (hP : va_P (dC, dI) ls_C (ls_W h a dB dZ dN K X V E en se op os oc la ks kl ko nk nr nv ne) H) {j : Nat} (hj : j < 96) (hd : decode cc pc = .ok (.baload, 1))
    (kk : W p l e R s m args below meth c H locs cells slots Q (F0 m (pc + 1) ls (.int (K j) :: rest))) : W p l e R s m args below meth c H locs cells slots Q (F0 m pc ls (.int (nI j) :: .ref (a 0) :: rest)) :=
  va_bald S.1 S.2.1 hK hP 1 0 rfl rfl (vp_in_nI hj (by decide)) hd (by rw [nI_clamp (Nat.lt_trans hj (by decide))]; exact kk)
theorem ls_l1 (S : CallFix p m c cc nL s args lw_all RX0) (hK : va_K (dC, dI) ls_C (ls_T dB dZ dN) s) (hP : va_P (dC, dI) ls_C (ls_W h a dB dZ dN K X V E en se op os oc la ks kl ko nk nr nv ne) H) {j : Nat} (hj : j < 96) (hd : decode cc pc = .ok (.baload, 1))
    (kk : W p l e R s m args below meth c H locs cells slots Q (F0 m (pc + 1) ls (.int (X j) :: rest))) : W p l e R s m args below meth c H locs cells slots Q (F0 m pc ls (.int (nI j) :: .ref (a 1) :: rest)) :=
  va_zald S.1 S.2.1 hK hP 2 1 rfl rfl (vp_in_nI hj (by decide)) hd (by rw [nI_clamp (Nat.lt_trans hj (by decide))]; exact kk)
theorem ls_l2 (S : CallFix p m c cc nL s args lw_all RX0) (hK : va_K (dC, dI) ls_C (ls_T dB dZ dN) s) (hP : va_P (dC, dI) ls_C (ls_W h a dB dZ dN K X V E en se op os oc la ks kl ko nk nr nv ne) H) {j : Nat} (hj : j < 96) (hd : decode cc pc = .ok (.iaload, 1))
    (kk : W p l e R s m args below meth c H locs cells slots Q (F0 m (pc + 1) ls (.int (V j) :: rest))) : W p l e R s m args below meth c H locs cells slots Q (F0 m pc ls (.int (nI j) :: .ref (a 2) :: rest)) :=
  va_iald S.1 S.2.1 hK hP 3 2 rfl rfl (vp_in_nI hj (by decide)) hd (by rw [nI_clamp (Nat.lt_trans hj (by decide))]; exact kk)
theorem ls_l3 (S : CallFix p m c cc nL s args lw_all RX0) (hK : va_K (dC, dI) ls_C (ls_T dB dZ dN) s) (hP : va_P (dC, dI) ls_C (ls_W h a dB dZ dN K X V E en se op os oc la ks kl ko nk nr nv ne) H) {j : Nat} (hj : j < 96) (hd : decode cc pc = .ok (.baload, 1))
    (kk : W p l e R s m args below meth c H locs cells slots Q (F0 m (pc + 1) ls (.int (E j) :: rest))) : W p l e R s m args below meth c H locs cells slots Q (F0 m pc ls (.int (nI j) :: .ref (a 3) :: rest)) :=
  va_bald S.1 S.2.1 hK hP 4 0 rfl rfl (vp_in_nI hj (by decide)) hd (by rw [nI_clamp (Nat.lt_trans hj (by decide))]; exact kk)
theorem ls_l4 (S : CallFix p m c cc nL s args lw_all RX0) (hK : va_K (dC, dI) ls_C (ls_T dB dZ dN) s) (hP : va_P (dC, dI) ls_C (ls_W h a dB dZ dN K X V E en se op os oc la ks kl ko nk nr nv ne) H) {j : Nat} (hj : j < 16) (hd : decode cc pc = .ok (.baload, 1))
    (kk : W p l e R s m args below meth c H locs cells slots Q (F0 m (pc + 1) ls (.int (la j) :: rest))) : W p l e R s m args below meth c H locs cells slots Q (F0 m pc ls (.int (nI j) :: .ref (a 4) :: rest)) :=
  va_bald S.1 S.2.1 hK hP 5 0 rfl rfl (vp_in_nI hj (by decide)) hd (by rw [nI_clamp (Nat.lt_trans hj (by decide))]; exact kk)
theorem ls_l5 (S : CallFix p m c cc nL s args lw_all RX0) (hK : va_K (dC, dI) ls_C (ls_T dB dZ dN) s) (hP : va_P (dC, dI) ls_C (ls_W h a dB dZ dN K X V E en se op os oc la ks kl ko nk nr nv ne) H) {j : Nat} (hj : j < 16) (hd : decode cc pc = .ok (.baload, 1))
    (kk : W p l e R s m args below meth c H locs cells slots Q (F0 m (pc + 1) ls (.int (ks j) :: rest))) : W p l e R s m args below meth c H locs cells slots Q (F0 m pc ls (.int (nI j) :: .ref (a 5) :: rest)) :=
  va_bald S.1 S.2.1 hK hP 6 0 rfl rfl (vp_in_nI hj (by decide)) hd (by rw [nI_clamp (Nat.lt_trans hj (by decide))]; exact kk)
theorem ls_l6 (S : CallFix p m c cc nL s args lw_all RX0) (hK : va_K (dC, dI) ls_C (ls_T dB dZ dN) s) (hP : va_P (dC, dI) ls_C (ls_W h a dB dZ dN K X V E en se op os oc la ks kl ko nk nr nv ne) H) {j : Nat} (hj : j < 16) (hd : decode cc pc = .ok (.baload, 1))
    (kk : W p l e R s m args below meth c H locs cells slots Q (F0 m (pc + 1) ls (.int (kl j) :: rest))) : W p l e R s m args below meth c H locs cells slots Q (F0 m pc ls (.int (nI j) :: .ref (a 6) :: rest)) :=
  va_bald S.1 S.2.1 hK hP 7 0 rfl rfl (vp_in_nI hj (by decide)) hd (by rw [nI_clamp (Nat.lt_trans hj (by decide))]; exact kk)
theorem ls_l7 (S : CallFix p m c cc nL s args lw_all RX0) (hK : va_K (dC, dI) ls_C (ls_T dB dZ dN) s) (hP : va_P (dC, dI) ls_C (ls_W h a dB dZ dN K X V E en se op os oc la ks kl ko nk nr nv ne) H) {j : Nat} (hj : j < 16) (hd : decode cc pc = .ok (.baload, 1))
    (kk : W p l e R s m args below meth c H locs cells slots Q (F0 m (pc + 1) ls (.int (ko j) :: rest))) : W p l e R s m args below meth c H locs cells slots Q (F0 m pc ls (.int (nI j) :: .ref (a 7) :: rest)) :=
  va_bald S.1 S.2.1 hK hP 8 0 rfl rfl (vp_in_nI hj (by decide)) hd (by rw [nI_clamp (Nat.lt_trans hj (by decide))]; exact kk)
theorem ls_l8 (S : CallFix p m c cc nL s args lw_all RX0) (hK : va_K (dC, dI) ls_C (ls_T dB dZ dN) s) (hP : va_P (dC, dI) ls_C (ls_W h a dB dZ dN K X V E en se op os oc la ks kl ko nk nr nv ne) H) {j : Nat} (hj : j < 96) (hd : decode cc pc = .ok (.baload, 1))
    (kk : W p l e R s m args below meth c H locs cells slots Q (F0 m (pc + 1) ls (.int (nk j) :: rest))) : W p l e R s m args below meth c H locs cells slots Q (F0 m pc ls (.int (nI j) :: .ref (a 8) :: rest)) :=
  va_bald S.1 S.2.1 hK hP 9 0 rfl rfl (vp_in_nI hj (by decide)) hd (by rw [nI_clamp (Nat.lt_trans hj (by decide))]; exact kk)
theorem ls_l9 (S : CallFix p m c cc nL s args lw_all RX0) (hK : va_K (dC, dI) ls_C (ls_T dB dZ dN) s) (hP : va_P (dC, dI) ls_C (ls_W h a dB dZ dN K X V E en se op os oc la ks kl ko nk nr nv ne) H) {j : Nat} (hj : j < 96) (hd : decode cc pc = .ok (.baload, 1))
    (kk : W p l e R s m args below meth c H locs cells slots Q (F0 m (pc + 1) ls (.int (nr j) :: rest))) : W p l e R s m args below meth c H locs cells slots Q (F0 m pc ls (.int (nI j) :: .ref (a 9) :: rest)) :=
  va_zald S.1 S.2.1 hK hP 10 1 rfl rfl (vp_in_nI hj (by decide)) hd (by rw [nI_clamp (Nat.lt_trans hj (by decide))]; exact kk)
theorem ls_l10 (S : CallFix p m c cc nL s args lw_all RX0) (hK : va_K (dC, dI) ls_C (ls_T dB dZ dN) s) (hP : va_P (dC, dI) ls_C (ls_W h a dB dZ dN K X V E en se op os oc la ks kl ko nk nr nv ne) H) {j : Nat} (hj : j < 96) (hd : decode cc pc = .ok (.iaload, 1))
    (kk : W p l e R s m args below meth c H locs cells slots Q (F0 m (pc + 1) ls (.int (nv j) :: rest))) : W p l e R s m args below meth c H locs cells slots Q (F0 m pc ls (.int (nI j) :: .ref (a 10) :: rest)) :=
  va_iald S.1 S.2.1 hK hP 11 2 rfl rfl (vp_in_nI hj (by decide)) hd (by rw [nI_clamp (Nat.lt_trans hj (by decide))]; exact kk)
theorem ls_l11 (S : CallFix p m c cc nL s args lw_all RX0) (hK : va_K (dC, dI) ls_C (ls_T dB dZ dN) s) (hP : va_P (dC, dI) ls_C (ls_W h a dB dZ dN K X V E en se op os oc la ks kl ko nk nr nv ne) H) {j : Nat} (hj : j < 96) (hd : decode cc pc = .ok (.baload, 1))
    (kk : W p l e R s m args below meth c H locs cells slots Q (F0 m (pc + 1) ls (.int (ne j) :: rest))) : W p l e R s m args below meth c H locs cells slots Q (F0 m pc ls (.int (nI j) :: .ref (a 11) :: rest)) :=
  va_bald S.1 S.2.1 hK hP 12 0 rfl rfl (vp_in_nI hj (by decide)) hd (by rw [nI_clamp (Nat.lt_trans hj (by decide))]; exact kk)
theorem ls_s0 (S : CallFix p m c cc nL s args lw_all RX0) (hK : va_K (dC, dI) ls_C (ls_T dB dZ dN) s) (hP : va_P (dC, dI) ls_C (ls_W h a dB dZ dN K X V E en se op os oc la ks kl ko nk nr nv ne) H) (hD : va_D A (ls_W h a dB dZ dN K X V E en se op os oc la ks kl ko nk nr nv ne)) (hS : va_S A H0 H locs) {j : Nat} {y0 z0 : Int32} (hj : j < 96) (hn : vp_nar .byte z0 = y0) (hd : decode cc pc = .ok (.bastore, 1))
    (kk : ∀ (H1 : Heap) (locs1 : List Loc), va_P (dC, dI) ls_C (ls_W h a dB dZ dN (upd K j y0) X V E en se op os oc la ks kl ko nk nr nv ne) H1 → va_D A (ls_W h a dB dZ dN (upd K j y0) X V E en se op os oc la ks kl ko nk nr nv ne) → va_S A H0 H1 locs1 → W p l e R s m args below meth c H1 locs1 cells slots Q (F0 m (pc + 1) ls rest)) : W p l e R s m args below meth c H locs cells slots Q (F0 m pc ls (.int z0 :: .int (nI j) :: .ref (a 0) :: rest)) := by
  refine va_bast S.1 S.2.1 hK hP hD hS 1 0 rfl rfl (vp_in_nI hj (by decide)) hd (fun H1 locs1 hP hD hS => ?_)
  rw [nI_clamp (Nat.lt_trans hj (by decide)), hn] at hP hD
  exact kk H1 locs1 hP hD hS
theorem ls_s1 (S : CallFix p m c cc nL s args lw_all RX0) (hK : va_K (dC, dI) ls_C (ls_T dB dZ dN) s) (hP : va_P (dC, dI) ls_C (ls_W h a dB dZ dN K X V E en se op os oc la ks kl ko nk nr nv ne) H) (hD : va_D A (ls_W h a dB dZ dN K X V E en se op os oc la ks kl ko nk nr nv ne)) (hS : va_S A H0 H locs) {j : Nat} {y0 z0 : Int32} (hj : j < 96) (hn : vp_nar .boolean z0 = y0) (hd : decode cc pc = .ok (.bastore, 1))
    (kk : ∀ (H1 : Heap) (locs1 : List Loc), va_P (dC, dI) ls_C (ls_W h a dB dZ dN K (upd X j y0) V E en se op os oc la ks kl ko nk nr nv ne) H1 → va_D A (ls_W h a dB dZ dN K (upd X j y0) V E en se op os oc la ks kl ko nk nr nv ne) → va_S A H0 H1 locs1 → W p l e R s m args below meth c H1 locs1 cells slots Q (F0 m (pc + 1) ls rest)) : W p l e R s m args below meth c H locs cells slots Q (F0 m pc ls (.int z0 :: .int (nI j) :: .ref (a 1) :: rest)) := by
  refine va_zast S.1 S.2.1 hK hP hD hS 2 1 rfl rfl (vp_in_nI hj (by decide)) hd (fun H1 locs1 hP hD hS => ?_)
  rw [nI_clamp (Nat.lt_trans hj (by decide)), hn] at hP hD
  exact kk H1 locs1 hP hD hS
theorem ls_s2 (S : CallFix p m c cc nL s args lw_all RX0) (hK : va_K (dC, dI) ls_C (ls_T dB dZ dN) s) (hP : va_P (dC, dI) ls_C (ls_W h a dB dZ dN K X V E en se op os oc la ks kl ko nk nr nv ne) H) (hD : va_D A (ls_W h a dB dZ dN K X V E en se op os oc la ks kl ko nk nr nv ne)) (hS : va_S A H0 H locs) {j : Nat} {y0 : Int32} (hj : j < 96) (hd : decode cc pc = .ok (.iastore, 1))
    (kk : ∀ (H1 : Heap) (locs1 : List Loc), va_P (dC, dI) ls_C (ls_W h a dB dZ dN K X (upd V j y0) E en se op os oc la ks kl ko nk nr nv ne) H1 → va_D A (ls_W h a dB dZ dN K X (upd V j y0) E en se op os oc la ks kl ko nk nr nv ne) → va_S A H0 H1 locs1 → W p l e R s m args below meth c H1 locs1 cells slots Q (F0 m (pc + 1) ls rest)) : W p l e R s m args below meth c H locs cells slots Q (F0 m pc ls (.int y0 :: .int (nI j) :: .ref (a 2) :: rest)) := by
  refine va_iast S.1 S.2.1 hK hP hD hS 3 2 rfl rfl (vp_in_nI hj (by decide)) hd (fun H1 locs1 hP hD hS => ?_)
  rw [nI_clamp (Nat.lt_trans hj (by decide))] at hP hD
  exact kk H1 locs1 hP hD hS
theorem ls_s3 (S : CallFix p m c cc nL s args lw_all RX0) (hK : va_K (dC, dI) ls_C (ls_T dB dZ dN) s) (hP : va_P (dC, dI) ls_C (ls_W h a dB dZ dN K X V E en se op os oc la ks kl ko nk nr nv ne) H) (hD : va_D A (ls_W h a dB dZ dN K X V E en se op os oc la ks kl ko nk nr nv ne)) (hS : va_S A H0 H locs) {j : Nat} {y0 z0 : Int32} (hj : j < 96) (hn : vp_nar .byte z0 = y0) (hd : decode cc pc = .ok (.bastore, 1))
    (kk : ∀ (H1 : Heap) (locs1 : List Loc), va_P (dC, dI) ls_C (ls_W h a dB dZ dN K X V (upd E j y0) en se op os oc la ks kl ko nk nr nv ne) H1 → va_D A (ls_W h a dB dZ dN K X V (upd E j y0) en se op os oc la ks kl ko nk nr nv ne) → va_S A H0 H1 locs1 → W p l e R s m args below meth c H1 locs1 cells slots Q (F0 m (pc + 1) ls rest)) : W p l e R s m args below meth c H locs cells slots Q (F0 m pc ls (.int z0 :: .int (nI j) :: .ref (a 3) :: rest)) := by
  refine va_bast S.1 S.2.1 hK hP hD hS 4 0 rfl rfl (vp_in_nI hj (by decide)) hd (fun H1 locs1 hP hD hS => ?_)
  rw [nI_clamp (Nat.lt_trans hj (by decide)), hn] at hP hD
  exact kk H1 locs1 hP hD hS
theorem ls_s4 (S : CallFix p m c cc nL s args lw_all RX0) (hK : va_K (dC, dI) ls_C (ls_T dB dZ dN) s) (hP : va_P (dC, dI) ls_C (ls_W h a dB dZ dN K X V E en se op os oc la ks kl ko nk nr nv ne) H) (hD : va_D A (ls_W h a dB dZ dN K X V E en se op os oc la ks kl ko nk nr nv ne)) (hS : va_S A H0 H locs) {j : Nat} {y0 z0 : Int32} (hj : j < 16) (hn : vp_nar .byte z0 = y0) (hd : decode cc pc = .ok (.bastore, 1))
    (kk : ∀ (H1 : Heap) (locs1 : List Loc), va_P (dC, dI) ls_C (ls_W h a dB dZ dN K X V E en se op os oc (upd la j y0) ks kl ko nk nr nv ne) H1 → va_D A (ls_W h a dB dZ dN K X V E en se op os oc (upd la j y0) ks kl ko nk nr nv ne) → va_S A H0 H1 locs1 → W p l e R s m args below meth c H1 locs1 cells slots Q (F0 m (pc + 1) ls rest)) : W p l e R s m args below meth c H locs cells slots Q (F0 m pc ls (.int z0 :: .int (nI j) :: .ref (a 4) :: rest)) := by
  refine va_bast S.1 S.2.1 hK hP hD hS 5 0 rfl rfl (vp_in_nI hj (by decide)) hd (fun H1 locs1 hP hD hS => ?_)
  rw [nI_clamp (Nat.lt_trans hj (by decide)), hn] at hP hD
  exact kk H1 locs1 hP hD hS
theorem ls_s5 (S : CallFix p m c cc nL s args lw_all RX0) (hK : va_K (dC, dI) ls_C (ls_T dB dZ dN) s) (hP : va_P (dC, dI) ls_C (ls_W h a dB dZ dN K X V E en se op os oc la ks kl ko nk nr nv ne) H) (hD : va_D A (ls_W h a dB dZ dN K X V E en se op os oc la ks kl ko nk nr nv ne)) (hS : va_S A H0 H locs) {j : Nat} {y0 z0 : Int32} (hj : j < 16) (hn : vp_nar .byte z0 = y0) (hd : decode cc pc = .ok (.bastore, 1))
    (kk : ∀ (H1 : Heap) (locs1 : List Loc), va_P (dC, dI) ls_C (ls_W h a dB dZ dN K X V E en se op os oc la (upd ks j y0) kl ko nk nr nv ne) H1 → va_D A (ls_W h a dB dZ dN K X V E en se op os oc la (upd ks j y0) kl ko nk nr nv ne) → va_S A H0 H1 locs1 → W p l e R s m args below meth c H1 locs1 cells slots Q (F0 m (pc + 1) ls rest)) : W p l e R s m args below meth c H locs cells slots Q (F0 m pc ls (.int z0 :: .int (nI j) :: .ref (a 5) :: rest)) := by
  refine va_bast S.1 S.2.1 hK hP hD hS 6 0 rfl rfl (vp_in_nI hj (by decide)) hd (fun H1 locs1 hP hD hS => ?_)
  rw [nI_clamp (Nat.lt_trans hj (by decide)), hn] at hP hD
  exact kk H1 locs1 hP hD hS
theorem ls_s6 (S : CallFix p m c cc nL s args lw_all RX0) (hK : va_K (dC, dI) ls_C (ls_T dB dZ dN) s) (hP : va_P (dC, dI) ls_C (ls_W h a dB dZ dN K X V E en se op os oc la ks kl ko nk nr nv ne) H) (hD : va_D A (ls_W h a dB dZ dN K X V E en se op os oc la ks kl ko nk nr nv ne)) (hS : va_S A H0 H locs) {j : Nat} {y0 z0 : Int32} (hj : j < 16) (hn : vp_nar .byte z0 = y0) (hd : decode cc pc = .ok (.bastore, 1))
    (kk : ∀ (H1 : Heap) (locs1 : List Loc), va_P (dC, dI) ls_C (ls_W h a dB dZ dN K X V E en se op os oc la ks (upd kl j y0) ko nk nr nv ne) H1 → va_D A (ls_W h a dB dZ dN K X V E en se op os oc la ks (upd kl j y0) ko nk nr nv ne) → va_S A H0 H1 locs1 → W p l e R s m args below meth c H1 locs1 cells slots Q (F0 m (pc + 1) ls rest)) : W p l e R s m args below meth c H locs cells slots Q (F0 m pc ls (.int z0 :: .int (nI j) :: .ref (a 6) :: rest)) := by
  refine va_bast S.1 S.2.1 hK hP hD hS 7 0 rfl rfl (vp_in_nI hj (by decide)) hd (fun H1 locs1 hP hD hS => ?_)
  rw [nI_clamp (Nat.lt_trans hj (by decide)), hn] at hP hD
  exact kk H1 locs1 hP hD hS
theorem ls_s7 (S : CallFix p m c cc nL s args lw_all RX0) (hK : va_K (dC, dI) ls_C (ls_T dB dZ dN) s) (hP : va_P (dC, dI) ls_C (ls_W h a dB dZ dN K X V E en se op os oc la ks kl ko nk nr nv ne) H) (hD : va_D A (ls_W h a dB dZ dN K X V E en se op os oc la ks kl ko nk nr nv ne)) (hS : va_S A H0 H locs) {j : Nat} {y0 z0 : Int32} (hj : j < 16) (hn : vp_nar .byte z0 = y0) (hd : decode cc pc = .ok (.bastore, 1))
    (kk : ∀ (H1 : Heap) (locs1 : List Loc), va_P (dC, dI) ls_C (ls_W h a dB dZ dN K X V E en se op os oc la ks kl (upd ko j y0) nk nr nv ne) H1 → va_D A (ls_W h a dB dZ dN K X V E en se op os oc la ks kl (upd ko j y0) nk nr nv ne) → va_S A H0 H1 locs1 → W p l e R s m args below meth c H1 locs1 cells slots Q (F0 m (pc + 1) ls rest)) : W p l e R s m args below meth c H locs cells slots Q (F0 m pc ls (.int z0 :: .int (nI j) :: .ref (a 7) :: rest)) := by
  refine va_bast S.1 S.2.1 hK hP hD hS 8 0 rfl rfl (vp_in_nI hj (by decide)) hd (fun H1 locs1 hP hD hS => ?_)
  rw [nI_clamp (Nat.lt_trans hj (by decide)), hn] at hP hD
  exact kk H1 locs1 hP hD hS
theorem ls_s8 (S : CallFix p m c cc nL s args lw_all RX0) (hK : va_K (dC, dI) ls_C (ls_T dB dZ dN) s) (hP : va_P (dC, dI) ls_C (ls_W h a dB dZ dN K X V E en se op os oc la ks kl ko nk nr nv ne) H) (hD : va_D A (ls_W h a dB dZ dN K X V E en se op os oc la ks kl ko nk nr nv ne)) (hS : va_S A H0 H locs) {j : Nat} {y0 z0 : Int32} (hj : j < 96) (hn : vp_nar .byte z0 = y0) (hd : decode cc pc = .ok (.bastore, 1))
    (kk : ∀ (H1 : Heap) (locs1 : List Loc), va_P (dC, dI) ls_C (ls_W h a dB dZ dN K X V E en se op os oc la ks kl ko (upd nk j y0) nr nv ne) H1 → va_D A (ls_W h a dB dZ dN K X V E en se op os oc la ks kl ko (upd nk j y0) nr nv ne) → va_S A H0 H1 locs1 → W p l e R s m args below meth c H1 locs1 cells slots Q (F0 m (pc + 1) ls rest)) : W p l e R s m args below meth c H locs cells slots Q (F0 m pc ls (.int z0 :: .int (nI j) :: .ref (a 8) :: rest)) := by
  refine va_bast S.1 S.2.1 hK hP hD hS 9 0 rfl rfl (vp_in_nI hj (by decide)) hd (fun H1 locs1 hP hD hS => ?_)
  rw [nI_clamp (Nat.lt_trans hj (by decide)), hn] at hP hD
  exact kk H1 locs1 hP hD hS
theorem ls_s9 (S : CallFix p m c cc nL s args lw_all RX0) (hK : va_K (dC, dI) ls_C (ls_T dB dZ dN) s) (hP : va_P (dC, dI) ls_C (ls_W h a dB dZ dN K X V E en se op os oc la ks kl ko nk nr nv ne) H) (hD : va_D A (ls_W h a dB dZ dN K X V E en se op os oc la ks kl ko nk nr nv ne)) (hS : va_S A H0 H locs) {j : Nat} {y0 z0 : Int32} (hj : j < 96) (hn : vp_nar .boolean z0 = y0) (hd : decode cc pc = .ok (.bastore, 1))
    (kk : ∀ (H1 : Heap) (locs1 : List Loc), va_P (dC, dI) ls_C (ls_W h a dB dZ dN K X V E en se op os oc la ks kl ko nk (upd nr j y0) nv ne) H1 → va_D A (ls_W h a dB dZ dN K X V E en se op os oc la ks kl ko nk (upd nr j y0) nv ne) → va_S A H0 H1 locs1 → W p l e R s m args below meth c H1 locs1 cells slots Q (F0 m (pc + 1) ls rest)) : W p l e R s m args below meth c H locs cells slots Q (F0 m pc ls (.int z0 :: .int (nI j) :: .ref (a 9) :: rest)) := by
  refine va_zast S.1 S.2.1 hK hP hD hS 10 1 rfl rfl (vp_in_nI hj (by decide)) hd (fun H1 locs1 hP hD hS => ?_)
  rw [nI_clamp (Nat.lt_trans hj (by decide)), hn] at hP hD
  exact kk H1 locs1 hP hD hS
theorem ls_s10 (S : CallFix p m c cc nL s args lw_all RX0) (hK : va_K (dC, dI) ls_C (ls_T dB dZ dN) s) (hP : va_P (dC, dI) ls_C (ls_W h a dB dZ dN K X V E en se op os oc la ks kl ko nk nr nv ne) H) (hD : va_D A (ls_W h a dB dZ dN K X V E en se op os oc la ks kl ko nk nr nv ne)) (hS : va_S A H0 H locs) {j : Nat} {y0 : Int32} (hj : j < 96) (hd : decode cc pc = .ok (.iastore, 1))
    (kk : ∀ (H1 : Heap) (locs1 : List Loc), va_P (dC, dI) ls_C (ls_W h a dB dZ dN K X V E en se op os oc la ks kl ko nk nr (upd nv j y0) ne) H1 → va_D A (ls_W h a dB dZ dN K X V E en se op os oc la ks kl ko nk nr (upd nv j y0) ne) → va_S A H0 H1 locs1 → W p l e R s m args below meth c H1 locs1 cells slots Q (F0 m (pc + 1) ls rest)) : W p l e R s m args below meth c H locs cells slots Q (F0 m pc ls (.int y0 :: .int (nI j) :: .ref (a 10) :: rest)) := by
  refine va_iast S.1 S.2.1 hK hP hD hS 11 2 rfl rfl (vp_in_nI hj (by decide)) hd (fun H1 locs1 hP hD hS => ?_)
  rw [nI_clamp (Nat.lt_trans hj (by decide))] at hP hD
  exact kk H1 locs1 hP hD hS
theorem ls_s11 (S : CallFix p m c cc nL s args lw_all RX0) (hK : va_K (dC, dI) ls_C (ls_T dB dZ dN) s) (hP : va_P (dC, dI) ls_C (ls_W h a dB dZ dN K X V E en se op os oc la ks kl ko nk nr nv ne) H) (hD : va_D A (ls_W h a dB dZ dN K X V E en se op os oc la ks kl ko nk nr nv ne)) (hS : va_S A H0 H locs) {j : Nat} {y0 z0 : Int32} (hj : j < 96) (hn : vp_nar .byte z0 = y0) (hd : decode cc pc = .ok (.bastore, 1))
    (kk : ∀ (H1 : Heap) (locs1 : List Loc), va_P (dC, dI) ls_C (ls_W h a dB dZ dN K X V E en se op os oc la ks kl ko nk nr nv (upd ne j y0)) H1 → va_D A (ls_W h a dB dZ dN K X V E en se op os oc la ks kl ko nk nr nv (upd ne j y0)) → va_S A H0 H1 locs1 → W p l e R s m args below meth c H1 locs1 cells slots Q (F0 m (pc + 1) ls rest)) : W p l e R s m args below meth c H locs cells slots Q (F0 m pc ls (.int z0 :: .int (nI j) :: .ref (a 11) :: rest)) := by
  refine va_bast S.1 S.2.1 hK hP hD hS 12 0 rfl rfl (vp_in_nI hj (by decide)) hd (fun H1 locs1 hP hD hS => ?_)
  rw [nI_clamp (Nat.lt_trans hj (by decide)), hn] at hP hD
  exact kk H1 locs1 hP hD hS
end
end
section
set_option maxRecDepth 100000
section
variable {p : Program} {l : Launch} {e : Env} {R : Room} {s : State} {m : MethodId} {args : Array Value} {below : List Frame} {meth : Method} {c : Code} {H : Heap} {locs : List Loc} {cells slots : Nat} {Q : State → Prop}
variable {cc : ByteArray} {nL pc : Nat} {ls : Array Slot} {rest st0 : List Value} {dC : Nat → ClassId} {dI : Nat → Nat → Nat} {A : Nat → Prop} {H0 : Heap} {dB dZ dN : ClassId}
variable {h : Nat} {a : Nat → Nat}
variable {vv bv kv : Nat → Int32} {ky bk kp op cg : Int32}
/-- getfield keys -/
theorem ml_g0 (S : CallFix p m c cc nL s args lw_all RX1) (hK : va_K (dC, dI) ls_C (ls_T dB dZ dN) s) (hP : va_P (dC, dI) ls_C (ml_W h a dN ky bk kp op cg vv bv kv) H) (hd : decode cc pc = .ok (.getfield 19, 3))
    (kk : W p l e R s m args below meth c H locs cells slots Q (F0 m (pc + 3) ls (.int ky :: rest))) : W p l e R s m args below meth c H locs cells slots Q (F0 m pc ls (.ref h :: rest)) :=
  va_get (D := (dC, dI)) (ci := 1) (C := RX1) (T := TX1) (N := 8) S.1 S.2.1 S.2.2.2.2 in_X1 S.2.2.2.1 hK hP 0 rfl rfl 0 (by decide) (S.2.2.2.2 _ q179) (fun _ h9 => h9) rfl hd kk
/-- getfield baseKeys -/
theorem ml_g1 (S : CallFix p m c cc nL s args lw_all RX1) (hK : va_K (dC, dI) ls_C (ls_T dB dZ dN) s) (hP : va_P (dC, dI) ls_C (ml_W h a dN ky bk kp op cg vv bv kv) H) (hd : decode cc pc = .ok (.getfield 23, 3))
    (kk : W p l e R s m args below meth c H locs cells slots Q (F0 m (pc + 3) ls (.int bk :: rest))) : W p l e R s m args below meth c H locs cells slots Q (F0 m pc ls (.ref h :: rest)) :=
  va_get (D := (dC, dI)) (ci := 1) (C := RX1) (T := TX1) (N := 8) S.1 S.2.1 S.2.2.2.2 in_X1 S.2.2.2.1 hK hP 0 rfl rfl 1 (by decide) (S.2.2.2.2 _ q180) (fun _ h9 => h9) rfl hd kk
/-- getfield keptKeys -/
theorem ml_g2 (S : CallFix p m c cc nL s args lw_all RX1) (hK : va_K (dC, dI) ls_C (ls_T dB dZ dN) s) (hP : va_P (dC, dI) ls_C (ml_W h a dN ky bk kp op cg vv bv kv) H) (hd : decode cc pc = .ok (.getfield 49, 3))
    (kk : W p l e R s m args below meth c H locs cells slots Q (F0 m (pc + 3) ls (.int kp :: rest))) : W p l e R s m args below meth c H locs cells slots Q (F0 m pc ls (.ref h :: rest)) :=
  va_get (D := (dC, dI)) (ci := 1) (C := RX1) (T := TX1) (N := 8) S.1 S.2.1 S.2.2.2.2 in_X1 S.2.2.2.1 hK hP 0 rfl rfl 2 (by decide) (S.2.2.2.2 _ q181) (fun _ h9 => h9) rfl hd kk
/-- getfield values -/
theorem ml_g3 (S : CallFix p m c cc nL s args lw_all RX1) (hK : va_K (dC, dI) ls_C (ls_T dB dZ dN) s) (hP : va_P (dC, dI) ls_C (ml_W h a dN ky bk kp op cg vv bv kv) H) (hd : decode cc pc = .ok (.getfield 7, 3))
    (kk : W p l e R s m args below meth c H locs cells slots Q (F0 m (pc + 3) ls (.ref (a 0) :: rest))) : W p l e R s m args below meth c H locs cells slots Q (F0 m pc ls (.ref h :: rest)) :=
  va_get (D := (dC, dI)) (ci := 1) (C := RX1) (T := TX1) (N := 8) S.1 S.2.1 S.2.2.2.2 in_X1 S.2.2.2.1 hK hP 0 rfl rfl 3 (by decide) (S.2.2.2.2 _ q182) (fun _ h9 => h9) rfl hd kk
/-- getfield baseValues -/
theorem ml_g4 (S : CallFix p m c cc nL s args lw_all RX1) (hK : va_K (dC, dI) ls_C (ls_T dB dZ dN) s) (hP : va_P (dC, dI) ls_C (ml_W h a dN ky bk kp op cg vv bv kv) H) (hd : decode cc pc = .ok (.getfield 13, 3))
    (kk : W p l e R s m args below meth c H locs cells slots Q (F0 m (pc + 3) ls (.ref (a 1) :: rest))) : W p l e R s m args below meth c H locs cells slots Q (F0 m pc ls (.ref h :: rest)) :=
  va_get (D := (dC, dI)) (ci := 1) (C := RX1) (T := TX1) (N := 8) S.1 S.2.1 S.2.2.2.2 in_X1 S.2.2.2.1 hK hP 0 rfl rfl 4 (by decide) (S.2.2.2.2 _ q183) (fun _ h9 => h9) rfl hd kk
/-- getfield keptValues -/
theorem ml_g5 (S : CallFix p m c cc nL s args lw_all RX1) (hK : va_K (dC, dI) ls_C (ls_T dB dZ dN) s) (hP : va_P (dC, dI) ls_C (ml_W h a dN ky bk kp op cg vv bv kv) H) (hd : decode cc pc = .ok (.getfield 16, 3))
    (kk : W p l e R s m args below meth c H locs cells slots Q (F0 m (pc + 3) ls (.ref (a 2) :: rest))) : W p l e R s m args below meth c H locs cells slots Q (F0 m pc ls (.ref h :: rest)) :=
  va_get (D := (dC, dI)) (ci := 1) (C := RX1) (T := TX1) (N := 8) S.1 S.2.1 S.2.2.2.2 in_X1 S.2.2.2.1 hK hP 0 rfl rfl 5 (by decide) (S.2.2.2.2 _ q184) (fun _ h9 => h9) rfl hd kk
/-- getfield open -/
theorem ml_g6 (S : CallFix p m c cc nL s args lw_all RX1) (hK : va_K (dC, dI) ls_C (ls_T dB dZ dN) s) (hP : va_P (dC, dI) ls_C (ml_W h a dN ky bk kp op cg vv bv kv) H) (hd : decode cc pc = .ok (.getfield 26, 3))
    (kk : W p l e R s m args below meth c H locs cells slots Q (F0 m (pc + 3) ls (.int op :: rest))) : W p l e R s m args below meth c H locs cells slots Q (F0 m pc ls (.ref h :: rest)) :=
  va_get (D := (dC, dI)) (ci := 1) (C := RX1) (T := TX1) (N := 8) S.1 S.2.1 S.2.2.2.2 in_X1 S.2.2.2.1 hK hP 0 rfl rfl 6 (by decide) (S.2.2.2.2 _ q185) (fun _ h9 => h9) rfl hd kk
/-- getfield changes -/
theorem ml_g7 (S : CallFix p m c cc nL s args lw_all RX1) (hK : va_K (dC, dI) ls_C (ls_T dB dZ dN) s) (hP : va_P (dC, dI) ls_C (ml_W h a dN ky bk kp op cg vv bv kv) H) (hd : decode cc pc = .ok (.getfield 30, 3))
    (kk : W p l e R s m args below meth c H locs cells slots Q (F0 m (pc + 3) ls (.int cg :: rest))) : W p l e R s m args below meth c H locs cells slots Q (F0 m pc ls (.ref h :: rest)) :=
  va_get (D := (dC, dI)) (ci := 1) (C := RX1) (T := TX1) (N := 8) S.1 S.2.1 S.2.2.2.2 in_X1 S.2.2.2.1 hK hP 0 rfl rfl 7 (by decide) (S.2.2.2.2 _ q186) (fun _ h9 => h9) rfl hd kk
/-- putfield keys -/
theorem ml_p0 (S : CallFix p m c cc nL s args lw_all RX1) (hK : va_K (dC, dI) ls_C (ls_T dB dZ dN) s) (hP : va_P (dC, dI) ls_C (ml_W h a dN ky bk kp op cg vv bv kv) H) (hD : va_D A (ml_W h a dN ky bk kp op cg vv bv kv)) (hS : va_S A H0 H locs) {y0 : Int32} (hd : decode cc pc = .ok (.putfield 19, 3))
    (kk : ∀ (H1 : Heap) (locs1 : List Loc), va_P (dC, dI) ls_C (ml_W h a dN y0 bk kp op cg vv bv kv) H1 → va_D A (ml_W h a dN y0 bk kp op cg vv bv kv) → va_S A H0 H1 locs1 → W p l e R s m args below meth c H1 locs1 cells slots Q (F0 m (pc + 3) ls rest)) : W p l e R s m args below meth c H locs cells slots Q (F0 m pc ls (.int y0 :: .ref h :: rest)) :=
  va_put (D := (dC, dI)) (ci := 1) (v := .int y0) (ty := .int) (C := RX1) (T := TX1) (N := 8) S.1 S.2.1 S.2.2.2.2 in_X1 tyX1 tyX1_ok nmX1 S.2.2.2.1 hK hP hD hS 0 rfl rfl 0 (by decide) (S.2.2.2.2 _ q179) (fun _ h9 => h9) rfl (by decide +kernel) rfl rfl (Nat.le_of_ble_eq_true rfl) hd (fun H1 locs1 hP hD hS => kk H1 locs1 hP hD hS)
/-- putfield baseKeys -/
theorem ml_p1 (S : CallFix p m c cc nL s args lw_all RX1) (hK : va_K (dC, dI) ls_C (ls_T dB dZ dN) s) (hP : va_P (dC, dI) ls_C (ml_W h a dN ky bk kp op cg vv bv kv) H) (hD : va_D A (ml_W h a dN ky bk kp op cg vv bv kv)) (hS : va_S A H0 H locs) {y0 : Int32} (hd : decode cc pc = .ok (.putfield 23, 3))
    (kk : ∀ (H1 : Heap) (locs1 : List Loc), va_P (dC, dI) ls_C (ml_W h a dN ky y0 kp op cg vv bv kv) H1 → va_D A (ml_W h a dN ky y0 kp op cg vv bv kv) → va_S A H0 H1 locs1 → W p l e R s m args below meth c H1 locs1 cells slots Q (F0 m (pc + 3) ls rest)) : W p l e R s m args below meth c H locs cells slots Q (F0 m pc ls (.int y0 :: .ref h :: rest)) :=
  va_put (D := (dC, dI)) (ci := 1) (v := .int y0) (ty := .int) (C := RX1) (T := TX1) (N := 8) S.1 S.2.1 S.2.2.2.2 in_X1 tyX1 tyX1_ok nmX1 S.2.2.2.1 hK hP hD hS 0 rfl rfl 1 (by decide) (S.2.2.2.2 _ q180) (fun _ h9 => h9) rfl (by decide +kernel) rfl rfl (Nat.le_of_ble_eq_true rfl) hd (fun H1 locs1 hP hD hS => kk H1 locs1 hP hD hS)
/-- putfield keptKeys -/
theorem ml_p2 (S : CallFix p m c cc nL s args lw_all RX1) (hK : va_K (dC, dI) ls_C (ls_T dB dZ dN) s) (hP : va_P (dC, dI) ls_C (ml_W h a dN ky bk kp op cg vv bv kv) H) (hD : va_D A (ml_W h a dN ky bk kp op cg vv bv kv)) (hS : va_S A H0 H locs) {y0 : Int32} (hd : decode cc pc = .ok (.putfield 49, 3))
    (kk : ∀ (H1 : Heap) (locs1 : List Loc), va_P (dC, dI) ls_C (ml_W h a dN ky bk y0 op cg vv bv kv) H1 → va_D A (ml_W h a dN ky bk y0 op cg vv bv kv) → va_S A H0 H1 locs1 → W p l e R s m args below meth c H1 locs1 cells slots Q (F0 m (pc + 3) ls rest)) : W p l e R s m args below meth c H locs cells slots Q (F0 m pc ls (.int y0 :: .ref h :: rest)) :=
  va_put (D := (dC, dI)) (ci := 1) (v := .int y0) (ty := .int) (C := RX1) (T := TX1) (N := 8) S.1 S.2.1 S.2.2.2.2 in_X1 tyX1 tyX1_ok nmX1 S.2.2.2.1 hK hP hD hS 0 rfl rfl 2 (by decide) (S.2.2.2.2 _ q181) (fun _ h9 => h9) rfl (by decide +kernel) rfl rfl (Nat.le_of_ble_eq_true rfl) hd (fun H1 locs1 hP hD hS => kk H1 locs1 hP hD hS)
/-- putfield open -/
theorem ml_p6 (S : CallFix p m c cc nL s args lw_all RX1) (hK : va_K (dC, dI) ls_C (ls_T dB dZ dN) s) (hP : va_P (dC, dI) ls_C (ml_W h a dN ky bk kp op cg vv bv kv) H) (hD : va_D A (ml_W h a dN ky bk kp op cg vv bv kv)) (hS : va_S A H0 H locs) {y0 : Int32} (hn : narrow .boolean (.int y0) = .int y0) (hfi : fits .boolean (.int y0) = true) (hd : decode cc pc = .ok (.putfield 26, 3))
    (kk : ∀ (H1 : Heap) (locs1 : List Loc), va_P (dC, dI) ls_C (ml_W h a dN ky bk kp y0 cg vv bv kv) H1 → va_D A (ml_W h a dN ky bk kp y0 cg vv bv kv) → va_S A H0 H1 locs1 → W p l e R s m args below meth c H1 locs1 cells slots Q (F0 m (pc + 3) ls rest)) : W p l e R s m args below meth c H locs cells slots Q (F0 m pc ls (.int y0 :: .ref h :: rest)) :=
  va_put (D := (dC, dI)) (ci := 1) (v := .int y0) (ty := .boolean) (C := RX1) (T := TX1) (N := 8) S.1 S.2.1 S.2.2.2.2 in_X1 tyX1 tyX1_ok nmX1 S.2.2.2.1 hK hP hD hS 0 rfl rfl 6 (by decide) (S.2.2.2.2 _ q185) (fun _ h9 => h9) rfl (by decide +kernel) hn hfi (Nat.le_of_ble_eq_true rfl) hd (fun H1 locs1 hP hD hS => kk H1 locs1 hP hD hS)
/-- putfield changes -/
theorem ml_p7 (S : CallFix p m c cc nL s args lw_all RX1) (hK : va_K (dC, dI) ls_C (ls_T dB dZ dN) s) (hP : va_P (dC, dI) ls_C (ml_W h a dN ky bk kp op cg vv bv kv) H) (hD : va_D A (ml_W h a dN ky bk kp op cg vv bv kv)) (hS : va_S A H0 H locs) {y0 : Int32} (hd : decode cc pc = .ok (.putfield 30, 3))
    (kk : ∀ (H1 : Heap) (locs1 : List Loc), va_P (dC, dI) ls_C (ml_W h a dN ky bk kp op y0 vv bv kv) H1 → va_D A (ml_W h a dN ky bk kp op y0 vv bv kv) → va_S A H0 H1 locs1 → W p l e R s m args below meth c H1 locs1 cells slots Q (F0 m (pc + 3) ls rest)) : W p l e R s m args below meth c H locs cells slots Q (F0 m pc ls (.int y0 :: .ref h :: rest)) :=
  va_put (D := (dC, dI)) (ci := 1) (v := .int y0) (ty := .int) (C := RX1) (T := TX1) (N := 8) S.1 S.2.1 S.2.2.2.2 in_X1 tyX1 tyX1_ok nmX1 S.2.2.2.1 hK hP hD hS 0 rfl rfl 7 (by decide) (S.2.2.2.2 _ q186) (fun _ h9 => h9) rfl (by decide +kernel) rfl rfl (Nat.le_of_ble_eq_true rfl) hd (fun H1 locs1 hP hD hS => kk H1 locs1 hP hD hS)
theorem ml_l0 (S : CallFix p m c cc nL s args lw_all RX1) (hK : va_K (dC, dI) ls_C (ls_T dB dZ dN) s) (hP : va_P (dC, dI) ls_C (ml_W h a dN ky bk kp op cg vv bv kv) H) {j : Nat} (hj : j < 16) (hd : decode cc pc = .ok (.iaload, 1))
    (kk : W p l e R s m args below meth c H locs cells slots Q (F0 m (pc + 1) ls (.int (vv j) :: rest))) : W p l e R s m args below meth c H locs cells slots Q (F0 m pc ls (.int (nI j) :: .ref (a 0) :: rest)) :=
  va_iald S.1 S.2.1 hK hP 1 2 rfl rfl (vp_in_nI hj (by decide)) hd (by rw [nI_clamp (Nat.lt_trans hj (by decide))]; exact kk)
theorem ml_l1 (S : CallFix p m c cc nL s args lw_all RX1) (hK : va_K (dC, dI) ls_C (ls_T dB dZ dN) s) (hP : va_P (dC, dI) ls_C (ml_W h a dN ky bk kp op cg vv bv kv) H) {j : Nat} (hj : j < 16) (hd : decode cc pc = .ok (.iaload, 1))
    (kk : W p l e R s m args below meth c H locs cells slots Q (F0 m (pc + 1) ls (.int (bv j) :: rest))) : W p l e R s m args below meth c H locs cells slots Q (F0 m pc ls (.int (nI j) :: .ref (a 1) :: rest)) :=
  va_iald S.1 S.2.1 hK hP 2 2 rfl rfl (vp_in_nI hj (by decide)) hd (by rw [nI_clamp (Nat.lt_trans hj (by decide))]; exact kk)
theorem ml_l2 (S : CallFix p m c cc nL s args lw_all RX1) (hK : va_K (dC, dI) ls_C (ls_T dB dZ dN) s) (hP : va_P (dC, dI) ls_C (ml_W h a dN ky bk kp op cg vv bv kv) H) {j : Nat} (hj : j < 16) (hd : decode cc pc = .ok (.iaload, 1))
    (kk : W p l e R s m args below meth c H locs cells slots Q (F0 m (pc + 1) ls (.int (kv j) :: rest))) : W p l e R s m args below meth c H locs cells slots Q (F0 m pc ls (.int (nI j) :: .ref (a 2) :: rest)) :=
  va_iald S.1 S.2.1 hK hP 3 2 rfl rfl (vp_in_nI hj (by decide)) hd (by rw [nI_clamp (Nat.lt_trans hj (by decide))]; exact kk)
theorem ml_s0 (S : CallFix p m c cc nL s args lw_all RX1) (hK : va_K (dC, dI) ls_C (ls_T dB dZ dN) s) (hP : va_P (dC, dI) ls_C (ml_W h a dN ky bk kp op cg vv bv kv) H) (hD : va_D A (ml_W h a dN ky bk kp op cg vv bv kv)) (hS : va_S A H0 H locs) {j : Nat} {y0 : Int32} (hj : j < 16) (hd : decode cc pc = .ok (.iastore, 1))
    (kk : ∀ (H1 : Heap) (locs1 : List Loc), va_P (dC, dI) ls_C (ml_W h a dN ky bk kp op cg (upd vv j y0) bv kv) H1 → va_D A (ml_W h a dN ky bk kp op cg (upd vv j y0) bv kv) → va_S A H0 H1 locs1 → W p l e R s m args below meth c H1 locs1 cells slots Q (F0 m (pc + 1) ls rest)) : W p l e R s m args below meth c H locs cells slots Q (F0 m pc ls (.int y0 :: .int (nI j) :: .ref (a 0) :: rest)) := by
  refine va_iast S.1 S.2.1 hK hP hD hS 1 2 rfl rfl (vp_in_nI hj (by decide)) hd (fun H1 locs1 hP hD hS => ?_)
  rw [nI_clamp (Nat.lt_trans hj (by decide))] at hP hD
  exact kk H1 locs1 hP hD hS
theorem ml_s1 (S : CallFix p m c cc nL s args lw_all RX1) (hK : va_K (dC, dI) ls_C (ls_T dB dZ dN) s) (hP : va_P (dC, dI) ls_C (ml_W h a dN ky bk kp op cg vv bv kv) H) (hD : va_D A (ml_W h a dN ky bk kp op cg vv bv kv)) (hS : va_S A H0 H locs) {j : Nat} {y0 : Int32} (hj : j < 16) (hd : decode cc pc = .ok (.iastore, 1))
    (kk : ∀ (H1 : Heap) (locs1 : List Loc), va_P (dC, dI) ls_C (ml_W h a dN ky bk kp op cg vv (upd bv j y0) kv) H1 → va_D A (ml_W h a dN ky bk kp op cg vv (upd bv j y0) kv) → va_S A H0 H1 locs1 → W p l e R s m args below meth c H1 locs1 cells slots Q (F0 m (pc + 1) ls rest)) : W p l e R s m args below meth c H locs cells slots Q (F0 m pc ls (.int y0 :: .int (nI j) :: .ref (a 1) :: rest)) := by
  refine va_iast S.1 S.2.1 hK hP hD hS 2 2 rfl rfl (vp_in_nI hj (by decide)) hd (fun H1 locs1 hP hD hS => ?_)
  rw [nI_clamp (Nat.lt_trans hj (by decide))] at hP hD
  exact kk H1 locs1 hP hD hS
theorem ml_s2 (S : CallFix p m c cc nL s args lw_all RX1) (hK : va_K (dC, dI) ls_C (ls_T dB dZ dN) s) (hP : va_P (dC, dI) ls_C (ml_W h a dN ky bk kp op cg vv bv kv) H) (hD : va_D A (ml_W h a dN ky bk kp op cg vv bv kv)) (hS : va_S A H0 H locs) {j : Nat} {y0 : Int32} (hj : j < 16) (hd : decode cc pc = .ok (.iastore, 1))
    (kk : ∀ (H1 : Heap) (locs1 : List Loc), va_P (dC, dI) ls_C (ml_W h a dN ky bk kp op cg vv bv (upd kv j y0)) H1 → va_D A (ml_W h a dN ky bk kp op cg vv bv (upd kv j y0)) → va_S A H0 H1 locs1 → W p l e R s m args below meth c H1 locs1 cells slots Q (F0 m (pc + 1) ls rest)) : W p l e R s m args below meth c H locs cells slots Q (F0 m pc ls (.int y0 :: .int (nI j) :: .ref (a 2) :: rest)) := by
  refine va_iast S.1 S.2.1 hK hP hD hS 3 2 rfl rfl (vp_in_nI hj (by decide)) hd (fun H1 locs1 hP hD hS => ?_)
  rw [nI_clamp (Nat.lt_trans hj (by decide))] at hP hD
  exact kk H1 locs1 hP hD hS
end
end
section
set_option maxRecDepth 100000
abbrev ls_rm (f L : Nat) : Room := { frames := f, cells := 0, slots := 0, locals := L }
theorem ls_m1 {n : Nat} (h : n < 2 ^ 31) : (-1 : Int32) < nI n := by
  rw [Int32.lt_iff_toInt_lt, nI_toInt h, show (-1 : Int32).toInt = -1 from by decide]
  omega
set_option maxHeartbeats 4000000 in
set_option maxRecDepth 100000 in
/-- isKey(k) -/
theorem mt_isKey {l : Launch} {k : Int32} : Met l yX0_isKey (ws_ yX0_isKey cX0_isKey 1 (some .boolean)) (ls_rm 0 0) (va_Pc [.int k] (fun _ => True)) (vp_Si (fun r => r = ls_kb k)) 0 0 (fun _ => False) := by
  refine Met.ofW (cc := cX0_isKey) (maxL := 1) (ret := (some .boolean)) (by decide) rfl ?_
  intro p e s m args below meth c s₁ B hml hv
  obtain ⟨rfl, -⟩ := hv
  have hx := B.exec
  have hb := B.bytes
  have hr := B.returns
  have hts := atoms_spec (ws := (ws_ yX0_isKey cX0_isKey 1 (some .boolean))) B.pre
  have hts : ∀ w ∈ lw_all, w.before _ s = true := fun w h => hts w (List.mem_cons_of_mem _ h)
  have hown : s.vm.findClass RX0 = some m.cls := findClass_of_methodNamed B.named
  have hlocks := B.notSynchronized
  have S : CallFix p m c cX0_isKey 1 s _ lw_all RX0 := ⟨hx, hb, hml, hown, hts⟩
  have hl := lv_entry ([.int k]) (n := 1) (Nat.le_of_ble_eq_true rfl)
  rw [lg_entry_eq]
  generalize (lg_sl ([.int k]) ++ List.replicate (1 - (lg_sl ([.int k])).length) Slot.unset).toArray = ls at hl ⊢
  have hl : lv_has ls 1 [(0, .int k)] := hl
  refine lv_iload_n hx hb dX0_isKey_0 rfl (lv_at hl 0 rfl) ?_
  refine lv_if_lt (tgt := 14) hx hb dX0_isKey_1 (by decide) (fun c1 => ?_) (fun c1 => ?_)
  · skip
    refine lv_iconst (v := 0) hx hb dX0_isKey_14 (by decide) ?_
    exact W.zret (v := 0) hx hb hr rfl (fun t ht hW => ⟨_, rfl, by unfold ls_kb; rw [if_pos c1], ht⟩) (fun q hq => by cases hq) dX0_isKey_15
  · skip
    refine lv_iload_n hx hb dX0_isKey_4 rfl (lv_at hl 0 rfl) ?_
    refine lv_bipush (v := nI 16) hx hb dX0_isKey_5 (by decide) ?_
    refine lv_icmp_ge (tgt := 14) hx hb dX0_isKey_7 (by decide) (fun c2 => ?_) (fun c2 => ?_)
    · skip
      refine lv_iconst (v := 0) hx hb dX0_isKey_14 (by decide) ?_
      exact W.zret (v := 0) hx hb hr rfl (fun t ht hW => ⟨_, rfl, by unfold ls_kb; rw [if_neg c1, if_pos c2], ht⟩) (fun q hq => by cases hq) dX0_isKey_15
    · skip
      refine lv_iconst (v := 1) hx hb dX0_isKey_10 (by decide) ?_
      refine lv_goto (tgt := 15) hx hb dX0_isKey_11 (by decide) ?_
      exact W.zret (v := 1) hx hb hr rfl (fun t ht hW => ⟨_, rfl, by unfold ls_kb; rw [if_neg c1, if_neg c2], ht⟩) (fun q hq => by cases hq) dX0_isKey_15
set_option maxHeartbeats 4000000 in
set_option maxRecDepth 100000 in
/-- holds(entry) -/
theorem mt_holds {l : Launch} {dC : Nat → ClassId} {dI : Nat → Nat → Nat} {h : Nat} {a : Nat → Nat} {dB dZ dN : ClassId} {K X V E : Nat → Int32} {en se op os oc : Int32} {la ks kl ko nk nr nv ne : Nat → Int32} {r0 : Option Nat} (hr0 : ∀ i, r0 = some i → i < 96) : Met l yX0_holds (ws_ yX0_holds cX0_holds 2 (some .boolean)) (ls_rm 0 0) (va_Pc [.ref h, .int (ls_i r0)] (fun U => va_P (dC, dI) ls_C (ls_W h a dB dZ dN K X V E en se op os oc la ks kl ko nk nr nv ne) U.heap ∧ va_K (dC, dI) ls_C (ls_T dB dZ dN) U)) (vp_Si (fun r => r = ls_hd X r0)) 0 0 (fun _ => False) := by
  refine Met.ofW (cc := cX0_holds) (maxL := 2) (ret := (some .boolean)) (by decide) rfl ?_
  intro p e s m args below meth c s₁ B hml hv
  obtain ⟨rfl, hP, hK⟩ := hv
  have hx := B.exec
  have hb := B.bytes
  have hr := B.returns
  have hts := atoms_spec (ws := (ws_ yX0_holds cX0_holds 2 (some .boolean))) B.pre
  have hts : ∀ w ∈ lw_all, w.before _ s = true := fun w h => hts w (List.mem_cons_of_mem _ h)
  have hown : s.vm.findClass RX0 = some m.cls := findClass_of_methodNamed B.named
  have hlocks := B.notSynchronized
  have S : CallFix p m c cX0_holds 2 s _ lw_all RX0 := ⟨hx, hb, hml, hown, hts⟩
  have hl := lv_entry ([.ref h, .int (ls_i r0)]) (n := 2) (Nat.le_of_ble_eq_true rfl)
  rw [lg_entry_eq]
  generalize (lg_sl ([.ref h, .int (ls_i r0)]) ++ List.replicate (2 - (lg_sl ([.ref h, .int (ls_i r0)])).length) Slot.unset).toArray = ls at hl ⊢
  have hl : lv_has ls 2 [(0, .ref h), (1, .int (ls_i r0))] := hl
  cases r0 with
  | none =>
    have hl : lv_has ls 2 [(0, .ref h), (1, .int (-1))] := hl
    refine lv_iload_n hx hb dX0_holds_0 rfl (lv_at hl 1 rfl) ?_
    refine lv_if_lt (tgt := 17) hx hb dX0_holds_1 (by decide) (fun c1 => ?_) (fun c1 => ?_)
    · skip
      refine lv_iconst (v := 0) hx hb dX0_holds_17 (by decide) ?_
      exact W.zret (v := 0) hx hb hr rfl (fun t ht hW => ⟨_, rfl, rfl, ht⟩) (fun q hq => by cases hq) dX0_holds_18
    · exact absurd (by decide) c1
  | some i =>
    have hi := hr0 i rfl
    have hl : lv_has ls 2 [(0, .ref h), (1, .int (nI i))] := hl
    refine lv_iload_n hx hb dX0_holds_0 rfl (lv_at hl 1 rfl) ?_
    refine lv_if_lt (tgt := 17) hx hb dX0_holds_1 (by decide) (fun c1 => ?_) (fun c1 => ?_)
    · exact absurd c1 (nI_pos (by omega))
    · skip
      refine lv_aload_n hx hb dX0_holds_4 rfl (lv_at hl 0 rfl) ?_
      refine ls_g1 S hK hP dX0_holds_5 ?_
      refine lv_iload_n hx hb dX0_holds_8 rfl (lv_at hl 1 rfl) ?_
      refine ls_l1 S hK hP hi dX0_holds_9 ?_
      refine lv_if_ne (tgt := 17) hx hb dX0_holds_10 (by decide) (fun c2 => ?_) (fun c2 => ?_)
      · skip
        refine lv_iconst (v := 0) hx hb dX0_holds_17 (by decide) ?_
        exact W.zret (v := 0) hx hb hr rfl (fun t ht hW => ⟨_, rfl, by rw [ls_hd_s, if_neg c2], ht⟩) (fun q hq => by cases hq) dX0_holds_18
      · skip
        refine lv_iconst (v := 1) hx hb dX0_holds_13 (by decide) ?_
        refine lv_goto (tgt := 18) hx hb dX0_holds_14 (by decide) ?_
        exact W.zret (v := 1) hx hb hr rfl (fun t ht hW => ⟨_, rfl, by rw [ls_hd_s, if_pos c2], ht⟩) (fun q hq => by cases hq) dX0_holds_18
set_option maxHeartbeats 4000000 in
set_option maxRecDepth 100000 in
/-- before(k, place): the latest entry of the key before the place -/
theorem mt_before {l : Launch} {dC : Nat → ClassId} {dI : Nat → Nat → Nat} {h : Nat} {a : Nat → Nat} {dB dZ dN : ClassId} {K X V E : Nat → Int32} {en se op os oc : Int32} {la ks kl ko nk nr nv ne : Nat → Int32} {n q j : Nat} (hn : n ≤ 96) (hq : q ≤ n) (hj : j < 16) (hla : la j = ls_i (ls_at K (nI j) n)) (hE : ∀ r, r < n → E r = ls_i (ls_at K (K r) r)) : Met l yX0_before (ws_ yX0_before cX0_before 5 (some .int)) (ls_rm 0 0) (va_Pc [.ref h, .int (nI j), .int (nI q)] (fun U => va_P (dC, dI) ls_C (ls_W h a dB dZ dN K X V E en se op os oc la ks kl ko nk nr nv ne) U.heap ∧ va_K (dC, dI) ls_C (ls_T dB dZ dN) U)) (vp_Si (fun r => r = ls_i (ls_at K (nI j) q))) 0 0 (fun _ => False) := by
  refine Met.ofW (cc := cX0_before) (maxL := 5) (ret := (some .int)) (by decide) rfl ?_
  intro p e s m args below meth c s₁ B hml hv
  obtain ⟨rfl, hP, hK⟩ := hv
  have hx := B.exec
  have hb := B.bytes
  have hr := B.returns
  have hts := atoms_spec (ws := (ws_ yX0_before cX0_before 5 (some .int))) B.pre
  have hts : ∀ w ∈ lw_all, w.before _ s = true := fun w h => hts w (List.mem_cons_of_mem _ h)
  have hown : s.vm.findClass RX0 = some m.cls := findClass_of_methodNamed B.named
  have hlocks := B.notSynchronized
  have S : CallFix p m c cX0_before 5 s _ lw_all RX0 := ⟨hx, hb, hml, hown, hts⟩
  have hl := lv_entry ([.ref h, .int (nI j), .int (nI q)]) (n := 5) (Nat.le_of_ble_eq_true rfl)
  rw [lg_entry_eq]
  generalize (lg_sl ([.ref h, .int (nI j), .int (nI q)]) ++ List.replicate (5 - (lg_sl ([.ref h, .int (nI j), .int (nI q)])).length) Slot.unset).toArray = ls at hl ⊢
  have hl : lv_has ls 5 [(0, .ref h), (1, .int (nI j)), (2, .int (nI q))] := hl
  have loop : ∀ (f st i : Nat) (ls : Array Slot), 97 ≤ st + f → i + st ≤ 96 → q ≤ i → i ≤ n → lv_has ls 5 [(0, .ref h), (1, .int (nI j)), (2, .int (nI q)), (3, .int (ls_i (ls_at K (nI j) i))), (4, .int (nI st))] → W p l e (headSpec (ws_ yX0_before cX0_before 5 (some .int)) (ls_rm 0 0)).room s m ([.ref h, .int (nI j), .int (nI q)] : List Value).toArray below meth c s.heap [] 0 0 (MQ below (vp_Si (fun r => r = ls_i (ls_at K (nI j) q))) ([.ref h, .int (nI j), .int (nI q)] : List Value).toArray s 0 0 (fun _ => False)) (F0 m 10 ls []) := by
    intro f
    induction f with
    | zero => intro st i ls h1 h2; omega
    | succ f ih =>
      intro st i ls h1 h2 h3 h4 hl
      refine lv_iload hx hb dX0_before_10 (lv_at hl 4 rfl) ?_
      refine lv_bipush (v := nI 96) hx hb dX0_before_12 (by decide) ?_
      refine ls_ige (tgt := 35) hx hb (by omega) (by omega) dX0_before_14 (by decide) (fun c1 => ?_) (fun c1 => ?_)
      · skip
        refine lv_iload_n hx hb dX0_before_35 rfl (lv_at hl 3 rfl) ?_
        exact W.iret (v := ls_i (ls_at K (nI j) i)) hx hb hr (fun t ht hW => ⟨_, rfl, by rw [show q = i by omega], ht⟩) (fun q hq => by cases hq) dX0_before_36
      · cases hat : ls_at K (nI j) i with
        | none =>
          rw [hat] at hl
          have hl : lv_has ls 5 [(0, .ref h), (1, .int (nI j)), (2, .int (nI q)), (3, .int (-1)), (4, .int (nI st))] := hl
          refine lv_iload_n hx hb dX0_before_17 rfl (lv_at hl 3 rfl) ?_
          refine lv_iload_n hx hb dX0_before_18 rfl (lv_at hl 2 rfl) ?_
          refine lv_icmp_lt (tgt := 35) hx hb dX0_before_19 (by decide) (fun c2 => ?_) (fun c2 => ?_)
          · skip
            refine lv_iload_n hx hb dX0_before_35 rfl (lv_at hl 3 rfl) ?_
            exact W.iret (v := (-1)) hx hb hr (fun t ht hW => ⟨_, rfl, by rw [← ls_at_mono i h3 (fun r hr => by rw [hat] at hr; cases hr), hat]; rfl, ht⟩) (fun q hq => by cases hq) dX0_before_36
          · exact absurd (ls_m1 (by omega)) c2
        | some r =>
          have hr0 := ls_at_lt hat
          rw [hat] at hl
          have hl : lv_has ls 5 [(0, .ref h), (1, .int (nI j)), (2, .int (nI q)), (3, .int (nI r)), (4, .int (nI st))] := hl
          refine lv_iload_n hx hb dX0_before_17 rfl (lv_at hl 3 rfl) ?_
          refine lv_iload_n hx hb dX0_before_18 rfl (lv_at hl 2 rfl) ?_
          refine ls_ilt (tgt := 35) hx hb (by omega) (by omega) dX0_before_19 (by decide) (fun c2 => ?_) (fun c2 => ?_)
          · skip
            refine lv_iload_n hx hb dX0_before_35 rfl (lv_at hl 3 rfl) ?_
            exact W.iret (v := (nI r)) hx hb hr (fun t ht hW => ⟨_, rfl, by rw [← ls_at_mono i h3 (fun z hz => by rw [hat] at hz; cases hz; exact c2), hat]; rfl, ht⟩) (fun q hq => by cases hq) dX0_before_36
          · skip
            refine lv_aload_n hx hb dX0_before_22 rfl (lv_at hl 0 rfl) ?_
            refine ls_g3 S hK hP dX0_before_23 ?_
            refine lv_iload_n hx hb dX0_before_26 rfl (lv_at hl 3 rfl) ?_
            refine ls_l3 S hK hP (show r < 96 by omega) dX0_before_27 ?_
            rw [show (E r : Int32) = ls_i (ls_at K (nI j) r) from by rw [hE r (by omega), hr0.2]]
            refine lv_istore_n (lv' := [(3, .int (ls_i (ls_at K (nI j) r))), (0, .ref h), (1, .int (nI j)), (2, .int (nI q)), (4, .int (nI st))]) hx hb dX0_before_28 rfl hl (by decide) rfl (fun ls hl => ?_)
            refine lv_iinc (v := nI (st + 1)) (lv' := [(4, .int (nI (st + 1))), (3, .int (ls_i (ls_at K (nI j) r))), (0, .ref h), (1, .int (nI j)), (2, .int (nI q))]) hx hb dX0_before_29 hl (k := 4) rfl (ls_inc st) (by decide) rfl (fun ls hl => ?_)
            refine lv_goto (tgt := 10) hx hb dX0_before_32 (by decide) ?_
            exact ih (st + 1) r ls (by omega) (by omega) c2 (by omega) (lv_sub hl [2, 3, 4, 1, 0] rfl)
  refine lv_aload_n hx hb dX0_before_0 rfl (lv_at hl 0 rfl) ?_
  refine ls_g9 S hK hP dX0_before_1 ?_
  refine lv_iload_n hx hb dX0_before_4 rfl (lv_at hl 1 rfl) ?_
  refine ls_l4 S hK hP hj dX0_before_5 ?_
  rw [show (la j : Int32) = ls_i (ls_at K (nI j) n) from hla]
  refine lv_istore_n (lv' := [(3, .int (ls_i (ls_at K (nI j) n))), (0, .ref h), (1, .int (nI j)), (2, .int (nI q))]) hx hb dX0_before_6 rfl hl (by decide) rfl (fun ls hl => ?_)
  refine lv_iconst (v := nI 0) hx hb dX0_before_7 (by decide) ?_
  refine lv_istore (lv' := [(4, .int (nI 0)), (3, .int (ls_i (ls_at K (nI j) n))), (0, .ref h), (1, .int (nI j)), (2, .int (nI q))]) hx hb dX0_before_8 hl (by decide) rfl (fun ls hl => ?_)
  exact loop 97 0 n ls (by omega) (by omega) hq (Nat.le_refl n) (lv_sub hl [2, 3, 4, 1, 0] rfl)
set_option maxHeartbeats 4000000 in
set_option maxRecDepth 100000 in
/-- carryOver(entry, place) -/
theorem mt_carry {l : Launch} {dC : Nat → ClassId} {dI : Nat → Nat → Nat} {h : Nat} {a : Nat → Nat} {dB dZ dN : ClassId} {K X V E : Nat → Int32} {en se op os oc : Int32} {la ks kl ko nk nr nv ne : Nat → Int32} {sz : Nat} {i b j : Nat} (hi : i < 96) (hb0 : b < 96) (hj : j < 16) (hKi : K i = nI j) (hXi : X i = 0 ∨ X i = 1) (hla : vp_nar .byte (la j) = la j) : Met l yX0_carryOver (ws_ yX0_carryOver cX0_carryOver 4 (some .int)) (ls_rm 0 0) (va_Pc [.ref h, .int (nI i), .int (nI b)] (fun U => U.heap.size = sz ∧ va_P (dC, dI) ls_C (ls_W h a dB dZ dN K X V E en se op os oc la ks kl ko nk nr nv ne) U.heap ∧ va_K (dC, dI) ls_C (ls_T dB dZ dN) U ∧ va_D (fun _ => True) (ls_W h a dB dZ dN K X V E en se op os oc la ks kl ko nk nr nv ne))) (va_Qi (fun (r : Int32) (_ : Unit) => r = nI (b + 1)) (fun _ t => va_P (dC, dI) ls_C (ls_W h a dB dZ dN K X V E en se op os oc (upd la j (nI b)) ks kl ko (upd nk b (nI j)) (upd nr b (X i)) (upd nv b (V i)) (upd ne b (la j))) t.heap ∧ va_K (dC, dI) ls_C (ls_T dB dZ dN) t ∧ va_D (va_A (ls_W h a dB dZ dN K X V E en se op os oc la ks kl ko nk nr nv ne) sz) (ls_W h a dB dZ dN K X V E en se op os oc (upd la j (nI b)) ks kl ko (upd nk b (nI j)) (upd nr b (X i)) (upd nv b (V i)) (upd ne b (la j)))) (va_A (ls_W h a dB dZ dN K X V E en se op os oc la ks kl ko nk nr nv ne) sz)) 0 0 (va_A (ls_W h a dB dZ dN K X V E en se op os oc la ks kl ko nk nr nv ne) sz) := by
  refine Met.ofW (cc := cX0_carryOver) (maxL := 4) (ret := (some .int)) (by decide) rfl ?_
  intro p e s m args below meth c s₁ B hml hv
  obtain ⟨rfl, hsz, hP, hK, hD0⟩ := hv
  have hx := B.exec
  have hb := B.bytes
  have hr := B.returns
  have hts := atoms_spec (ws := (ws_ yX0_carryOver cX0_carryOver 4 (some .int))) B.pre
  have hts : ∀ w ∈ lw_all, w.before _ s = true := fun w h => hts w (List.mem_cons_of_mem _ h)
  have hown : s.vm.findClass RX0 = some m.cls := findClass_of_methodNamed B.named
  have hlocks := B.notSynchronized
  have S : CallFix p m c cX0_carryOver 4 s _ lw_all RX0 := ⟨hx, hb, hml, hown, hts⟩
  subst hsz
  have hD := hD0.self (sz := s.heap.size)
  generalize hAe : va_A (ls_W h a dB dZ dN K X V E en se op os oc la ks kl ko nk nr nv ne) s.heap.size = A at hD ⊢
  have hA : ∀ q : Nat, s.heap.size ≤ q → A q := fun q h => by rw [← hAe]; exact Or.inr h
  have hS : va_S A s.heap s.heap [] := va_S.rf
  have hl := lv_entry ([.ref h, .int (nI i), .int (nI b)]) (n := 4) (Nat.le_of_ble_eq_true rfl)
  rw [lg_entry_eq]
  generalize (lg_sl ([.ref h, .int (nI i), .int (nI b)]) ++ List.replicate (4 - (lg_sl ([.ref h, .int (nI i), .int (nI b)])).length) Slot.unset).toArray = ls at hl ⊢
  have hl : lv_has ls 4 [(0, .ref h), (1, .int (nI i)), (2, .int (nI b))] := hl
  refine lv_aload_n hx hb dX0_carryOver_0 rfl (lv_at hl 0 rfl) ?_
  refine ls_g0 S hK hP dX0_carryOver_1 ?_
  refine lv_iload_n hx hb dX0_carryOver_4 rfl (lv_at hl 1 rfl) ?_
  refine ls_l0 S hK hP hi dX0_carryOver_5 ?_
  rw [show (K i : Int32) = nI j from hKi]
  refine lv_istore_n (lv' := [(3, .int (nI j)), (0, .ref h), (1, .int (nI i)), (2, .int (nI b))]) hx hb dX0_carryOver_6 rfl hl (by decide) rfl (fun ls hl => ?_)
  refine lv_aload_n hx hb dX0_carryOver_7 rfl (lv_at hl 1 rfl) ?_
  refine ls_g13 S hK hP dX0_carryOver_8 ?_
  refine lv_iload_n hx hb dX0_carryOver_11 rfl (lv_at hl 3 rfl) ?_
  refine lv_iload_n hx hb dX0_carryOver_12 rfl (lv_at hl 0 rfl) ?_
  refine lv_i2b (v := nI j) hx hb dX0_carryOver_13 (ls_b8 j (by omega)) ?_
  refine ls_s8 S hK hP hD hS hb0 (ls_nb (by omega)) dX0_carryOver_14 (fun H locs hP hD hS => ?_)
  refine lv_aload_n hx hb dX0_carryOver_15 rfl (lv_at hl 1 rfl) ?_
  refine ls_g14 S hK hP dX0_carryOver_16 ?_
  refine lv_iload_n hx hb dX0_carryOver_19 rfl (lv_at hl 3 rfl) ?_
  refine lv_aload_n hx hb dX0_carryOver_20 rfl (lv_at hl 1 rfl) ?_
  refine ls_g1 S hK hP dX0_carryOver_21 ?_
  refine lv_iload_n hx hb dX0_carryOver_24 rfl (lv_at hl 2 rfl) ?_
  refine ls_l1 S hK hP hi dX0_carryOver_25 ?_
  refine ls_s9 S hK hP hD hS hb0 (ls_nz hXi) dX0_carryOver_26 (fun H locs hP hD hS => ?_)
  refine lv_aload_n hx hb dX0_carryOver_27 rfl (lv_at hl 1 rfl) ?_
  refine ls_g15 S hK hP dX0_carryOver_28 ?_
  refine lv_iload_n hx hb dX0_carryOver_31 rfl (lv_at hl 3 rfl) ?_
  refine lv_aload_n hx hb dX0_carryOver_32 rfl (lv_at hl 1 rfl) ?_
  refine ls_g2 S hK hP dX0_carryOver_33 ?_
  refine lv_iload_n hx hb dX0_carryOver_36 rfl (lv_at hl 2 rfl) ?_
  refine ls_l2 S hK hP hi dX0_carryOver_37 ?_
  refine ls_s10 S hK hP hD hS hb0 dX0_carryOver_38 (fun H locs hP hD hS => ?_)
  refine lv_aload_n hx hb dX0_carryOver_39 rfl (lv_at hl 1 rfl) ?_
  refine ls_g16 S hK hP dX0_carryOver_40 ?_
  refine lv_iload_n hx hb dX0_carryOver_43 rfl (lv_at hl 3 rfl) ?_
  refine lv_aload_n hx hb dX0_carryOver_44 rfl (lv_at hl 1 rfl) ?_
  refine ls_g9 S hK hP dX0_carryOver_45 ?_
  refine lv_iload_n hx hb dX0_carryOver_48 rfl (lv_at hl 0 rfl) ?_
  refine ls_l4 S hK hP hj dX0_carryOver_49 ?_
  refine ls_s11 S hK hP hD hS hb0 hla dX0_carryOver_50 (fun H locs hP hD hS => ?_)
  refine lv_aload_n hx hb dX0_carryOver_51 rfl (lv_at hl 1 rfl) ?_
  refine ls_g9 S hK hP dX0_carryOver_52 ?_
  refine lv_iload_n hx hb dX0_carryOver_55 rfl (lv_at hl 0 rfl) ?_
  refine lv_iload_n hx hb dX0_carryOver_56 rfl (lv_at hl 3 rfl) ?_
  refine lv_i2b (v := nI b) hx hb dX0_carryOver_57 (ls_b8 b (by omega)) ?_
  refine ls_s4 S hK hP hD hS hj (ls_nb (by omega)) dX0_carryOver_58 (fun H locs hP hD hS => ?_)
  refine lv_iload_n hx hb dX0_carryOver_59 rfl (lv_at hl 3 rfl) ?_
  refine lv_iconst (v := 1) hx hb dX0_carryOver_60 (by decide) ?_
  refine lv_iadd hx hb dX0_carryOver_61 ?_
  exact W.iret (v := nI b + 1) hx hb hr (fun t ht hW => ⟨⟨nI b + 1, (), rfl, nI_1 b, by rw [ht]; exact hP, va_K.moved hW.alike hK, hD⟩, hS.F ht⟩) hS.2.2 dX0_carryOver_62
section
variable {p : Program} {l : Launch} {e : Env} {R : Room} {s : State} {m : MethodId} {args : Array Value} {below : List Frame} {meth : Method} {c : Code} {H : Heap} {locs : List Loc} {cells slots : Nat} {Q : State → Prop}
variable {cc : ByteArray} {nL pc : Nat} {ls : Array Slot} {rest st0 : List Value} {dC : Nat → ClassId} {dI : Nat → Nat → Nat} {A : Nat → Prop} {H0 : Heap} {dB dZ dN : ClassId}
variable {h : Nat} {a : Nat → Nat}
variable {K X V E la ks kl ko nk nr nv ne : Nat → Int32} {en se op os oc : Int32}
theorem ls_c_before (S : CallFix p m c cc nL s args lw_all RX0) (hK : va_K (dC, dI) ls_C (ls_T dB dZ dN) s) (hP : va_P (dC, dI) ls_C (ls_W h a dB dZ dN K X V E en se op os oc la ks kl ko nk nr nv ne) H) (hsz : ls.size = nL) (hR : 1 ≤ R.frames ∧ 24 ≤ R.locals) (hf : cells ≤ R.cells ∧ slots ≤ R.slots) (hrm : (rest.map fun v => v.category).sum ≤ 8) (hd : decode cc pc = .ok (.invokevirtual 68, 3)) {n q j : Nat} (hn : n ≤ 96) (hq : q ≤ n) (hj : j < 16) (hla : la j = ls_i (ls_at K (nI j) n)) (hE : ∀ r, r < n → E r = ls_i (ls_at K (K r) r))
    (kk : ∀ r : Int32, r = ls_i (ls_at K (nI j) q) → W p l e R s m args below meth c H locs cells slots Q (F0 m (pc + 3) ls (.int r :: rest))) : W p l e R s m args below meth c H locs cells slots Q (F0 m pc ls (.int (nI q) :: .int (nI j) :: .ref h :: rest)) :=
  ls_rV (ci := 0) S hK hP (mt_before hn hq hj hla hE) (cwV 2 S.2.2.2.2 (lw_V q96 q98 qs2 q12 q99) rfl rfl rfl (by decide +kernel) ⟨hR.1, hR.2⟩) rfl rfl rfl hsz rfl hrm hd hf kk
theorem ls_c_holds (S : CallFix p m c cc nL s args lw_all RX0) (hK : va_K (dC, dI) ls_C (ls_T dB dZ dN) s) (hP : va_P (dC, dI) ls_C (ls_W h a dB dZ dN K X V E en se op os oc la ks kl ko nk nr nv ne) H) (hsz : ls.size = nL) (hR : 1 ≤ R.frames ∧ 21 ≤ R.locals) (hf : cells ≤ R.cells ∧ slots ≤ R.slots) (hrm : (rest.map fun v => v.category).sum ≤ 8) (hd : decode cc pc = .ok (.invokevirtual 72, 3)) {r0 : Option Nat} (hr0 : ∀ i, r0 = some i → i < 96)
    (kk : ∀ r : Int32, r = ls_hd X r0 → W p l e R s m args below meth c H locs cells slots Q (F0 m (pc + 3) ls (.int r :: rest))) : W p l e R s m args below meth c H locs cells slots Q (F0 m pc ls (.int (ls_i r0) :: .ref h :: rest)) :=
  ls_rV (ci := 0) S hK hP (mt_holds hr0) (cwV 1 S.2.2.2.2 (lw_V q100 q102 qs3 q12 q103) rfl rfl rfl (by decide +kernel) ⟨hR.1, hR.2⟩) rfl rfl rfl hsz rfl hrm hd hf kk
theorem ls_c_isKey {k : Int32} (S : CallFix p m c cc nL s args lw_all RX0) (hsz : ls.size = nL) (hR : 1 ≤ R.frames ∧ 20 ≤ R.locals) (hf : cells ≤ R.cells ∧ slots ≤ R.slots) (hrm : (rest.map fun v => v.category).sum ≤ 8) (hd : decode cc pc = .ok (.invokestatic 79, 3))
    (kk : ∀ r : Int32, r = ls_kb k → W p l e R s m args below meth c H locs cells slots Q (F0 m (pc + 3) ls (.int r :: rest))) : W p l e R s m args below meth c H locs cells slots Q (F0 m pc ls (.int k :: rest)) :=
  vp_callSi (va_Run.run (va_runS (As := [.int k]) (rest := rest) S mt_isKey (va_cwS 1 S.2.2.2.2 (lw_S q85 q86 q12 q87) rfl rfl rfl (by decide +kernel) ⟨hR.1, hR.2⟩) ⟨fun _ _ _ _ q => ⟨q.1, trivial⟩, fun _ _ _ => ⟨rfl, trivial⟩⟩ rfl rfl hsz rfl (lv_room hrm) hd hf)) kk
theorem ls_c_carry (S : CallFix p m c cc nL s args lw_all RX0) (hK : va_K (dC, dI) ls_C (ls_T dB dZ dN) s) (hP : va_P (dC, dI) ls_C (ls_W h a dB dZ dN K X V E en se op os oc la ks kl ko nk nr nv ne) H) (hD : va_D A (ls_W h a dB dZ dN K X V E en se op os oc la ks kl ko nk nr nv ne)) (hS : va_S A H0 H locs) (hA : ∀ q, H0.size ≤ q → A q) (hsz : ls.size = nL) (hR : 1 ≤ R.frames ∧ 23 ≤ R.locals) (hf : cells ≤ R.cells ∧ slots ≤ R.slots) (hrm : (rest.map fun v => v.category).sum ≤ 8) (hd : decode cc pc = .ok (.invokevirtual 76, 3)) {i b j : Nat} (hi : i < 96) (hb0 : b < 96) (hj : j < 16) (hKi : K i = nI j) (hXi : X i = 0 ∨ X i = 1) (hla : vp_nar .byte (la j) = la j)
    (kk : ∀ (H1 : Heap) (locs1 : List Loc), va_P (dC, dI) ls_C (ls_W h a dB dZ dN K X V E en se op os oc (upd la j (nI b)) ks kl ko (upd nk b (nI j)) (upd nr b (X i)) (upd nv b (V i)) (upd ne b (la j))) H1 → va_D A (ls_W h a dB dZ dN K X V E en se op os oc (upd la j (nI b)) ks kl ko (upd nk b (nI j)) (upd nr b (X i)) (upd nv b (V i)) (upd ne b (la j))) → va_S A H0 H1 locs1 → W p l e R s m args below meth c H1 locs1 cells slots Q (F0 m (pc + 3) ls (.int (nI (b + 1)) :: rest))) : W p l e R s m args below meth c H locs cells slots Q (F0 m pc ls (.int (nI b) :: .int (nI i) :: .ref h :: rest)) :=
  ls_cI (ci := 0) S hK hP hD hS hA (mt_carry hi hb0 hj hKi hXi hla) (cwV 2 S.2.2.2.2 (lw_V q104 q106 qs4 q12 q107) rfl rfl rfl (by decide +kernel) ⟨hR.1, hR.2⟩) rfl rfl rfl hsz rfl hrm hd hf (fun r _ t H1 locs1 ht hvm hp hB hS1 hF => by
    obtain ⟨hP1, -, hD1⟩ := hB
    rw [ht] at hP1
    rw [hp]
    exact kk H1 locs1 hP1 (hD1.weaken (fun _ z _ hz => hF z.1 hz)) hS1)
end
end
section
set_option maxRecDepth 100000
abbrev ls_B (dC : Nat → ClassId) (dI : Nat → Nat → Nat) (h : Nat) (a : Nat → Nat) (dB dZ dN : ClassId) (A : Nat → Prop) (N : Nat) (cu ba sa : Nat → Option Int32) (o : Bool) (ch : Int32) (t : State) : Prop := ∃ (K X V E : Nat → Int32) (en se op os oc : Int32) (la ks kl ko nk nr nv ne : Nat → Int32), va_P (dC, dI) ls_C (ls_W h a dB dZ dN K X V E en se op os oc la ks kl ko nk nr nv ne) t.heap ∧ va_K (dC, dI) ls_C (ls_T dB dZ dN) t ∧ va_D A (ls_W h a dB dZ dN K X V E en se op os oc la ks kl ko nk nr nv ne) ∧ ls_R N K X V E la en se op os oc cu ba sa o ch
section
variable {p : Program} {l : Launch} {e : Env} {R : Room} {s : State} {m : MethodId} {args : Array Value} {below : List Frame} {meth : Method} {c : Code} {cells slots : Nat} {Q : State → Prop}
variable {dC : Nat → ClassId} {dI : Nat → Nat → Nat} {A : Nat → Prop} {H0 : Heap} {dB dZ dN : ClassId} {h : Nat} {a : Nat → Nat}

set_option maxHeartbeats 4000000 in
set_option maxRecDepth 100000 in
/-- rewrite's last loop: the new row becomes the row -/
theorem rw_loop5 (S : CallFix p m c cX0_rewrite 4 s args lw_all RX0) (hK : va_K (dC, dI) ls_C (ls_T dB dZ dN) s) {en se op os oc x1 : Int32} {la ks kl ko nk nr nv ne : Nat → Int32} {b : Nat} (hb0 : b ≤ 96) (hnr : ∀ r, r < b → nr r = 0 ∨ nr r = 1) (hnk : ∀ r, r < b → vp_nar .byte (nk r) = nk r) (hne : ∀ r, r < b → vp_nar .byte (ne r) = ne r)
    (kk : ∀ (K X V E : Nat → Int32) (H : Heap) (locs : List Loc) (ls : Array Slot), (∀ r, r < b → K r = nk r ∧ X r = nr r ∧ V r = nv r ∧ E r = ne r) → va_P (dC, dI) ls_C (ls_W h a dB dZ dN K X V E en se op os oc la ks kl ko nk nr nv ne) H → va_D A (ls_W h a dB dZ dN K X V E en se op os oc la ks kl ko nk nr nv ne) → va_S A H0 H locs → W p l e R s m args below meth c H locs cells slots Q (F0 m 308 ls [])) :
    ∀ (f i : Nat) (K X V E : Nat → Int32) (H : Heap) (locs : List Loc) (ls : Array Slot), i ≤ b → b < i + f → (∀ r, r < i → K r = nk r ∧ X r = nr r ∧ V r = nv r ∧ E r = ne r) → va_P (dC, dI) ls_C (ls_W h a dB dZ dN K X V E en se op os oc la ks kl ko nk nr nv ne) H → va_D A (ls_W h a dB dZ dN K X V E en se op os oc la ks kl ko nk nr nv ne) → va_S A H0 H locs → lv_has ls 4 [(0, .ref h), (1, .int x1), (2, .int (nI b)), (3, .int (nI i))] → W p l e R s m args below meth c H locs cells slots Q (F0 m 249 ls []) := by
  have hx := S.1
  have hb := S.2.1
  intro f
  induction f with
  | zero => intro i K X V E H locs ls h1 h2; omega
  | succ f ih =>
    intro i K X V E H locs ls h1 h2 hc hP hD hS hl
    refine lv_iload_n hx hb dX0_rewrite_249 rfl (lv_at hl 3 rfl) ?_
    refine lv_iload_n hx hb dX0_rewrite_250 rfl (lv_at hl 2 rfl) ?_
    refine ls_ige (tgt := 308) hx hb (by omega) (by omega) dX0_rewrite_251 (by decide) (fun c1 => ?_) (fun c1 => ?_)
    · exact kk K X V E H locs ls (fun r hr => hc r (by omega)) hP hD hS
    · skip
      have hi : i < 96 := by omega
      refine lv_aload_n hx hb dX0_rewrite_254 rfl (lv_at hl 0 rfl) ?_
      refine ls_g0 S hK hP dX0_rewrite_255 ?_
      refine lv_iload_n hx hb dX0_rewrite_258 rfl (lv_at hl 3 rfl) ?_
      refine lv_aload_n hx hb dX0_rewrite_259 rfl (lv_at hl 0 rfl) ?_
      refine ls_g13 S hK hP dX0_rewrite_260 ?_
      refine lv_iload_n hx hb dX0_rewrite_263 rfl (lv_at hl 3 rfl) ?_
      refine ls_l8 S hK hP hi dX0_rewrite_264 ?_
      refine ls_s0 S hK hP hD hS hi (hnk i c1) dX0_rewrite_265 (fun H locs hP hD hS => ?_)
      refine lv_aload_n hx hb dX0_rewrite_266 rfl (lv_at hl 0 rfl) ?_
      refine ls_g1 S hK hP dX0_rewrite_267 ?_
      refine lv_iload_n hx hb dX0_rewrite_270 rfl (lv_at hl 3 rfl) ?_
      refine lv_aload_n hx hb dX0_rewrite_271 rfl (lv_at hl 0 rfl) ?_
      refine ls_g14 S hK hP dX0_rewrite_272 ?_
      refine lv_iload_n hx hb dX0_rewrite_275 rfl (lv_at hl 3 rfl) ?_
      refine ls_l9 S hK hP hi dX0_rewrite_276 ?_
      refine ls_s1 S hK hP hD hS hi (ls_nz (hnr i c1)) dX0_rewrite_277 (fun H locs hP hD hS => ?_)
      refine lv_aload_n hx hb dX0_rewrite_278 rfl (lv_at hl 0 rfl) ?_
      refine ls_g2 S hK hP dX0_rewrite_279 ?_
      refine lv_iload_n hx hb dX0_rewrite_282 rfl (lv_at hl 3 rfl) ?_
      refine lv_aload_n hx hb dX0_rewrite_283 rfl (lv_at hl 0 rfl) ?_
      refine ls_g15 S hK hP dX0_rewrite_284 ?_
      refine lv_iload_n hx hb dX0_rewrite_287 rfl (lv_at hl 3 rfl) ?_
      refine ls_l10 S hK hP hi dX0_rewrite_288 ?_
      refine ls_s2 S hK hP hD hS hi dX0_rewrite_289 (fun H locs hP hD hS => ?_)
      refine lv_aload_n hx hb dX0_rewrite_290 rfl (lv_at hl 0 rfl) ?_
      refine ls_g3 S hK hP dX0_rewrite_291 ?_
      refine lv_iload_n hx hb dX0_rewrite_294 rfl (lv_at hl 3 rfl) ?_
      refine lv_aload_n hx hb dX0_rewrite_295 rfl (lv_at hl 0 rfl) ?_
      refine ls_g16 S hK hP dX0_rewrite_296 ?_
      refine lv_iload_n hx hb dX0_rewrite_299 rfl (lv_at hl 3 rfl) ?_
      refine ls_l11 S hK hP hi dX0_rewrite_300 ?_
      refine ls_s3 S hK hP hD hS hi (hne i c1) dX0_rewrite_301 (fun H locs hP hD hS => ?_)
      refine lv_iinc (v := nI (i + 1)) (lv' := [(3, .int (nI (i + 1))), (0, .ref h), (1, .int x1), (2, .int (nI b))]) hx hb dX0_rewrite_302 hl (k := 3) rfl (ls_inc i) (by decide) rfl (fun ls hl => ?_)
      refine lv_goto (tgt := 249) hx hb dX0_rewrite_305 (by decide) ?_
      refine ih (i + 1) _ _ _ _ _ _ ls (by omega) (by omega) (fun r hr => ?_) hP hD hS (lv_sub hl [1, 2, 3, 0] rfl)
      by_cases e0 : r = i
      · rw [e0, pk_us, pk_us, pk_us, pk_us]; exact ⟨rfl, rfl, rfl, rfl⟩
      · rw [pk_un e0, pk_un e0, pk_un e0, pk_un e0]; exact hc r (by omega)
set_option maxHeartbeats 4000000 in
set_option maxRecDepth 100000 in
/-- rewrite's first loop: the entries that are kept, by key -/
theorem rw_loop1 (S : CallFix p m c cX0_rewrite 4 s args lw_all RX0) (hK : va_K (dC, dI) ls_C (ls_T dB dZ dN) s) (hR : 1 ≤ R.frames ∧ 24 ≤ R.locals) (hf : cells ≤ R.cells ∧ slots ≤ R.slots) (hA : ∀ q, H0.size ≤ q → A q) {K X V E nk nr nv ne : Nat → Int32} {en op os oc : Int32} {n q c0 : Nat} (hn : n ≤ 96) (hc : c0 ≤ n) (hq : q ≤ c0) (hE : ∀ r, r < n → E r = ls_i (ls_at K (K r) r))
    (kk : ∀ (la ks kl ko : Nat → Int32) (H : Heap) (locs : List Loc) (ls : Array Slot), (∀ j, j < 16 → ks j = ls_i (ls_at K (nI j) q) ∧ kl j = ls_i (ls_cut (ls_at K (nI j) c0) q) ∧ ko j = ls_i (ls_cut (ls_at K (nI j) n) c0) ∧ la j = -1) → va_P (dC, dI) ls_C (ls_W h a dB dZ dN K X V E en (nI q) op os oc la ks kl ko nk nr nv ne) H → va_D A (ls_W h a dB dZ dN K X V E en (nI q) op os oc la ks kl ko nk nr nv ne) → va_S A H0 H locs → lv_has ls 4 [(0, .ref h), (1, .int (nI c0))] → W p l e R s m args below meth c H locs cells slots Q (F0 m 109 ls [])) :
    ∀ (f i : Nat) (la ks kl ko : Nat → Int32) (H : Heap) (locs : List Loc) (ls : Array Slot), i ≤ 16 → 17 ≤ i + f → (∀ j, j < i → ks j = ls_i (ls_at K (nI j) q) ∧ kl j = ls_i (ls_cut (ls_at K (nI j) c0) q) ∧ ko j = ls_i (ls_cut (ls_at K (nI j) n) c0) ∧ la j = -1) → (∀ j, i ≤ j → j < 16 → la j = ls_i (ls_at K (nI j) n)) → va_P (dC, dI) ls_C (ls_W h a dB dZ dN K X V E en (nI q) op os oc la ks kl ko nk nr nv ne) H → va_D A (ls_W h a dB dZ dN K X V E en (nI q) op os oc la ks kl ko nk nr nv ne) → va_S A H0 H locs → lv_has ls 4 [(0, .ref h), (1, .int (nI c0)), (2, .int (nI i))] → W p l e R s m args below meth c H locs cells slots Q (F0 m 21 ls []) := by
  have hx := S.1
  have hb := S.2.1
  intro f
  induction f with
  | zero => intro i la ks kl ko H locs ls h1 h2; omega
  | succ f ih =>
    intro i la ks kl ko H locs ls h1 h2 hv hw hP hD hS hl
    refine lv_iload_n hx hb dX0_rewrite_21 rfl (lv_at hl 2 rfl) ?_
    refine lv_bipush (v := nI 16) hx hb dX0_rewrite_22 (by decide) ?_
    refine ls_ige (tgt := 109) hx hb (by omega) (by omega) dX0_rewrite_24 (by decide) (fun c1 => ?_) (fun c1 => ?_)
    · exact kk la ks kl ko H locs ls (fun j hj => hv j (by omega)) hP hD hS (lv_sub hl [0, 1] rfl)
    · skip
      have hla := hw i (Nat.le_refl i) c1
      have hbq : ∀ j, ls_at K (nI i) q = some j → j < 128 := fun j hj => by have := (ls_at_lt hj).1; omega
      have hbc : ∀ j, ls_cut (ls_at K (nI i) c0) q = some j → j < 128 := fun j hj => by have := (ls_at_lt (ls_cut_some hj).1).1; omega
      have hbn : ∀ j, ls_cut (ls_at K (nI i) n) c0 = some j → j < 128 := fun j hj => by have := (ls_at_lt (ls_cut_some hj).1).1; omega
      refine lv_aload_n hx hb dX0_rewrite_27 rfl (lv_at hl 0 rfl) ?_
      refine ls_g10 S hK hP dX0_rewrite_28 ?_
      refine lv_iload_n hx hb dX0_rewrite_31 rfl (lv_at hl 2 rfl) ?_
      refine lv_aload_n hx hb dX0_rewrite_32 rfl (lv_at hl 0 rfl) ?_
      refine lv_iload_n hx hb dX0_rewrite_33 rfl (lv_at hl 2 rfl) ?_
      refine lv_aload_n hx hb dX0_rewrite_34 rfl (lv_at hl 0 rfl) ?_
      refine ls_g5 S hK hP dX0_rewrite_35 ?_
      refine ls_c_before S hK hP hl.1 hR hf (Nat.le_of_ble_eq_true rfl) dX0_rewrite_38 hn (by omega) c1 hla hE (fun r9 hr9 => ?_)
      subst hr9
      refine lv_i2b (v := ls_i (ls_at K (nI i) q)) hx hb dX0_rewrite_41 (ls_b8i hbq) ?_
      refine ls_s5 S hK hP hD hS c1 (ls_nbi hbq) dX0_rewrite_42 (fun H locs hP hD hS => ?_)
      refine lv_aload_n hx hb dX0_rewrite_43 rfl (lv_at hl 0 rfl) ?_
      refine lv_iload_n hx hb dX0_rewrite_44 rfl (lv_at hl 2 rfl) ?_
      refine lv_iload_n hx hb dX0_rewrite_45 rfl (lv_at hl 1 rfl) ?_
      refine ls_c_before S hK hP hl.1 hR hf (Nat.le_of_ble_eq_true rfl) dX0_rewrite_46 hn hc c1 hla hE (fun r9 hr9 => ?_)
      subst hr9
      refine lv_istore_n (lv' := [(3, .int (ls_i (ls_at K (nI i) c0))), (0, .ref h), (1, .int (nI c0)), (2, .int (nI i))]) hx hb dX0_rewrite_49 rfl hl (by decide) rfl (fun ls hl => ?_)
      refine lv_aload_n hx hb dX0_rewrite_50 rfl (lv_at hl 1 rfl) ?_
      refine ls_g11 S hK hP dX0_rewrite_51 ?_
      refine lv_iload_n hx hb dX0_rewrite_54 rfl (lv_at hl 3 rfl) ?_
      have after : ∀ y0 : Int32, y0 = ls_i (ls_cut (ls_at K (nI i) c0) q) → W p l e R s m args below meth c H locs cells slots Q (F0 m 68 ls [.int y0, .int (nI i), .ref (a 6)]) := by
        intro y0 hy0
        subst hy0
        refine lv_i2b (v := ls_i (ls_cut (ls_at K (nI i) c0) q)) hx hb dX0_rewrite_68 (ls_b8i hbc) ?_
        refine ls_s6 S hK hP hD hS c1 (ls_nbi hbc) dX0_rewrite_69 (fun H locs hP hD hS => ?_)
        refine lv_aload_n hx hb dX0_rewrite_70 rfl (lv_at hl 1 rfl) ?_
        refine ls_g12 S hK hP dX0_rewrite_71 ?_
        refine lv_iload_n hx hb dX0_rewrite_74 rfl (lv_at hl 3 rfl) ?_
        have after2 : ∀ y0 : Int32, y0 = ls_i (ls_cut (ls_at K (nI i) n) c0) → W p l e R s m args below meth c H locs cells slots Q (F0 m 95 ls [.int y0, .int (nI i), .ref (a 7)]) := by
          intro y0 hy0
          subst hy0
          refine ls_s7 S hK hP hD hS c1 (ls_nbi hbn) dX0_rewrite_95 (fun H locs hP hD hS => ?_)
          refine lv_aload_n hx hb dX0_rewrite_96 rfl (lv_at hl 1 rfl) ?_
          refine ls_g9 S hK hP dX0_rewrite_97 ?_
          refine lv_iload_n hx hb dX0_rewrite_100 rfl (lv_at hl 3 rfl) ?_
          refine lv_iconst (v := (-1)) hx hb dX0_rewrite_101 (by decide) ?_
          refine ls_s4 S hK hP hD hS c1 (vp_nar_byte (-1)) dX0_rewrite_102 (fun H locs hP hD hS => ?_)
          refine lv_iinc (v := nI (i + 1)) (lv' := [(2, .int (nI (i + 1))), (3, .int (ls_i (ls_at K (nI i) c0))), (0, .ref h), (1, .int (nI c0))]) hx hb dX0_rewrite_103 hl (k := 3) rfl (ls_inc i) (by decide) rfl (fun ls hl => ?_)
          refine lv_goto (tgt := 21) hx hb dX0_rewrite_106 (by decide) ?_
          refine ih (i + 1) _ _ _ _ _ _ ls (by omega) (by omega) (fun j hj => ?_) (fun j hj hj2 => ?_) hP hD hS (lv_sub hl [2, 3, 0] rfl)
          · by_cases e0 : j = i
            · rw [e0, pk_us, pk_us, pk_us, pk_us]; exact ⟨rfl, rfl, rfl, rfl⟩
            · rw [pk_un e0, pk_un e0, pk_un e0, pk_un e0]; exact hv j (by omega)
          · rw [pk_un (by omega)]; exact hw j (by omega) hj2
        refine lv_aload_n hx hb dX0_rewrite_75 rfl (lv_at hl 1 rfl) ?_
        refine ls_g9 S hK hP dX0_rewrite_76 ?_
        refine lv_iload_n hx hb dX0_rewrite_79 rfl (lv_at hl 3 rfl) ?_
        refine ls_l4 S hK hP c1 dX0_rewrite_80 ?_
        rw [show (la i : Int32) = ls_i (ls_at K (nI i) n) from hla]
        refine lv_iload_n hx hb dX0_rewrite_81 rfl (lv_at hl 2 rfl) ?_
        cases hat : ls_at K (nI i) n with
        | none =>
          rw [hat] at after2
          refine lv_icmp_lt (tgt := 94) hx hb dX0_rewrite_82 (by decide) (fun c2 => ?_) (fun c2 => ?_)
          · skip
            refine lv_iconst (v := (-1)) hx hb dX0_rewrite_94 (by decide) ?_
            exact after2 _ rfl
          · exact absurd (show (-1 : Int32) < nI c0 from ls_m1 (by omega)) c2
        | some r =>
          have hr0 := ls_at_lt hat
          rw [hat] at after2
          refine W.eq (g2 := F0 m 82 ls [.int (nI c0), .int (nI r), .int (nI i), .ref (a 7)]) rfl ?_
          refine ls_ilt (tgt := 94) hx hb (by omega) (by omega) dX0_rewrite_82 (by decide) (fun c2 => ?_) (fun c2 => ?_)
          · skip
            refine lv_iconst (v := (-1)) hx hb dX0_rewrite_94 (by decide) ?_
            exact after2 _ (by rw [ls_cut_s, if_neg (by omega)]; rfl)
          · skip
            refine lv_aload_n hx hb dX0_rewrite_85 rfl (lv_at hl 1 rfl) ?_
            refine ls_g9 S hK hP dX0_rewrite_86 ?_
            refine lv_iload_n hx hb dX0_rewrite_89 rfl (lv_at hl 3 rfl) ?_
            refine ls_l4 S hK hP c1 dX0_rewrite_90 ?_
            rw [show (la i : Int32) = nI r from by rw [hla, hat]; rfl]
            refine lv_goto (tgt := 95) hx hb dX0_rewrite_91 (by decide) ?_
            exact after2 _ (by rw [ls_cut_s, if_pos c2]; rfl)
      refine lv_iload_n hx hb dX0_rewrite_55 rfl (lv_at hl 0 rfl) ?_
      refine lv_aload_n hx hb dX0_rewrite_56 rfl (lv_at hl 1 rfl) ?_
      refine ls_g5 S hK hP dX0_rewrite_57 ?_
      cases hat : ls_at K (nI i) c0 with
      | none =>
        rw [hat] at after
        refine lv_icmp_lt (tgt := 67) hx hb dX0_rewrite_60 (by decide) (fun c2 => ?_) (fun c2 => ?_)
        · skip
          refine lv_iconst (v := (-1)) hx hb dX0_rewrite_67 (by decide) ?_
          exact after _ rfl
        · exact absurd (show (-1 : Int32) < nI q from ls_m1 (by omega)) c2
      | some r =>
        have hr0 := ls_at_lt hat
        rw [hat] at after hl
        have hl : lv_has ls 4 [(3, .int (nI r)), (0, .ref h), (1, .int (nI c0)), (2, .int (nI i))] := hl
        refine W.eq (g2 := F0 m 60 ls [.int (nI q), .int (nI r), .int (nI i), .ref (a 6)]) rfl ?_
        refine ls_ilt (tgt := 67) hx hb (by omega) (by omega) dX0_rewrite_60 (by decide) (fun c2 => ?_) (fun c2 => ?_)
        · skip
          refine lv_iconst (v := (-1)) hx hb dX0_rewrite_67 (by decide) ?_
          exact after _ (by rw [ls_cut_s, if_neg (by omega)]; rfl)
        · skip
          refine lv_iload_n hx hb dX0_rewrite_63 rfl (lv_at hl 0 rfl) ?_
          refine lv_goto (tgt := 68) hx hb dX0_rewrite_64 (by decide) ?_
          exact after _ (by rw [ls_cut_s, if_pos c2]; rfl)
set_option maxHeartbeats 4000000 in
set_option maxRecDepth 100000 in
/-- rewrite's loop 2: the kept entries (ks) are written -/
theorem rw_loop2 (S : CallFix p m c cX0_rewrite 4 s args lw_all RX0) (hK : va_K (dC, dI) ls_C (ls_T dB dZ dN) s) (hR : 1 ≤ R.frames ∧ 24 ≤ R.locals) (hf : cells ≤ R.cells ∧ slots ≤ R.slots) (hA : ∀ q, H0.size ≤ q → A q) {K X V E ks kl ko nk0 nr0 nv0 : Nat → Int32} {en se op os oc x1 : Int32} {f0 g0 : Nat → Option Int32} {sel : Nat → Option Nat} {b0 : Nat} (hb0 : b0 + 16 ≤ 96) (hk : ∀ j, j < 16 → ks j = ls_i (sel j)) (hsel : ∀ j r, j < 16 → sel j = some r → r < 96 ∧ K r = nI j ∧ (X r = 0 ∨ X r = 1) ∧ (X r = 0 → g0 j = some (V r)) ∧ (¬ X r = 0 → g0 j = f0 j)) (hnon : ∀ j, j < 16 → sel j = none → g0 j = f0 j)
    (kk : ∀ (b : Nat) (la nk nr nv ne : Nat → Int32) (H : Heap) (locs : List Loc) (ls : Array Slot), b0 ≤ b → b ≤ b0 + 16 → ls_ok nk nr ne la b → (∀ j, j < 16 → ls_pv nk nr nv (nI j) b = g0 j) → (∀ z, z ≤ b0 → ∀ k, ls_pv nk nr nv k z = ls_pv nk0 nr0 nv0 k z) → ((∀ j, j < 16 → sel j = none) → b = b0) → va_P (dC, dI) ls_C (ls_W h a dB dZ dN K X V E en se op os oc la ks kl ko nk nr nv ne) H → va_D A (ls_W h a dB dZ dN K X V E en se op os oc la ks kl ko nk nr nv ne) → va_S A H0 H locs → lv_has ls 4 [(0, .ref h), (1, .int x1), (2, .int (nI b))] → W p l e R s m args below meth c H locs cells slots Q (F0 m 154 ls [])) :
    ∀ (f i b : Nat) (la nk nr nv ne : Nat → Int32) (H : Heap) (locs : List Loc) (ls : Array Slot), i ≤ 16 → 17 ≤ i + f → b0 ≤ b → b ≤ b0 + i → ls_ok nk nr ne la b → (∀ j, j < 16 → ls_pv nk nr nv (nI j) b = ls_mix f0 g0 i j) → (∀ z, z ≤ b0 → ∀ k, ls_pv nk nr nv k z = ls_pv nk0 nr0 nv0 k z) → ((∀ j, j < 16 → sel j = none) → b = b0) → va_P (dC, dI) ls_C (ls_W h a dB dZ dN K X V E en se op os oc la ks kl ko nk nr nv ne) H → va_D A (ls_W h a dB dZ dN K X V E en se op os oc la ks kl ko nk nr nv ne) → va_S A H0 H locs → lv_has ls 4 [(0, .ref h), (1, .int x1), (2, .int (nI b)), (3, .int (nI i))] → W p l e R s m args below meth c H locs cells slots Q (F0 m 113 ls []) := by
  have hx := S.1
  have hb := S.2.1
  intro f
  induction f with
  | zero => intro i b la nk nr nv ne H locs ls h1 h2; omega
  | succ f ih =>
    intro i b la nk nr nv ne H locs ls h1 h2 h3 h4 hok hpv hkeep hsame hP hD hS hl
    refine lv_iload_n hx hb dX0_rewrite_113 rfl (lv_at hl 3 rfl) ?_
    refine lv_bipush (v := nI 16) hx hb dX0_rewrite_114 (by decide) ?_
    refine ls_ige (tgt := 154) hx hb (by omega) (by omega) dX0_rewrite_116 (by decide) (fun c1 => ?_) (fun c1 => ?_)
    · exact kk b la nk nr nv ne H locs ls h3 (by omega) hok (fun j hj => by rw [hpv j hj, ls_mix_e (by omega)]) hkeep hsame hP hD hS (lv_sub hl [0, 1, 2] rfl)
    · skip
      have hskip : g0 i = f0 i → W p l e R s m args below meth c H locs cells slots Q (F0 m 146 ls []) := by
        intro hgf
        refine lv_iload_n hx hb dX0_rewrite_146 rfl (lv_at hl 2 rfl) ?_
        refine lv_istore_n (lv' := [(2, .int (nI b)), (0, .ref h), (1, .int x1), (3, .int (nI i))]) hx hb dX0_rewrite_147 rfl hl (by decide) rfl (fun ls hl => ?_)
        refine lv_iinc (v := nI (i + 1)) (lv' := [(3, .int (nI (i + 1))), (2, .int (nI b)), (0, .ref h), (1, .int x1)]) hx hb dX0_rewrite_148 hl (k := 3) rfl (ls_inc i) (by decide) rfl (fun ls hl => ?_)
        refine lv_goto (tgt := 113) hx hb dX0_rewrite_151 (by decide) ?_
        exact ih (i + 1) b _ _ _ _ _ _ _ ls (by omega) (by omega) h3 (by omega) hok (fun j hj => by rw [hpv j hj, ls_mix_skip hgf]) hkeep hsame hP hD hS (lv_sub hl [2, 3, 1, 0] rfl)
      refine lv_aload_n hx hb dX0_rewrite_119 rfl (lv_at hl 0 rfl) ?_
      refine lv_aload_n hx hb dX0_rewrite_120 rfl (lv_at hl 0 rfl) ?_
      refine ls_g10 S hK hP dX0_rewrite_121 ?_
      refine lv_iload_n hx hb dX0_rewrite_124 rfl (lv_at hl 3 rfl) ?_
      refine ls_l5 S hK hP c1 dX0_rewrite_125 ?_
      rw [show (ks i : Int32) = ls_i (sel i) from hk i c1]
      refine ls_c_holds S hK hP hl.1 ⟨hR.1, Nat.le_trans (by decide) hR.2⟩ hf (Nat.le_of_ble_eq_true rfl) dX0_rewrite_126 (fun r hr => (hsel i r c1 hr).1) (fun r9 hr9 => ?_)
      subst hr9
      refine lv_if_eq (tgt := 146) hx hb dX0_rewrite_129 (by decide) (fun c2 => ?_) (fun c2 => ?_)
      · refine hskip ?_
        cases hsr : sel i with
        | none => exact hnon i c1 hsr
        | some r =>
          rw [hsr] at c2
          refine (hsel i r c1 hsr).2.2.2.2 (fun z => ?_)
          rw [ls_hd_s, if_pos z] at c2
          exact absurd c2 (by decide)
      · obtain ⟨r, hsr, hxr⟩ := ls_hd_1 c2
        obtain ⟨hr1, hr2, hr3, hg0, -⟩ := hsel i r c1 hsr
        have hg : g0 i = if X r = 0 then some (V r) else none := by rw [if_pos hxr]; exact hg0 hxr
        refine lv_aload_n hx hb dX0_rewrite_132 rfl (lv_at hl 0 rfl) ?_
        refine lv_aload_n hx hb dX0_rewrite_133 rfl (lv_at hl 0 rfl) ?_
        refine ls_g10 S hK hP dX0_rewrite_134 ?_
        refine lv_iload_n hx hb dX0_rewrite_137 rfl (lv_at hl 3 rfl) ?_
        refine ls_l5 S hK hP c1 dX0_rewrite_138 ?_
        rw [show (ks i : Int32) = nI r from by rw [hk i c1, hsr]; rfl]
        refine lv_iload_n hx hb dX0_rewrite_139 rfl (lv_at hl 2 rfl) ?_
        refine ls_c_carry S hK hP hD hS hA hl.1 ⟨hR.1, Nat.le_trans (by decide) hR.2⟩ hf (Nat.le_of_ble_eq_true rfl) dX0_rewrite_140 hr1 (by omega) c1 hr2 hr3 (ls_ok_nb hok (by omega) c1) (fun H locs hP hD hS => ?_)
        refine lv_goto (tgt := 147) hx hb dX0_rewrite_143 (by decide) ?_
        refine lv_istore_n (lv' := [(2, .int (nI (b + 1))), (0, .ref h), (1, .int x1), (3, .int (nI i))]) hx hb dX0_rewrite_147 rfl hl (by decide) rfl (fun ls hl => ?_)
        refine lv_iinc (v := nI (i + 1)) (lv' := [(3, .int (nI (i + 1))), (2, .int (nI (b + 1))), (0, .ref h), (1, .int x1)]) hx hb dX0_rewrite_148 hl (k := 3) rfl (ls_inc i) (by decide) rfl (fun ls hl => ?_)
        refine lv_goto (tgt := 113) hx hb dX0_rewrite_151 (by decide) ?_
        exact ih (i + 1) (b + 1) _ _ _ _ _ _ _ ls (by omega) (by omega) (by omega) (by omega) (ls_ok_push hok c1 hr3) (ls_mix_push c1 hpv hg) (fun z hz k => by rw [ls_pv_keep (by omega)]; exact hkeep z hz k) (fun z => by rw [z i c1] at hsr; cases hsr) hP hD hS (lv_sub hl [2, 3, 1, 0] rfl)
set_option maxHeartbeats 4000000 in
set_option maxRecDepth 100000 in
/-- rewrite's loop 3: the kept entries (kl) are written -/
theorem rw_loop3 (S : CallFix p m c cX0_rewrite 4 s args lw_all RX0) (hK : va_K (dC, dI) ls_C (ls_T dB dZ dN) s) (hR : 1 ≤ R.frames ∧ 24 ≤ R.locals) (hf : cells ≤ R.cells ∧ slots ≤ R.slots) (hA : ∀ q, H0.size ≤ q → A q) {K X V E ks kl ko nk0 nr0 nv0 : Nat → Int32} {en se op os oc x1 : Int32} {f0 g0 : Nat → Option Int32} {sel : Nat → Option Nat} {b0 : Nat} (hb0 : b0 + 16 ≤ 96) (hk : ∀ j, j < 16 → kl j = ls_i (sel j)) (hsel : ∀ j r, j < 16 → sel j = some r → r < 96 ∧ K r = nI j ∧ (X r = 0 ∨ X r = 1) ∧ g0 j = if X r = 0 then some (V r) else none) (hnon : ∀ j, j < 16 → sel j = none → g0 j = f0 j)
    (kk : ∀ (b : Nat) (la nk nr nv ne : Nat → Int32) (H : Heap) (locs : List Loc) (ls : Array Slot), b0 ≤ b → b ≤ b0 + 16 → ls_ok nk nr ne la b → (∀ j, j < 16 → ls_pv nk nr nv (nI j) b = g0 j) → (∀ z, z ≤ b0 → ∀ k, ls_pv nk nr nv k z = ls_pv nk0 nr0 nv0 k z) → ((∀ j, j < 16 → sel j = none) → b = b0) → va_P (dC, dI) ls_C (ls_W h a dB dZ dN K X V E en se op os oc la ks kl ko nk nr nv ne) H → va_D A (ls_W h a dB dZ dN K X V E en se op os oc la ks kl ko nk nr nv ne) → va_S A H0 H locs → lv_has ls 4 [(0, .ref h), (1, .int x1), (2, .int (nI b))] → W p l e R s m args below meth c H locs cells slots Q (F0 m 198 ls [])) :
    ∀ (f i b : Nat) (la nk nr nv ne : Nat → Int32) (H : Heap) (locs : List Loc) (ls : Array Slot), i ≤ 16 → 17 ≤ i + f → b0 ≤ b → b ≤ b0 + i → ls_ok nk nr ne la b → (∀ j, j < 16 → ls_pv nk nr nv (nI j) b = ls_mix f0 g0 i j) → (∀ z, z ≤ b0 → ∀ k, ls_pv nk nr nv k z = ls_pv nk0 nr0 nv0 k z) → ((∀ j, j < 16 → sel j = none) → b = b0) → va_P (dC, dI) ls_C (ls_W h a dB dZ dN K X V E en se op os oc la ks kl ko nk nr nv ne) H → va_D A (ls_W h a dB dZ dN K X V E en se op os oc la ks kl ko nk nr nv ne) → va_S A H0 H locs → lv_has ls 4 [(0, .ref h), (1, .int x1), (2, .int (nI b)), (3, .int (nI i))] → W p l e R s m args below meth c H locs cells slots Q (F0 m 161 ls []) := by
  have hx := S.1
  have hb := S.2.1
  intro f
  induction f with
  | zero => intro i b la nk nr nv ne H locs ls h1 h2; omega
  | succ f ih =>
    intro i b la nk nr nv ne H locs ls h1 h2 h3 h4 hok hpv hkeep hsame hP hD hS hl
    refine lv_iload_n hx hb dX0_rewrite_161 rfl (lv_at hl 3 rfl) ?_
    refine lv_bipush (v := nI 16) hx hb dX0_rewrite_162 (by decide) ?_
    refine ls_ige (tgt := 198) hx hb (by omega) (by omega) dX0_rewrite_164 (by decide) (fun c1 => ?_) (fun c1 => ?_)
    · exact kk b la nk nr nv ne H locs ls h3 (by omega) hok (fun j hj => by rw [hpv j hj, ls_mix_e (by omega)]) hkeep hsame hP hD hS (lv_sub hl [0, 1, 2] rfl)
    · skip
      have hskip : g0 i = f0 i → W p l e R s m args below meth c H locs cells slots Q (F0 m 190 ls []) := by
        intro hgf
        refine lv_iload_n hx hb dX0_rewrite_190 rfl (lv_at hl 2 rfl) ?_
        refine lv_istore_n (lv' := [(2, .int (nI b)), (0, .ref h), (1, .int x1), (3, .int (nI i))]) hx hb dX0_rewrite_191 rfl hl (by decide) rfl (fun ls hl => ?_)
        refine lv_iinc (v := nI (i + 1)) (lv' := [(3, .int (nI (i + 1))), (2, .int (nI b)), (0, .ref h), (1, .int x1)]) hx hb dX0_rewrite_192 hl (k := 3) rfl (ls_inc i) (by decide) rfl (fun ls hl => ?_)
        refine lv_goto (tgt := 161) hx hb dX0_rewrite_195 (by decide) ?_
        exact ih (i + 1) b _ _ _ _ _ _ _ ls (by omega) (by omega) h3 (by omega) hok (fun j hj => by rw [hpv j hj, ls_mix_skip hgf]) hkeep hsame hP hD hS (lv_sub hl [2, 3, 1, 0] rfl)
      refine lv_aload_n hx hb dX0_rewrite_167 rfl (lv_at hl 0 rfl) ?_
      refine ls_g11 S hK hP dX0_rewrite_168 ?_
      refine lv_iload_n hx hb dX0_rewrite_171 rfl (lv_at hl 3 rfl) ?_
      refine ls_l6 S hK hP c1 dX0_rewrite_172 ?_
      rw [show (kl i : Int32) = ls_i (sel i) from hk i c1]
      cases hsr : sel i with
      | none =>
        refine lv_if_lt (tgt := 190) hx hb dX0_rewrite_173 (by decide) (fun c2 => ?_) (fun c2 => ?_)
        · exact hskip (hnon i c1 hsr)
        · exact absurd (show (-1 : Int32) < 0 by decide) c2
      | some r =>
        obtain ⟨hr1, hr2, hr3, hg⟩ := hsel i r c1 hsr
        refine lv_if_lt (tgt := 190) hx hb dX0_rewrite_173 (by decide) (fun c2 => ?_) (fun c2 => ?_)
        · exact absurd (show nI r < 0 from c2) (nI_pos (by omega))
        · skip
          refine lv_aload_n hx hb dX0_rewrite_176 rfl (lv_at hl 0 rfl) ?_
          refine lv_aload_n hx hb dX0_rewrite_177 rfl (lv_at hl 0 rfl) ?_
          refine ls_g11 S hK hP dX0_rewrite_178 ?_
          refine lv_iload_n hx hb dX0_rewrite_181 rfl (lv_at hl 3 rfl) ?_
          refine ls_l6 S hK hP c1 dX0_rewrite_182 ?_
          rw [show (kl i : Int32) = nI r from by rw [hk i c1, hsr]; rfl]
          refine lv_iload_n hx hb dX0_rewrite_183 rfl (lv_at hl 2 rfl) ?_
          refine ls_c_carry S hK hP hD hS hA hl.1 ⟨hR.1, Nat.le_trans (by decide) hR.2⟩ hf (Nat.le_of_ble_eq_true rfl) dX0_rewrite_184 hr1 (by omega) c1 hr2 hr3 (ls_ok_nb hok (by omega) c1) (fun H locs hP hD hS => ?_)
          refine lv_goto (tgt := 191) hx hb dX0_rewrite_187 (by decide) ?_
          refine lv_istore_n (lv' := [(2, .int (nI (b + 1))), (0, .ref h), (1, .int x1), (3, .int (nI i))]) hx hb dX0_rewrite_191 rfl hl (by decide) rfl (fun ls hl => ?_)
          refine lv_iinc (v := nI (i + 1)) (lv' := [(3, .int (nI (i + 1))), (2, .int (nI (b + 1))), (0, .ref h), (1, .int x1)]) hx hb dX0_rewrite_192 hl (k := 3) rfl (ls_inc i) (by decide) rfl (fun ls hl => ?_)
          refine lv_goto (tgt := 161) hx hb dX0_rewrite_195 (by decide) ?_
          exact ih (i + 1) (b + 1) _ _ _ _ _ _ _ ls (by omega) (by omega) (by omega) (by omega) (ls_ok_push hok c1 hr3) (ls_mix_push c1 hpv hg) (fun z hz k => by rw [ls_pv_keep (by omega)]; exact hkeep z hz k) (fun z => by rw [z i c1] at hsr; cases hsr) hP hD hS (lv_sub hl [2, 3, 1, 0] rfl)
set_option maxHeartbeats 4000000 in
set_option maxRecDepth 100000 in
/-- rewrite's loop 4: the kept entries (ko) are written -/
theorem rw_loop4 (S : CallFix p m c cX0_rewrite 4 s args lw_all RX0) (hK : va_K (dC, dI) ls_C (ls_T dB dZ dN) s) (hR : 1 ≤ R.frames ∧ 24 ≤ R.locals) (hf : cells ≤ R.cells ∧ slots ≤ R.slots) (hA : ∀ q, H0.size ≤ q → A q) {K X V E ks kl ko nk0 nr0 nv0 : Nat → Int32} {en se op os oc x1 : Int32} {f0 g0 : Nat → Option Int32} {sel : Nat → Option Nat} {b0 : Nat} (hb0 : b0 + 16 ≤ 96) (hk : ∀ j, j < 16 → ko j = ls_i (sel j)) (hsel : ∀ j r, j < 16 → sel j = some r → r < 96 ∧ K r = nI j ∧ (X r = 0 ∨ X r = 1) ∧ g0 j = if X r = 0 then some (V r) else none) (hnon : ∀ j, j < 16 → sel j = none → g0 j = f0 j)
    (kk : ∀ (b : Nat) (la nk nr nv ne : Nat → Int32) (H : Heap) (locs : List Loc) (ls : Array Slot), b0 ≤ b → b ≤ b0 + 16 → ls_ok nk nr ne la b → (∀ j, j < 16 → ls_pv nk nr nv (nI j) b = g0 j) → (∀ z, z ≤ b0 → ∀ k, ls_pv nk nr nv k z = ls_pv nk0 nr0 nv0 k z) → ((∀ j, j < 16 → sel j = none) → b = b0) → va_P (dC, dI) ls_C (ls_W h a dB dZ dN K X V E en se op os oc la ks kl ko nk nr nv ne) H → va_D A (ls_W h a dB dZ dN K X V E en se op os oc la ks kl ko nk nr nv ne) → va_S A H0 H locs → lv_has ls 4 [(0, .ref h), (1, .int x1), (2, .int (nI b))] → W p l e R s m args below meth c H locs cells slots Q (F0 m 242 ls [])) :
    ∀ (f i b : Nat) (la nk nr nv ne : Nat → Int32) (H : Heap) (locs : List Loc) (ls : Array Slot), i ≤ 16 → 17 ≤ i + f → b0 ≤ b → b ≤ b0 + i → ls_ok nk nr ne la b → (∀ j, j < 16 → ls_pv nk nr nv (nI j) b = ls_mix f0 g0 i j) → (∀ z, z ≤ b0 → ∀ k, ls_pv nk nr nv k z = ls_pv nk0 nr0 nv0 k z) → ((∀ j, j < 16 → sel j = none) → b = b0) → va_P (dC, dI) ls_C (ls_W h a dB dZ dN K X V E en se op os oc la ks kl ko nk nr nv ne) H → va_D A (ls_W h a dB dZ dN K X V E en se op os oc la ks kl ko nk nr nv ne) → va_S A H0 H locs → lv_has ls 4 [(0, .ref h), (1, .int x1), (2, .int (nI b)), (3, .int (nI i))] → W p l e R s m args below meth c H locs cells slots Q (F0 m 205 ls []) := by
  have hx := S.1
  have hb := S.2.1
  intro f
  induction f with
  | zero => intro i b la nk nr nv ne H locs ls h1 h2; omega
  | succ f ih =>
    intro i b la nk nr nv ne H locs ls h1 h2 h3 h4 hok hpv hkeep hsame hP hD hS hl
    refine lv_iload_n hx hb dX0_rewrite_205 rfl (lv_at hl 3 rfl) ?_
    refine lv_bipush (v := nI 16) hx hb dX0_rewrite_206 (by decide) ?_
    refine ls_ige (tgt := 242) hx hb (by omega) (by omega) dX0_rewrite_208 (by decide) (fun c1 => ?_) (fun c1 => ?_)
    · exact kk b la nk nr nv ne H locs ls h3 (by omega) hok (fun j hj => by rw [hpv j hj, ls_mix_e (by omega)]) hkeep hsame hP hD hS (lv_sub hl [0, 1, 2] rfl)
    · skip
      have hskip : g0 i = f0 i → W p l e R s m args below meth c H locs cells slots Q (F0 m 234 ls []) := by
        intro hgf
        refine lv_iload_n hx hb dX0_rewrite_234 rfl (lv_at hl 2 rfl) ?_
        refine lv_istore_n (lv' := [(2, .int (nI b)), (0, .ref h), (1, .int x1), (3, .int (nI i))]) hx hb dX0_rewrite_235 rfl hl (by decide) rfl (fun ls hl => ?_)
        refine lv_iinc (v := nI (i + 1)) (lv' := [(3, .int (nI (i + 1))), (2, .int (nI b)), (0, .ref h), (1, .int x1)]) hx hb dX0_rewrite_236 hl (k := 3) rfl (ls_inc i) (by decide) rfl (fun ls hl => ?_)
        refine lv_goto (tgt := 205) hx hb dX0_rewrite_239 (by decide) ?_
        exact ih (i + 1) b _ _ _ _ _ _ _ ls (by omega) (by omega) h3 (by omega) hok (fun j hj => by rw [hpv j hj, ls_mix_skip hgf]) hkeep hsame hP hD hS (lv_sub hl [2, 3, 1, 0] rfl)
      refine lv_aload_n hx hb dX0_rewrite_211 rfl (lv_at hl 0 rfl) ?_
      refine ls_g12 S hK hP dX0_rewrite_212 ?_
      refine lv_iload_n hx hb dX0_rewrite_215 rfl (lv_at hl 3 rfl) ?_
      refine ls_l7 S hK hP c1 dX0_rewrite_216 ?_
      rw [show (ko i : Int32) = ls_i (sel i) from hk i c1]
      cases hsr : sel i with
      | none =>
        refine lv_if_lt (tgt := 234) hx hb dX0_rewrite_217 (by decide) (fun c2 => ?_) (fun c2 => ?_)
        · exact hskip (hnon i c1 hsr)
        · exact absurd (show (-1 : Int32) < 0 by decide) c2
      | some r =>
        obtain ⟨hr1, hr2, hr3, hg⟩ := hsel i r c1 hsr
        refine lv_if_lt (tgt := 234) hx hb dX0_rewrite_217 (by decide) (fun c2 => ?_) (fun c2 => ?_)
        · exact absurd (show nI r < 0 from c2) (nI_pos (by omega))
        · skip
          refine lv_aload_n hx hb dX0_rewrite_220 rfl (lv_at hl 0 rfl) ?_
          refine lv_aload_n hx hb dX0_rewrite_221 rfl (lv_at hl 0 rfl) ?_
          refine ls_g12 S hK hP dX0_rewrite_222 ?_
          refine lv_iload_n hx hb dX0_rewrite_225 rfl (lv_at hl 3 rfl) ?_
          refine ls_l7 S hK hP c1 dX0_rewrite_226 ?_
          rw [show (ko i : Int32) = nI r from by rw [hk i c1, hsr]; rfl]
          refine lv_iload_n hx hb dX0_rewrite_227 rfl (lv_at hl 2 rfl) ?_
          refine ls_c_carry S hK hP hD hS hA hl.1 ⟨hR.1, Nat.le_trans (by decide) hR.2⟩ hf (Nat.le_of_ble_eq_true rfl) dX0_rewrite_228 hr1 (by omega) c1 hr2 hr3 (ls_ok_nb hok (by omega) c1) (fun H locs hP hD hS => ?_)
          refine lv_goto (tgt := 235) hx hb dX0_rewrite_231 (by decide) ?_
          refine lv_istore_n (lv' := [(2, .int (nI (b + 1))), (0, .ref h), (1, .int x1), (3, .int (nI i))]) hx hb dX0_rewrite_235 rfl hl (by decide) rfl (fun ls hl => ?_)
          refine lv_iinc (v := nI (i + 1)) (lv' := [(3, .int (nI (i + 1))), (2, .int (nI (b + 1))), (0, .ref h), (1, .int x1)]) hx hb dX0_rewrite_236 hl (k := 3) rfl (ls_inc i) (by decide) rfl (fun ls hl => ?_)
          refine lv_goto (tgt := 205) hx hb dX0_rewrite_239 (by decide) ?_
          exact ih (i + 1) (b + 1) _ _ _ _ _ _ _ ls (by omega) (by omega) (by omega) (by omega) (ls_ok_push hok c1 hr3) (ls_mix_push c1 hpv hg) (fun z hz k => by rw [ls_pv_keep (by omega)]; exact hkeep z hz k) (fun z => by rw [z i c1] at hsr; cases hsr) hP hD hS (lv_sub hl [2, 3, 1, 0] rfl)
end
end
section
set_option maxRecDepth 100000
set_option maxHeartbeats 4000000 in
set_option maxRecDepth 100000 in
/-- rewrite(): the same state, in a row of at most 48 entries -/
theorem mt_rewrite {l : Launch} {dC : Nat → ClassId} {dI : Nat → Nat → Nat} {h : Nat} {a : Nat → Nat} {dB dZ dN : ClassId} {K X V E : Nat → Int32} {en se op os oc : Int32} {la ks kl ko nk nr nv ne : Nat → Int32} {sz : Nat} {cu ba sa : Nat → Option Int32} {o : Bool} {ch : Int32} (hQ : ls_R 96 K X V E la en se op os oc cu ba sa o ch) : Met l yX0_rewrite (ws_ yX0_rewrite cX0_rewrite 4 none) (ls_rm 1 24) (va_Pc [.ref h] (fun U => U.heap.size = sz ∧ va_P (dC, dI) ls_C (ls_W h a dB dZ dN K X V E en se op os oc la ks kl ko nk nr nv ne) U.heap ∧ va_K (dC, dI) ls_C (ls_T dB dZ dN) U ∧ va_D (fun _ => True) (ls_W h a dB dZ dN K X V E en se op os oc la ks kl ko nk nr nv ne))) (va_Qv (fun (_ : Unit) => True) (fun _ t => ls_B dC dI h a dB dZ dN (va_A (ls_W h a dB dZ dN K X V E en se op os oc la ks kl ko nk nr nv ne) sz) 48 cu ba sa o ch t) (va_A (ls_W h a dB dZ dN K X V E en se op os oc la ks kl ko nk nr nv ne) sz)) 0 0 (va_A (ls_W h a dB dZ dN K X V E en se op os oc la ks kl ko nk nr nv ne) sz) := by
  refine Met.ofW (cc := cX0_rewrite) (maxL := 4) (ret := none) (by decide) rfl ?_
  intro p e s m args below meth c s₁ B hml hv
  obtain ⟨rfl, hsz, hP, hK, hD0⟩ := hv
  have hx := B.exec
  have hb := B.bytes
  have hr := B.returns
  have hts := atoms_spec (ws := (ws_ yX0_rewrite cX0_rewrite 4 none)) B.pre
  have hts : ∀ w ∈ lw_all, w.before _ s = true := fun w h => hts w (List.mem_cons_of_mem _ h)
  have hown : s.vm.findClass RX0 = some m.cls := findClass_of_methodNamed B.named
  have hlocks := B.notSynchronized
  have S : CallFix p m c cX0_rewrite 4 s _ lw_all RX0 := ⟨hx, hb, hml, hown, hts⟩
  subst hsz
  have hD := hD0.self (sz := s.heap.size)
  generalize hAe : va_A (ls_W h a dB dZ dN K X V E en se op os oc la ks kl ko nk nr nv ne) s.heap.size = A at hD ⊢
  have hA : ∀ q : Nat, s.heap.size ≤ q → A q := fun q h => by rw [← hAe]; exact Or.inr h
  have hS : va_S A s.heap s.heap [] := va_S.rf
  have hl := lv_entry ([.ref h]) (n := 4) (Nat.le_of_ble_eq_true rfl)
  rw [lg_entry_eq]
  generalize (lg_sl ([.ref h]) ++ List.replicate (4 - (lg_sl ([.ref h])).length) Slot.unset).toArray = ls at hl ⊢
  have hl : lv_has ls 4 [(0, .ref h)] := hl
  obtain ⟨hoc, n, q, c0, rfl, rfl, hQ⟩ := hQ
  obtain ⟨hn, hq, hc, ho1, ho0, hok, hcu, hba, hsa⟩ := id hQ
  have hRm : 1 ≤ (headSpec (ws_ yX0_rewrite cX0_rewrite 4 none) (ls_rm 1 24)).room.frames ∧ 24 ≤ (headSpec (ws_ yX0_rewrite cX0_rewrite 4 none) (ls_rm 1 24)).room.locals := ⟨Nat.le_of_ble_eq_true rfl, Nat.le_of_ble_eq_true rfl⟩
  have hf : 0 ≤ (headSpec (ws_ yX0_rewrite cX0_rewrite 4 none) (ls_rm 1 24)).room.cells ∧ 0 ≤ (headSpec (ws_ yX0_rewrite cX0_rewrite 4 none) (ls_rm 1 24)).room.slots := ⟨Nat.zero_le _, Nat.zero_le _⟩
  have main : W p l e (headSpec (ws_ yX0_rewrite cX0_rewrite 4 none) (ls_rm 1 24)).room s m ([.ref h] : List Value).toArray below meth c s.heap [] 0 0 (MQ below (va_Qv (fun (_ : Unit) => True) (fun _ t => ls_B dC dI h a dB dZ dN A 48 cu ba sa o ch t) A) ([.ref h] : List Value).toArray s 0 0 A) (F0 m 18 ls [.int (nI c0)]) := by
    refine lv_istore_n (lv' := [(1, .int (nI c0)), (0, .ref h)]) hx hb dX0_rewrite_18 rfl hl (by decide) rfl (fun ls hl => ?_)
    refine lv_iconst (v := nI 0) hx hb dX0_rewrite_19 (by decide) ?_
    refine lv_istore_n (lv' := [(2, .int (nI 0)), (1, .int (nI c0)), (0, .ref h)]) hx hb dX0_rewrite_20 rfl hl (by decide) rfl (fun ls hl => ?_)
    refine rw_loop1 S hK hRm hf hA hn hc hq hok.2.2.1 ?_ 17 0 _ _ _ _ _ _ ls (by omega) (by omega) (fun j hj => by omega) (fun j _ hj => hok.2.2.2 j hj) hP hD hS (lv_sub hl [2, 1, 0] rfl)
    intro la ks kl ko H locs ls hkp hP hD hS hl
    refine lv_iconst (v := nI 0) hx hb dX0_rewrite_109 (by decide) ?_
    refine lv_istore_n (lv' := [(2, .int (nI 0)), (0, .ref h), (1, .int (nI c0))]) hx hb dX0_rewrite_110 rfl hl (by decide) rfl (fun ls hl => ?_)
    refine lv_iconst (v := nI 0) hx hb dX0_rewrite_111 (by decide) ?_
    refine lv_istore_n (lv' := [(3, .int (nI 0)), (2, .int (nI 0)), (0, .ref h), (1, .int (nI c0))]) hx hb dX0_rewrite_112 rfl hl (by decide) rfl (fun ls hl => ?_)
    refine rw_loop2 (f0 := fun _ => none) (g0 := fun j => ls_pv K X V (nI j) q) (sel := fun j => ls_at K (nI j) q) (nk0 := nk) (nr0 := nr) (nv0 := nv) (b0 := 0) S hK hRm hf hA (by omega) (fun j hj => (hkp j hj).1) (fun j r hj hr => ?_) (fun j hj hr => ?_) ?_ 17 0 0 _ _ _ _ _ _ _ ls (by omega) (by omega) (by omega) (by omega) (ls_ok_0 (fun j hj => (hkp j hj).2.2.2)) (fun j hj => rfl) (fun z hz k => rfl) (fun _ => rfl) hP hD hS (lv_sub hl [2, 3, 1, 0] rfl)
    · have hr1 := ls_at_lt hr
      refine ⟨by omega, hr1.2, hok.2.1 r (by omega), fun z => ?_, fun z => ?_⟩
      · show ls_pv K X V (nI j) q = _
        rw [ls_pv_e hr, if_pos z]
      · show ls_pv K X V (nI j) q = none
        rw [ls_pv_e hr, if_neg z]
    · show ls_pv K X V (nI j) q = none
      unfold ls_pv
      rw [show ls_at K (nI j) q = none from hr]
      rfl
    intro b2 la nk2 nr2 nv2 ne H locs ls hb1 hb2 hok2 hpv2 _ _ hP hD hS hl
    refine lv_aload_n hx hb dX0_rewrite_154 rfl (lv_at hl 0 rfl) ?_
    refine lv_iload_n hx hb dX0_rewrite_155 rfl (lv_at hl 2 rfl) ?_
    refine ls_p5 S hK hP hD hS dX0_rewrite_156 (fun H locs hP hD hS => ?_)
    refine lv_iconst (v := nI 0) hx hb dX0_rewrite_159 (by decide) ?_
    refine lv_istore_n (lv' := [(3, .int (nI 0)), (0, .ref h), (1, .int (nI c0)), (2, .int (nI b2))]) hx hb dX0_rewrite_160 rfl hl (by decide) rfl (fun ls hl => ?_)
    refine rw_loop3 (f0 := fun j => ls_pv K X V (nI j) q) (g0 := fun j => ls_pv K X V (nI j) c0) (sel := fun j => ls_cut (ls_at K (nI j) c0) q) (nk0 := nk2) (nr0 := nr2) (nv0 := nv2) (b0 := b2) S hK hRm hf hA (by omega) (fun j hj => (hkp j hj).2.1) (fun j r hj hr => ?_) (fun j hj hr => ?_) ?_ 17 0 b2 _ _ _ _ _ _ _ ls (by omega) (by omega) (by omega) (by omega) hok2 (fun j hj => by rw [hpv2 j hj, ls_mix_0]) (fun z hz k => rfl) (fun _ => rfl) hP hD hS (lv_sub hl [1, 2, 3, 0] rfl)
    · have hr0 := ls_cut_some hr
      have hr1 := ls_at_lt hr0.1
      exact ⟨by omega, hr1.2, hok.2.1 r (by omega), ls_pv_e hr0.1⟩
    · show ls_pv K X V (nI j) c0 = ls_pv K X V (nI j) q
      unfold ls_pv
      rw [ls_cut_none hq hr]
    intro b3 la nk3 nr3 nv3 ne H locs ls hb3 hb4 hok3 hpv3 hkeep3 _ hP hD hS hl
    refine lv_aload_n hx hb dX0_rewrite_198 rfl (lv_at hl 0 rfl) ?_
    refine lv_iload_n hx hb dX0_rewrite_199 rfl (lv_at hl 2 rfl) ?_
    refine ls_p7 S hK hP hD hS dX0_rewrite_200 (fun H locs hP hD hS => ?_)
    refine lv_iconst (v := nI 0) hx hb dX0_rewrite_203 (by decide) ?_
    refine lv_istore_n (lv' := [(3, .int (nI 0)), (0, .ref h), (1, .int (nI c0)), (2, .int (nI b3))]) hx hb dX0_rewrite_204 rfl hl (by decide) rfl (fun ls hl => ?_)
    refine rw_loop4 (f0 := fun j => ls_pv K X V (nI j) c0) (g0 := fun j => ls_pv K X V (nI j) n) (sel := fun j => ls_cut (ls_at K (nI j) n) c0) (nk0 := nk3) (nr0 := nr3) (nv0 := nv3) (b0 := b3) S hK hRm hf hA (by omega) (fun j hj => (hkp j hj).2.2.1) (fun j r hj hr => ?_) (fun j hj hr => ?_) ?_ 17 0 b3 _ _ _ _ _ _ _ ls (by omega) (by omega) (by omega) (by omega) hok3 (fun j hj => by rw [hpv3 j hj, ls_mix_0]) (fun z hz k => rfl) (fun _ => rfl) hP hD hS (lv_sub hl [1, 2, 3, 0] rfl)
    · have hr0 := ls_cut_some hr
      have hr1 := ls_at_lt hr0.1
      exact ⟨by omega, hr1.2, hok.2.1 r (by omega), ls_pv_e hr0.1⟩
    · show ls_pv K X V (nI j) n = ls_pv K X V (nI j) c0
      unfold ls_pv
      rw [ls_cut_none hc hr]
    intro b4 la nk4 nr4 nv4 ne H locs ls hb5 hb6 hok4 hpv4 hkeep4 hsame4 hP hD hS hl
    refine lv_aload_n hx hb dX0_rewrite_242 rfl (lv_at hl 0 rfl) ?_
    refine lv_iload_n hx hb dX0_rewrite_243 rfl (lv_at hl 2 rfl) ?_
    refine ls_p4 S hK hP hD hS dX0_rewrite_244 (fun H locs hP hD hS => ?_)
    refine lv_iconst (v := nI 0) hx hb dX0_rewrite_247 (by decide) ?_
    refine lv_istore_n (lv' := [(3, .int (nI 0)), (0, .ref h), (1, .int (nI c0)), (2, .int (nI b4))]) hx hb dX0_rewrite_248 rfl hl (by decide) rfl (fun ls hl => ?_)
    refine rw_loop5 S hK (b := b4) (by omega) hok4.2.1 (fun r hr => ?_) (fun r hr => ?_) ?_ (b4 + 1) 0 _ _ _ _ _ _ ls (by omega) (by omega) (fun r hr => by omega) hP hD hS (lv_sub hl [1, 2, 3, 0] rfl)
    · obtain ⟨j, hj, e0⟩ := hok4.1 r hr
      rw [e0]
      exact ls_nb (by omega)
    · rw [hok4.2.2.1 r hr]
      exact ls_nbi (fun j hj => by have := (ls_at_lt hj).1; omega)
    intro K5 X5 V5 E5 H locs ls hcp hP hD hS
    have hfin : ls_R 48 K5 X5 V5 E5 la (nI b4) (nI b2) op (nI b3) oc cu ba sa o ch := by
      refine ⟨hoc, b4, b2, b3, rfl, rfl, ls_Q_rw hQ (by omega) hb3 hb5 rfl (fun e0 => ?_) hok4 hcp hpv4 (fun j hj => ?_) (fun j hj => ?_)⟩
      · refine (hsame4 (fun j hj => ?_)).symm
        show ls_cut (ls_at K (nI j) n) c0 = none
        rw [(ho0 e0).2.1]
        exact ls_cut_self
      · rw [hkeep4 b3 (Nat.le_refl b3), hpv3 j hj]
      · rw [hkeep4 b2 hb3, hkeep3 b2 (Nat.le_refl b2), hpv2 j hj]
    exact W.vret hx hb hr (fun t ht hW => ⟨⟨(), rfl, trivial, _, _, _, _, _, _, _, _, _, _, _, _, _, _, _, _, _, by rw [ht]; exact hP, va_K.moved hW.alike hK, hD, hfin⟩, hS.F ht⟩) hS.2.2 dX0_rewrite_308
  refine lv_aload_n hx hb dX0_rewrite_0 rfl (lv_at hl 0 rfl) ?_
  refine ls_g6 S hK hP dX0_rewrite_1 ?_
  cases o with
  | true =>
    refine lv_if_eq (tgt := 14) hx hb dX0_rewrite_4 (by decide) (fun c1 => ?_) (fun c1 => ?_)
    · exact absurd c1 (by rw [(ho1 rfl).1]; decide)
    · skip
      refine lv_aload_n hx hb dX0_rewrite_7 rfl (lv_at hl 0 rfl) ?_
      refine ls_g7 S hK hP dX0_rewrite_8 ?_
      rw [show (os : Int32) = nI c0 from (ho1 rfl).2]
      refine lv_goto (tgt := 18) hx hb dX0_rewrite_11 (by decide) ?_
      exact main
  | false =>
    refine lv_if_eq (tgt := 14) hx hb dX0_rewrite_4 (by decide) (fun c1 => ?_) (fun c1 => ?_)
    · skip
      refine lv_aload_n hx hb dX0_rewrite_14 rfl (lv_at hl 0 rfl) ?_
      refine ls_g4 S hK hP dX0_rewrite_15 ?_
      rw [show (nI n : Int32) = nI c0 from by rw [(ho0 rfl).2.1]]
      exact main
    · exact absurd (ho0 rfl).1 c1
end
section
set_option maxRecDepth 100000
section
variable {p : Program} {l : Launch} {e : Env} {R : Room} {s : State} {m : MethodId} {args : Array Value} {below : List Frame} {meth : Method} {c : Code} {H : Heap} {locs : List Loc} {cells slots : Nat} {Q : State → Prop}
variable {cc : ByteArray} {nL pc : Nat} {ls : Array Slot} {rest st0 : List Value} {dC : Nat → ClassId} {dI : Nat → Nat → Nat} {A : Nat → Prop} {H0 : Heap} {dB dZ dN : ClassId}
variable {h : Nat} {a : Nat → Nat}
variable {K X V E la ks kl ko nk nr nv ne : Nat → Int32} {en se op os oc : Int32}
theorem ls_c_rewrite (S : CallFix p m c cc nL s args lw_all RX0) (hK : va_K (dC, dI) ls_C (ls_T dB dZ dN) s) (hP : va_P (dC, dI) ls_C (ls_W h a dB dZ dN K X V E en se op os oc la ks kl ko nk nr nv ne) H) (hD : va_D A (ls_W h a dB dZ dN K X V E en se op os oc la ks kl ko nk nr nv ne)) (hS : va_S A H0 H locs) (hA : ∀ q, H0.size ≤ q → A q) (hsz : ls.size = nL) (hR : 2 ≤ R.frames ∧ 47 ≤ R.locals) (hf : cells ≤ R.cells ∧ slots ≤ R.slots) (hrm : (rest.map fun v => v.category).sum ≤ 8) (hd : decode cc pc = .ok (.invokevirtual 52, 3)) {cu ba sa : Nat → Option Int32} {o : Bool} {ch : Int32} (hQ : ls_R 96 K X V E la en se op os oc cu ba sa o ch)
    (kk : ∀ (K X V E : Nat → Int32) (en se op os oc : Int32) (la ks kl ko nk nr nv ne : Nat → Int32) (H1 : Heap) (locs1 : List Loc), va_P (dC, dI) ls_C (ls_W h a dB dZ dN K X V E en se op os oc la ks kl ko nk nr nv ne) H1 → va_D A (ls_W h a dB dZ dN K X V E en se op os oc la ks kl ko nk nr nv ne) → va_S A H0 H1 locs1 → ls_R 48 K X V E la en se op os oc cu ba sa o ch → W p l e R s m args below meth c H1 locs1 cells slots Q (F0 m (pc + 3) ls (rest))) : W p l e R s m args below meth c H locs cells slots Q (F0 m pc ls (.ref h :: rest)) :=
  ls_cV (ci := 0) S hK hP hD hS hA (mt_rewrite hQ) (cwV 0 S.2.2.2.2 (lw_V q92 q94 qs1 q12 q95) rfl rfl rfl (by decide +kernel) ⟨hR.1, hR.2⟩) rfl rfl rfl hsz rfl hrm hd hf (fun _ t H1 locs1 ht hvm hp hB hS1 hF => by
    obtain ⟨z0, z1, z2, z3, z4, z5, z6, z7, z8, z9, z10, z11, z12, z13, z14, z15, z16, hP1, -, hD1, hR1⟩ := hB
    rw [ht] at hP1
    exact kk z0 z1 z2 z3 z4 z5 z6 z7 z8 z9 z10 z11 z12 z13 z14 z15 z16 H1 locs1 hP1 (hD1.weaken (fun _ z _ hz => hF z.1 hz)) hS1 hR1)
end
set_option maxHeartbeats 4000000 in
set_option maxRecDepth 100000 in
/-- append(k, remove, v) -/
theorem mt_append {l : Launch} {dC : Nat → ClassId} {dI : Nat → Nat → Nat} {h : Nat} {a : Nat → Nat} {dB dZ dN : ClassId} {K X V E : Nat → Int32} {en se op os oc : Int32} {la ks kl ko nk nr nv ne : Nat → Int32} {sz : Nat} {cu ba sa : Nat → Option Int32} {o : Bool} {ch : Int32} {j : Nat} {x0 v : Int32} (hj : j < 16) (hx0 : x0 = 0 ∨ x0 = 1) (hQ : ls_R 96 K X V E la en se op os oc cu ba sa o ch) : Met l yX0_append (ws_ yX0_append cX0_append 4 none) (ls_rm 2 47) (va_Pc [.ref h, .int (nI j), .int x0, .int v] (fun U => U.heap.size = sz ∧ va_P (dC, dI) ls_C (ls_W h a dB dZ dN K X V E en se op os oc la ks kl ko nk nr nv ne) U.heap ∧ va_K (dC, dI) ls_C (ls_T dB dZ dN) U ∧ va_D (fun _ => True) (ls_W h a dB dZ dN K X V E en se op os oc la ks kl ko nk nr nv ne))) (va_Qv (fun (_ : Unit) => True) (fun _ t => ls_B dC dI h a dB dZ dN (va_A (ls_W h a dB dZ dN K X V E en se op os oc la ks kl ko nk nr nv ne) sz) 96 (ls_up cu j (if x0 = 0 then some v else none)) (if o = true then ba else ls_up cu j (if x0 = 0 then some v else none)) sa o (if o = true then ch + 1 else ch) t) (va_A (ls_W h a dB dZ dN K X V E en se op os oc la ks kl ko nk nr nv ne) sz)) 0 0 (va_A (ls_W h a dB dZ dN K X V E en se op os oc la ks kl ko nk nr nv ne) sz) := by
  refine Met.ofW (cc := cX0_append) (maxL := 4) (ret := none) (by decide) rfl ?_
  intro p e s m args below meth c s₁ B hml hv
  obtain ⟨rfl, hsz, hP, hK, hD0⟩ := hv
  have hx := B.exec
  have hb := B.bytes
  have hr := B.returns
  have hts := atoms_spec (ws := (ws_ yX0_append cX0_append 4 none)) B.pre
  have hts : ∀ w ∈ lw_all, w.before _ s = true := fun w h => hts w (List.mem_cons_of_mem _ h)
  have hown : s.vm.findClass RX0 = some m.cls := findClass_of_methodNamed B.named
  have hlocks := B.notSynchronized
  have S : CallFix p m c cX0_append 4 s _ lw_all RX0 := ⟨hx, hb, hml, hown, hts⟩
  subst hsz
  have hD := hD0.self (sz := s.heap.size)
  generalize hAe : va_A (ls_W h a dB dZ dN K X V E en se op os oc la ks kl ko nk nr nv ne) s.heap.size = A at hD ⊢
  have hA : ∀ q : Nat, s.heap.size ≤ q → A q := fun q h => by rw [← hAe]; exact Or.inr h
  have hS : va_S A s.heap s.heap [] := va_S.rf
  have hl := lv_entry ([.ref h, .int (nI j), .int x0, .int v]) (n := 4) (Nat.le_of_ble_eq_true rfl)
  rw [lg_entry_eq]
  generalize (lg_sl ([.ref h, .int (nI j), .int x0, .int v]) ++ List.replicate (4 - (lg_sl ([.ref h, .int (nI j), .int x0, .int v])).length) Slot.unset).toArray = ls at hl ⊢
  have hl : lv_has ls 4 [(0, .ref h), (1, .int (nI j)), (2, .int x0), (3, .int v)] := hl
  have main : ∀ (K X V E : Nat → Int32) (en se op os oc : Int32) (la ks kl ko nk nr nv ne : Nat → Int32) (H : Heap) (locs : List Loc), va_P (dC, dI) ls_C (ls_W h a dB dZ dN K X V E en se op os oc la ks kl ko nk nr nv ne) H → va_D A (ls_W h a dB dZ dN K X V E en se op os oc la ks kl ko nk nr nv ne) → va_S A s.heap H locs → ls_R 95 K X V E la en se op os oc cu ba sa o ch → W p l e (headSpec (ws_ yX0_append cX0_append 4 none) (ls_rm 2 47)).room s m ([.ref h, .int (nI j), .int x0, .int v] : List Value).toArray below meth c H locs 0 0 (MQ below (va_Qv (fun (_ : Unit) => True) (fun _ t => ls_B dC dI h a dB dZ dN A 96 (ls_up cu j (if x0 = 0 then some v else none)) (if o = true then ba else ls_up cu j (if x0 = 0 then some v else none)) sa o (if o = true then ch + 1 else ch) t) A) ([.ref h, .int (nI j), .int x0, .int v] : List Value).toArray s 0 0 A) (F0 m 13 ls []) := by
    intro K X V E en se op os oc la ks kl ko nk nr nv ne H locs hP hD hS hQ
    obtain ⟨hoc, n, q, c0, rfl, rfl, hQ⟩ := hQ
    obtain ⟨hn, hq, hc, ho1, ho0, hok, -⟩ := id hQ
    have hn2 : n < 96 := by omega
    refine lv_aload_n hx hb dX0_append_13 rfl (lv_at hl 0 rfl) ?_
    refine ls_g0 S hK hP dX0_append_14 ?_
    refine lv_aload_n hx hb dX0_append_17 rfl (lv_at hl 0 rfl) ?_
    refine ls_g4 S hK hP dX0_append_18 ?_
    refine lv_iload_n hx hb dX0_append_21 rfl (lv_at hl 1 rfl) ?_
    refine lv_i2b (v := nI j) hx hb dX0_append_22 (ls_b8 j (by omega)) ?_
    refine ls_s0 S hK hP hD hS hn2 (ls_nb (by omega)) dX0_append_23 (fun H locs hP hD hS => ?_)
    refine lv_aload_n hx hb dX0_append_24 rfl (lv_at hl 0 rfl) ?_
    refine ls_g1 S hK hP dX0_append_25 ?_
    refine lv_aload_n hx hb dX0_append_28 rfl (lv_at hl 0 rfl) ?_
    refine ls_g4 S hK hP dX0_append_29 ?_
    refine lv_iload_n hx hb dX0_append_32 rfl (lv_at hl 2 rfl) ?_
    refine ls_s1 S hK hP hD hS hn2 (ls_nz hx0) dX0_append_33 (fun H locs hP hD hS => ?_)
    refine lv_aload_n hx hb dX0_append_34 rfl (lv_at hl 0 rfl) ?_
    refine ls_g2 S hK hP dX0_append_35 ?_
    refine lv_aload_n hx hb dX0_append_38 rfl (lv_at hl 0 rfl) ?_
    refine ls_g4 S hK hP dX0_append_39 ?_
    refine lv_iload_n hx hb dX0_append_42 rfl (lv_at hl 3 rfl) ?_
    refine ls_s2 S hK hP hD hS hn2 dX0_append_43 (fun H locs hP hD hS => ?_)
    refine lv_aload_n hx hb dX0_append_44 rfl (lv_at hl 0 rfl) ?_
    refine ls_g3 S hK hP dX0_append_45 ?_
    refine lv_aload_n hx hb dX0_append_48 rfl (lv_at hl 0 rfl) ?_
    refine ls_g4 S hK hP dX0_append_49 ?_
    refine lv_aload_n hx hb dX0_append_52 rfl (lv_at hl 0 rfl) ?_
    refine ls_g9 S hK hP dX0_append_53 ?_
    refine lv_iload_n hx hb dX0_append_56 rfl (lv_at hl 1 rfl) ?_
    refine ls_l4 S hK hP hj dX0_append_57 ?_
    refine ls_s3 S hK hP hD hS hn2 (ls_ok_nb hok (by omega) hj) dX0_append_58 (fun H locs hP hD hS => ?_)
    refine lv_aload_n hx hb dX0_append_59 rfl (lv_at hl 0 rfl) ?_
    refine ls_g9 S hK hP dX0_append_60 ?_
    refine lv_iload_n hx hb dX0_append_63 rfl (lv_at hl 1 rfl) ?_
    refine lv_aload_n hx hb dX0_append_64 rfl (lv_at hl 0 rfl) ?_
    refine ls_g4 S hK hP dX0_append_65 ?_
    refine lv_i2b (v := nI n) hx hb dX0_append_68 (ls_b8 n (by omega)) ?_
    refine ls_s4 S hK hP hD hS hj (ls_nb (by omega)) dX0_append_69 (fun H locs hP hD hS => ?_)
    refine lv_aload_n hx hb dX0_append_70 rfl (lv_at hl 0 rfl) ?_
    refine lv_dup hx hb dX0_append_71 rfl ?_
    refine ls_g4 S hK hP dX0_append_72 ?_
    refine lv_iconst (v := 1) hx hb dX0_append_75 (by decide) ?_
    refine lv_iadd hx hb dX0_append_76 ?_
    rw [show ((nI n) + 1 : Int32) = nI (n + 1) from nI_1 n]
    refine ls_p4 S hK hP hD hS dX0_append_77 (fun H locs hP hD hS => ?_)
    have hfin := ls_Q_app (v := v) hQ hn2 hj hx0
    refine lv_aload_n hx hb dX0_append_80 rfl (lv_at hl 0 rfl) ?_
    refine ls_g6 S hK hP dX0_append_81 ?_
    cases o with
    | true =>
      refine lv_if_eq (tgt := 97) hx hb dX0_append_84 (by decide) (fun c1 => ?_) (fun c1 => ?_)
      · exact absurd c1 (by rw [(ho1 rfl).1]; decide)
      · skip
        refine lv_aload_n hx hb dX0_append_87 rfl (lv_at hl 0 rfl) ?_
        refine lv_dup hx hb dX0_append_88 rfl ?_
        refine ls_g8 S hK hP dX0_append_89 ?_
        refine lv_iconst (v := 1) hx hb dX0_append_92 (by decide) ?_
        refine lv_iadd hx hb dX0_append_93 ?_
        refine ls_p8 S hK hP hD hS dX0_append_94 (fun H locs hP hD hS => ?_)
        exact W.vret hx hb hr (fun t ht hW => ⟨⟨(), rfl, trivial, _, _, _, _, _, _, _, _, _, _, _, _, _, _, _, _, _, by rw [ht]; exact hP, va_K.moved hW.alike hK, hD, ⟨by rw [hoc]; rfl, n + 1, q, _, rfl, rfl, hfin⟩⟩, hS.F ht⟩) hS.2.2 dX0_append_97
    | false =>
      refine lv_if_eq (tgt := 97) hx hb dX0_append_84 (by decide) (fun c1 => ?_) (fun c1 => ?_)
      · skip
        exact W.vret hx hb hr (fun t ht hW => ⟨⟨(), rfl, trivial, _, _, _, _, _, _, _, _, _, _, _, _, _, _, _, _, _, by rw [ht]; exact hP, va_K.moved hW.alike hK, hD, ⟨by rw [hoc]; rfl, n + 1, q, _, rfl, rfl, hfin⟩⟩, hS.F ht⟩) hS.2.2 dX0_append_97
      · exact absurd (ho0 rfl).1 c1
  obtain ⟨hoc, n, q, c0, rfl, rfl, hQ⟩ := hQ
  have hn := hQ.1
  refine lv_aload_n hx hb dX0_append_0 rfl (lv_at hl 0 rfl) ?_
  refine ls_g4 S hK hP dX0_append_1 ?_
  refine lv_bipush (v := nI 96) hx hb dX0_append_4 (by decide) ?_
  refine ls_ilt (tgt := 13) hx hb (by omega) (by omega) dX0_append_6 (by decide) (fun c1 => ?_) (fun c1 => ?_)
  · exact main _ _ _ _ _ _ _ _ _ _ _ _ _ _ _ _ _ _ _ hP hD hS ⟨hoc, n, q, c0, rfl, rfl, (by omega : n ≤ 95), hQ.2⟩
  · skip
    refine lv_aload_n hx hb dX0_append_9 rfl (lv_at hl 0 rfl) ?_
    refine ls_c_rewrite S hK hP hD hS hA hl.1 ⟨Nat.le_of_ble_eq_true rfl, Nat.le_of_ble_eq_true rfl⟩ ⟨Nat.zero_le _, Nat.zero_le _⟩ (Nat.le_of_ble_eq_true rfl) dX0_append_10 ⟨hoc, n, q, c0, rfl, rfl, hQ⟩ (fun K X V E en se op os oc la ks kl ko nk nr nv ne H locs hP hD hS hQ => ?_)
    exact main _ _ _ _ _ _ _ _ _ _ _ _ _ _ _ _ _ _ _ hP hD hS (ls_R_mono (by decide) hQ)
section
variable {p : Program} {l : Launch} {e : Env} {R : Room} {s : State} {m : MethodId} {args : Array Value} {below : List Frame} {meth : Method} {c : Code} {H : Heap} {locs : List Loc} {cells slots : Nat} {Q : State → Prop}
variable {cc : ByteArray} {nL pc : Nat} {ls : Array Slot} {rest st0 : List Value} {dC : Nat → ClassId} {dI : Nat → Nat → Nat} {A : Nat → Prop} {H0 : Heap} {dB dZ dN : ClassId}
variable {h : Nat} {a : Nat → Nat}
variable {K X V E la ks kl ko nk nr nv ne : Nat → Int32} {en se op os oc : Int32}
theorem ls_c_append (S : CallFix p m c cc nL s args lw_all RX0) (hK : va_K (dC, dI) ls_C (ls_T dB dZ dN) s) (hP : va_P (dC, dI) ls_C (ls_W h a dB dZ dN K X V E en se op os oc la ks kl ko nk nr nv ne) H) (hD : va_D A (ls_W h a dB dZ dN K X V E en se op os oc la ks kl ko nk nr nv ne)) (hS : va_S A H0 H locs) (hA : ∀ q, H0.size ≤ q → A q) (hsz : ls.size = nL) (hR : 3 ≤ R.frames ∧ 70 ≤ R.locals) (hf : cells ≤ R.cells ∧ slots ≤ R.slots) (hrm : (rest.map fun v => v.category).sum ≤ 8) (hd : decode cc pc = .ok (.invokevirtual 82, 3)) {cu ba sa : Nat → Option Int32} {o : Bool} {ch : Int32} {j : Nat} {x0 v : Int32} (hj : j < 16) (hx0 : x0 = 0 ∨ x0 = 1) (hQ : ls_R 96 K X V E la en se op os oc cu ba sa o ch)
    (kk : ∀ (K X V E : Nat → Int32) (en se op os oc : Int32) (la ks kl ko nk nr nv ne : Nat → Int32) (H1 : Heap) (locs1 : List Loc), va_P (dC, dI) ls_C (ls_W h a dB dZ dN K X V E en se op os oc la ks kl ko nk nr nv ne) H1 → va_D A (ls_W h a dB dZ dN K X V E en se op os oc la ks kl ko nk nr nv ne) → va_S A H0 H1 locs1 → ls_R 96 K X V E la en se op os oc (ls_up cu j (if x0 = 0 then some v else none)) (if o = true then ba else ls_up cu j (if x0 = 0 then some v else none)) sa o (if o = true then ch + 1 else ch) → W p l e R s m args below meth c H1 locs1 cells slots Q (F0 m (pc + 3) ls (rest))) : W p l e R s m args below meth c H locs cells slots Q (F0 m pc ls (.int v :: .int x0 :: .int (nI j) :: .ref h :: rest)) :=
  ls_cV (ci := 0) S hK hP hD hS hA (mt_append hj hx0 hQ) (cwV 3 S.2.2.2.2 (lw_V q88 q90 qs0 q12 q91) rfl rfl rfl (by decide +kernel) ⟨hR.1, hR.2⟩) rfl rfl rfl hsz rfl hrm hd hf (fun _ t H1 locs1 ht hvm hp hB hS1 hF => by
    obtain ⟨z0, z1, z2, z3, z4, z5, z6, z7, z8, z9, z10, z11, z12, z13, z14, z15, z16, hP1, -, hD1, hR1⟩ := hB
    rw [ht] at hP1
    exact kk z0 z1 z2 z3 z4 z5 z6 z7 z8 z9 z10 z11 z12 z13 z14 z15 z16 H1 locs1 hP1 (hD1.weaken (fun _ z _ hz => hF z.1 hz)) hS1 hR1)
end
set_option maxHeartbeats 4000000 in
set_option maxRecDepth 100000 in
/-- cutTo(place), the place where the transaction began -/
theorem mt_cutTo {l : Launch} {dC : Nat → ClassId} {dI : Nat → Nat → Nat} {h : Nat} {a : Nat → Nat} {dB dZ dN : ClassId} {K X V E : Nat → Int32} {en se op os oc : Int32} {la ks kl ko nk nr nv ne : Nat → Int32} {sz : Nat} {cu ba sa : Nat → Option Int32} {o : Bool} {ch : Int32} {n q c0 : Nat} (hQ : ls_Q 96 n q c0 K X V E la op os cu ba sa o ch) (hen : en = nI n) (hse : se = nI q) : Met l yX0_cutTo (ws_ yX0_cutTo cX0_cutTo 3 none) (ls_rm 1 24) (va_Pc [.ref h, .int (nI c0)] (fun U => U.heap.size = sz ∧ va_P (dC, dI) ls_C (ls_W h a dB dZ dN K X V E en se op os oc la ks kl ko nk nr nv ne) U.heap ∧ va_K (dC, dI) ls_C (ls_T dB dZ dN) U ∧ va_D (fun _ => True) (ls_W h a dB dZ dN K X V E en se op os oc la ks kl ko nk nr nv ne))) (va_Qv (fun (_ : Unit) => True) (fun _ t => ls_B dC dI h a dB dZ dN (va_A (ls_W h a dB dZ dN K X V E en se op os oc la ks kl ko nk nr nv ne) sz) 96 ba ba sa false 0 t) (va_A (ls_W h a dB dZ dN K X V E en se op os oc la ks kl ko nk nr nv ne) sz)) 0 0 (va_A (ls_W h a dB dZ dN K X V E en se op os oc la ks kl ko nk nr nv ne) sz) := by
  refine Met.ofW (cc := cX0_cutTo) (maxL := 3) (ret := none) (by decide) rfl ?_
  intro p e s m args below meth c s₁ B hml hv
  obtain ⟨rfl, hsz, hP, hK, hD0⟩ := hv
  have hx := B.exec
  have hb := B.bytes
  have hr := B.returns
  have hts := atoms_spec (ws := (ws_ yX0_cutTo cX0_cutTo 3 none)) B.pre
  have hts : ∀ w ∈ lw_all, w.before _ s = true := fun w h => hts w (List.mem_cons_of_mem _ h)
  have hown : s.vm.findClass RX0 = some m.cls := findClass_of_methodNamed B.named
  have hlocks := B.notSynchronized
  have S : CallFix p m c cX0_cutTo 3 s _ lw_all RX0 := ⟨hx, hb, hml, hown, hts⟩
  subst hsz
  have hD := hD0.self (sz := s.heap.size)
  generalize hAe : va_A (ls_W h a dB dZ dN K X V E en se op os oc la ks kl ko nk nr nv ne) s.heap.size = A at hD ⊢
  have hA : ∀ q : Nat, s.heap.size ≤ q → A q := fun q h => by rw [← hAe]; exact Or.inr h
  have hS : va_S A s.heap s.heap [] := va_S.rf
  have hl := lv_entry ([.ref h, .int (nI c0)]) (n := 3) (Nat.le_of_ble_eq_true rfl)
  rw [lg_entry_eq]
  generalize (lg_sl ([.ref h, .int (nI c0)]) ++ List.replicate (3 - (lg_sl ([.ref h, .int (nI c0)])).length) Slot.unset).toArray = ls at hl ⊢
  have hl : lv_has ls 3 [(0, .ref h), (1, .int (nI c0))] := hl
  obtain ⟨hn, hq, hc, ho1, ho0, hok, -⟩ := id hQ
  have loop : ∀ (f i : Nat) (la : Nat → Int32) (H : Heap) (locs : List Loc) (ls : Array Slot), i ≤ 16 → 17 ≤ i + f → (∀ j, j < i → la j = ls_i (ls_at K (nI j) c0)) → (∀ j, i ≤ j → j < 16 → la j = ls_i (ls_at K (nI j) n)) → va_P (dC, dI) ls_C (ls_W h a dB dZ dN K X V E en se op os oc la ks kl ko nk nr nv ne) H → va_D A (ls_W h a dB dZ dN K X V E en se op os oc la ks kl ko nk nr nv ne) → va_S A s.heap H locs → lv_has ls 3 [(0, .ref h), (1, .int (nI c0)), (2, .int (nI i))] → W p l e (headSpec (ws_ yX0_cutTo cX0_cutTo 3 none) (ls_rm 1 24)).room s m ([.ref h, .int (nI c0)] : List Value).toArray below meth c H locs 0 0 (MQ below (va_Qv (fun (_ : Unit) => True) (fun _ t => ls_B dC dI h a dB dZ dN A 96 ba ba sa false 0 t) A) ([.ref h, .int (nI c0)] : List Value).toArray s 0 0 A) (F0 m 2 ls []) := by
    intro f
    induction f with
    | zero => intro i la H locs ls h1 h2; omega
    | succ f ih =>
      intro i la H locs ls h1 h2 hv hw hP hD hS hl
      refine lv_iload_n hx hb dX0_cutTo_2 rfl (lv_at hl 2 rfl) ?_
      refine lv_bipush (v := nI 16) hx hb dX0_cutTo_3 (by decide) ?_
      refine ls_ige (tgt := 27) hx hb (by omega) (by omega) dX0_cutTo_5 (by decide) (fun c1 => ?_) (fun c1 => ?_)
      · skip
        refine lv_aload_n hx hb dX0_cutTo_27 rfl (lv_at hl 0 rfl) ?_
        refine lv_iload_n hx hb dX0_cutTo_28 rfl (lv_at hl 1 rfl) ?_
        refine ls_p4 S hK hP hD hS dX0_cutTo_29 (fun H locs hP hD hS => ?_)
        refine lv_aload_n hx hb dX0_cutTo_32 rfl (lv_at hl 0 rfl) ?_
        refine lv_iconst (v := 0) hx hb dX0_cutTo_33 (by decide) ?_
        refine ls_p6 S hK hP hD hS rfl rfl dX0_cutTo_34 (fun H locs hP hD hS => ?_)
        refine lv_aload_n hx hb dX0_cutTo_37 rfl (lv_at hl 0 rfl) ?_
        refine lv_iconst (v := 0) hx hb dX0_cutTo_38 (by decide) ?_
        refine ls_p8 S hK hP hD hS dX0_cutTo_39 (fun H locs hP hD hS => ?_)
        exact W.vret hx hb hr (fun t ht hW => ⟨⟨(), rfl, trivial, _, _, _, _, _, _, _, _, _, _, _, _, _, _, _, _, _, by rw [ht]; exact hP, va_K.moved hW.alike hK, hD, ⟨rfl, c0, q, c0, rfl, hse, ls_Q_cut hQ (fun j hj => hv j (by omega))⟩⟩, hS.F ht⟩) hS.2.2 dX0_cutTo_42
      · skip
        have hla := hw i (Nat.le_refl i) c1
        have hbc : ∀ j, ls_at K (nI i) c0 = some j → j < 128 := fun j hj => by have := (ls_at_lt hj).1; omega
        refine lv_aload_n hx hb dX0_cutTo_8 rfl (lv_at hl 0 rfl) ?_
        refine ls_g9 S hK hP dX0_cutTo_9 ?_
        refine lv_iload_n hx hb dX0_cutTo_12 rfl (lv_at hl 2 rfl) ?_
        refine lv_aload_n hx hb dX0_cutTo_13 rfl (lv_at hl 0 rfl) ?_
        refine lv_iload_n hx hb dX0_cutTo_14 rfl (lv_at hl 2 rfl) ?_
        refine lv_iload_n hx hb dX0_cutTo_15 rfl (lv_at hl 1 rfl) ?_
        refine ls_c_before S hK hP hl.1 ⟨Nat.le_of_ble_eq_true rfl, Nat.le_of_ble_eq_true rfl⟩ ⟨Nat.zero_le _, Nat.zero_le _⟩ (Nat.le_of_ble_eq_true rfl) dX0_cutTo_16 hn hc c1 hla hok.2.2.1 (fun r9 hr9 => ?_)
        subst hr9
        refine lv_i2b (v := ls_i (ls_at K (nI i) c0)) hx hb dX0_cutTo_19 (ls_b8i hbc) ?_
        refine ls_s4 S hK hP hD hS c1 (ls_nbi hbc) dX0_cutTo_20 (fun H locs hP hD hS => ?_)
        refine lv_iinc (v := nI (i + 1)) (lv' := [(2, .int (nI (i + 1))), (0, .ref h), (1, .int (nI c0))]) hx hb dX0_cutTo_21 hl (k := 2) rfl (ls_inc i) (by decide) rfl (fun ls hl => ?_)
        refine lv_goto (tgt := 2) hx hb dX0_cutTo_24 (by decide) ?_
        refine ih (i + 1) _ _ _ ls (by omega) (by omega) (fun j hj => ?_) (fun j hj hj2 => ?_) hP hD hS (lv_sub hl [1, 2, 0] rfl)
        · by_cases e0 : j = i
          · rw [e0, pk_us]
          · rw [pk_un e0]; exact hv j (by omega)
        · rw [pk_un (by omega)]; exact hw j (by omega) hj2
  refine lv_iconst (v := nI 0) hx hb dX0_cutTo_0 (by decide) ?_
  refine lv_istore_n (lv' := [(2, .int (nI 0)), (0, .ref h), (1, .int (nI c0))]) hx hb dX0_cutTo_1 rfl hl (by decide) rfl (fun ls hl => ?_)
  exact loop 17 0 la _ _ ls (by omega) (by omega) (fun j hj => by omega) (fun j _ hj => hok.2.2.2 j hj) hP hD hS (lv_sub hl [1, 2, 0] rfl)
section
variable {p : Program} {l : Launch} {e : Env} {R : Room} {s : State} {m : MethodId} {args : Array Value} {below : List Frame} {meth : Method} {c : Code} {H : Heap} {locs : List Loc} {cells slots : Nat} {Q : State → Prop}
variable {cc : ByteArray} {nL pc : Nat} {ls : Array Slot} {rest st0 : List Value} {dC : Nat → ClassId} {dI : Nat → Nat → Nat} {A : Nat → Prop} {H0 : Heap} {dB dZ dN : ClassId}
variable {h : Nat} {a : Nat → Nat}
variable {K X V E la ks kl ko nk nr nv ne : Nat → Int32} {en se op os oc : Int32}
theorem ls_c_cutTo (S : CallFix p m c cc nL s args lw_all RX0) (hK : va_K (dC, dI) ls_C (ls_T dB dZ dN) s) (hP : va_P (dC, dI) ls_C (ls_W h a dB dZ dN K X V E en se op os oc la ks kl ko nk nr nv ne) H) (hD : va_D A (ls_W h a dB dZ dN K X V E en se op os oc la ks kl ko nk nr nv ne)) (hS : va_S A H0 H locs) (hA : ∀ q, H0.size ≤ q → A q) (hsz : ls.size = nL) (hR : 2 ≤ R.frames ∧ 46 ≤ R.locals) (hf : cells ≤ R.cells ∧ slots ≤ R.slots) (hrm : (rest.map fun v => v.category).sum ≤ 8) (hd : decode cc pc = .ok (.invokevirtual 89, 3)) {cu ba sa : Nat → Option Int32} {o : Bool} {ch : Int32} {n q c0 : Nat} (hQ : ls_Q 96 n q c0 K X V E la op os cu ba sa o ch) (hen : en = nI n) (hse : se = nI q)
    (kk : ∀ (K X V E : Nat → Int32) (en se op os oc : Int32) (la ks kl ko nk nr nv ne : Nat → Int32) (H1 : Heap) (locs1 : List Loc), va_P (dC, dI) ls_C (ls_W h a dB dZ dN K X V E en se op os oc la ks kl ko nk nr nv ne) H1 → va_D A (ls_W h a dB dZ dN K X V E en se op os oc la ks kl ko nk nr nv ne) → va_S A H0 H1 locs1 → ls_R 96 K X V E la en se op os oc ba ba sa false 0 → W p l e R s m args below meth c H1 locs1 cells slots Q (F0 m (pc + 3) ls (rest))) : W p l e R s m args below meth c H locs cells slots Q (F0 m pc ls (.int (nI c0) :: .ref h :: rest)) :=
  ls_cV (ci := 0) S hK hP hD hS hA (mt_cutTo hQ hen hse) (cwV 1 S.2.2.2.2 (lw_V q124 q126 qs5 q12 q127) rfl rfl rfl (by decide +kernel) ⟨hR.1, hR.2⟩) rfl rfl rfl hsz rfl hrm hd hf (fun _ t H1 locs1 ht hvm hp hB hS1 hF => by
    obtain ⟨z0, z1, z2, z3, z4, z5, z6, z7, z8, z9, z10, z11, z12, z13, z14, z15, z16, hP1, -, hD1, hR1⟩ := hB
    rw [ht] at hP1
    exact kk z0 z1 z2 z3 z4 z5 z6 z7 z8 z9 z10 z11 z12 z13 z14 z15 z16 H1 locs1 hP1 (hD1.weaken (fun _ z _ hz => hF z.1 hz)) hS1 hR1)
end
end
section
set_option maxRecDepth 100000
set_option maxHeartbeats 4000000 in
set_option maxRecDepth 100000 in
/-- has(k) -/
theorem mt_has {l : Launch} {dC : Nat → ClassId} {dI : Nat → Nat → Nat} {h : Nat} {a : Nat → Nat} {dB dZ dN : ClassId} {K X V E : Nat → Int32} {en se op os oc : Int32} {la ks kl ko nk nr nv ne : Nat → Int32} {cu ba sa : Nat → Option Int32} {o : Bool} {ch : Int32} (hQ : ls_R 96 K X V E la en se op os oc cu ba sa o ch) {k : Int32} : Met l yX0_has (ws_ yX0_has cX0_has 2 (some .boolean)) (ls_rm 1 21) (va_Pc [.ref h, .int k] (fun U => va_P (dC, dI) ls_C (ls_W h a dB dZ dN K X V E en se op os oc la ks kl ko nk nr nv ne) U.heap ∧ va_K (dC, dI) ls_C (ls_T dB dZ dN) U)) (vp_Si (fun r => r = ls_has cu k)) 0 0 (fun _ => False) := by
  refine Met.ofW (cc := cX0_has) (maxL := 2) (ret := (some .boolean)) (by decide) rfl ?_
  intro p e s m args below meth c s₁ B hml hv
  obtain ⟨rfl, hP, hK⟩ := hv
  have hx := B.exec
  have hb := B.bytes
  have hr := B.returns
  have hts := atoms_spec (ws := (ws_ yX0_has cX0_has 2 (some .boolean))) B.pre
  have hts : ∀ w ∈ lw_all, w.before _ s = true := fun w h => hts w (List.mem_cons_of_mem _ h)
  have hown : s.vm.findClass RX0 = some m.cls := findClass_of_methodNamed B.named
  have hlocks := B.notSynchronized
  have S : CallFix p m c cX0_has 2 s _ lw_all RX0 := ⟨hx, hb, hml, hown, hts⟩
  have hl := lv_entry ([.ref h, .int k]) (n := 2) (Nat.le_of_ble_eq_true rfl)
  rw [lg_entry_eq]
  generalize (lg_sl ([.ref h, .int k]) ++ List.replicate (2 - (lg_sl ([.ref h, .int k])).length) Slot.unset).toArray = ls at hl ⊢
  have hl : lv_has ls 2 [(0, .ref h), (1, .int k)] := hl
  obtain ⟨hoc, n, q, c0, rfl, rfl, hQ⟩ := hQ
  obtain ⟨hn, hq, hc, ho1, ho0, hok, hcu, hba, hsa⟩ := id hQ
  refine lv_iload_n hx hb dX0_has_0 rfl (lv_at hl 1 rfl) ?_
  refine ls_c_isKey S hl.1 ⟨Nat.le_of_ble_eq_true rfl, Nat.le_of_ble_eq_true rfl⟩ ⟨Nat.zero_le _, Nat.zero_le _⟩ (Nat.le_of_ble_eq_true rfl) dX0_has_1 (fun r9 hr9 => ?_)
  subst hr9
  rcases ls_kb_c k with ⟨h0, -⟩ | ⟨j, hj, rfl, h1⟩
  · skip
    refine lv_if_eq (tgt := 24) hx hb dX0_has_4 (by decide) (fun c1 => ?_) (fun c1 => ?_)
    · skip
      refine lv_iconst (v := 0) hx hb dX0_has_24 (by decide) ?_
      exact W.zret (v := 0) hx hb hr rfl (fun t ht hW => ⟨_, rfl, (ls_has_0 h0).symm, ht⟩) (fun q hq => by cases hq) dX0_has_25
    · exact absurd h0 c1
  · skip
    refine lv_if_eq (tgt := 24) hx hb dX0_has_4 (by decide) (fun c1 => ?_) (fun c1 => ?_)
    · exact absurd c1 (by rw [h1]; decide)
    · rw [ls_has_hd hj (hcu j hj)]
      refine lv_aload_n hx hb dX0_has_7 rfl (lv_at hl 0 rfl) ?_
      refine lv_aload_n hx hb dX0_has_8 rfl (lv_at hl 0 rfl) ?_
      refine ls_g9 S hK hP dX0_has_9 ?_
      refine lv_iload_n hx hb dX0_has_12 rfl (lv_at hl 1 rfl) ?_
      refine ls_l4 S hK hP hj dX0_has_13 ?_
      rw [show (la j : Int32) = ls_i (ls_at K (nI j) n) from hok.2.2.2 j hj]
      refine ls_c_holds S hK hP hl.1 ⟨Nat.le_of_ble_eq_true rfl, Nat.le_of_ble_eq_true rfl⟩ ⟨Nat.zero_le _, Nat.zero_le _⟩ (Nat.le_of_ble_eq_true rfl) dX0_has_14 (fun i hi => by have := (ls_at_lt hi).1; omega) (fun r9 hr9 => ?_)
      subst hr9
      refine lv_if_eq (tgt := 24) hx hb dX0_has_17 (by decide) (fun c2 => ?_) (fun c2 => ?_)
      · skip
        refine lv_iconst (v := 0) hx hb dX0_has_24 (by decide) ?_
        exact W.zret (v := 0) hx hb hr rfl (fun t ht hW => ⟨_, rfl, c2.symm, ht⟩) (fun q hq => by cases hq) dX0_has_25
      · skip
        refine lv_iconst (v := 1) hx hb dX0_has_20 (by decide) ?_
        refine lv_goto (tgt := 25) hx hb dX0_has_21 (by decide) ?_
        exact W.zret (v := 1) hx hb hr rfl (fun t ht hW => ⟨_, rfl, (ls_hd_ne c2).symm, ht⟩) (fun q hq => by cases hq) dX0_has_25
section
variable {p : Program} {l : Launch} {e : Env} {R : Room} {s : State} {m : MethodId} {args : Array Value} {below : List Frame} {meth : Method} {c : Code} {H : Heap} {locs : List Loc} {cells slots : Nat} {Q : State → Prop}
variable {cc : ByteArray} {nL pc : Nat} {ls : Array Slot} {rest st0 : List Value} {dC : Nat → ClassId} {dI : Nat → Nat → Nat} {A : Nat → Prop} {H0 : Heap} {dB dZ dN : ClassId}
variable {h : Nat} {a : Nat → Nat}
variable {K X V E la ks kl ko nk nr nv ne : Nat → Int32} {en se op os oc : Int32}
theorem ls_c_has (S : CallFix p m c cc nL s args lw_all RX0) (hK : va_K (dC, dI) ls_C (ls_T dB dZ dN) s) (hP : va_P (dC, dI) ls_C (ls_W h a dB dZ dN K X V E en se op os oc la ks kl ko nk nr nv ne) H) (hsz : ls.size = nL) (hR : 2 ≤ R.frames ∧ 42 ≤ R.locals) (hf : cells ≤ R.cells ∧ slots ≤ R.slots) (hrm : (rest.map fun v => v.category).sum ≤ 8) (hd : decode cc pc = .ok (.invokevirtual 86, 3)) {cu ba sa : Nat → Option Int32} {o : Bool} {ch : Int32} (hQ : ls_R 96 K X V E la en se op os oc cu ba sa o ch) {k : Int32}
    (kk : ∀ r : Int32, r = ls_has cu k → W p l e R s m args below meth c H locs cells slots Q (F0 m (pc + 3) ls (.int r :: rest))) : W p l e R s m args below meth c H locs cells slots Q (F0 m pc ls (.int k :: .ref h :: rest)) :=
  ls_rV (ci := 0) S hK hP (mt_has hQ) (cwV 1 S.2.2.2.2 (lw_V q112 q113 q114 q12 q115) rfl rfl rfl (by decide +kernel) ⟨hR.1, hR.2⟩) rfl rfl rfl hsz rfl hrm hd hf kk
end
set_option maxHeartbeats 4000000 in
set_option maxRecDepth 100000 in
/-- get(k) -/
theorem mt_get {l : Launch} {dC : Nat → ClassId} {dI : Nat → Nat → Nat} {h : Nat} {a : Nat → Nat} {dB dZ dN : ClassId} {K X V E : Nat → Int32} {en se op os oc : Int32} {la ks kl ko nk nr nv ne : Nat → Int32} {cu ba sa : Nat → Option Int32} {o : Bool} {ch : Int32} (hQ : ls_R 96 K X V E la en se op os oc cu ba sa o ch) {k : Int32} : Met l yX0_get (ws_ yX0_get cX0_get 2 (some .int)) (ls_rm 2 42) (va_Pc [.ref h, .int k] (fun U => va_P (dC, dI) ls_C (ls_W h a dB dZ dN K X V E en se op os oc la ks kl ko nk nr nv ne) U.heap ∧ va_K (dC, dI) ls_C (ls_T dB dZ dN) U)) (vp_Si (fun r => r = ls_get cu k)) 0 0 (fun _ => False) := by
  refine Met.ofW (cc := cX0_get) (maxL := 2) (ret := (some .int)) (by decide) rfl ?_
  intro p e s m args below meth c s₁ B hml hv
  obtain ⟨rfl, hP, hK⟩ := hv
  have hx := B.exec
  have hb := B.bytes
  have hr := B.returns
  have hts := atoms_spec (ws := (ws_ yX0_get cX0_get 2 (some .int))) B.pre
  have hts : ∀ w ∈ lw_all, w.before _ s = true := fun w h => hts w (List.mem_cons_of_mem _ h)
  have hown : s.vm.findClass RX0 = some m.cls := findClass_of_methodNamed B.named
  have hlocks := B.notSynchronized
  have S : CallFix p m c cX0_get 2 s _ lw_all RX0 := ⟨hx, hb, hml, hown, hts⟩
  have hl := lv_entry ([.ref h, .int k]) (n := 2) (Nat.le_of_ble_eq_true rfl)
  rw [lg_entry_eq]
  generalize (lg_sl ([.ref h, .int k]) ++ List.replicate (2 - (lg_sl ([.ref h, .int k])).length) Slot.unset).toArray = ls at hl ⊢
  have hl : lv_has ls 2 [(0, .ref h), (1, .int k)] := hl
  refine lv_aload_n hx hb dX0_get_0 rfl (lv_at hl 0 rfl) ?_
  refine lv_iload_n hx hb dX0_get_1 rfl (lv_at hl 1 rfl) ?_
  refine ls_c_has S hK hP hl.1 ⟨Nat.le_of_ble_eq_true rfl, Nat.le_of_ble_eq_true rfl⟩ ⟨Nat.zero_le _, Nat.zero_le _⟩ (Nat.le_of_ble_eq_true rfl) dX0_get_2 hQ (fun r9 hr9 => ?_)
  subst hr9
  refine lv_if_ne (tgt := 10) hx hb dX0_get_5 (by decide) (fun c1 => ?_) (fun c1 => ?_)
  · skip
    obtain ⟨j, v, hj, rfl, hv, h1⟩ := ls_has_ne c1
    obtain ⟨hoc, n, q, c0, rfl, rfl, hQ⟩ := hQ
    obtain ⟨hn, hq, hc, ho1, ho0, hok, hcu, hba, hsa⟩ := id hQ
    obtain ⟨r, hat, hxr, rfl, hrn⟩ := ls_pv_some ((hcu j hj).trans hv)
    refine lv_aload_n hx hb dX0_get_10 rfl (lv_at hl 0 rfl) ?_
    refine ls_g2 S hK hP dX0_get_11 ?_
    refine lv_aload_n hx hb dX0_get_14 rfl (lv_at hl 0 rfl) ?_
    refine ls_g9 S hK hP dX0_get_15 ?_
    refine lv_iload_n hx hb dX0_get_18 rfl (lv_at hl 1 rfl) ?_
    refine ls_l4 S hK hP hj dX0_get_19 ?_
    rw [show (la j : Int32) = nI r from by rw [hok.2.2.2 j hj, hat]; rfl]
    refine ls_l2 S hK hP (show r < 96 by omega) dX0_get_20 ?_
    exact W.iret (v := V r) hx hb hr (fun t ht hW => ⟨_, rfl, (ls_get_1 hj hv).symm, ht⟩) (fun q hq => by cases hq) dX0_get_21
  · skip
    refine lv_iconst (v := 0) hx hb dX0_get_8 (by decide) ?_
    exact W.iret (v := 0) hx hb hr (fun t ht hW => ⟨_, rfl, (ls_get_0 c1).symm, ht⟩) (fun q hq => by cases hq) dX0_get_9
set_option maxHeartbeats 4000000 in
set_option maxRecDepth 100000 in
/-- next(k) -/
theorem mt_next {l : Launch} {dC : Nat → ClassId} {dI : Nat → Nat → Nat} {h : Nat} {a : Nat → Nat} {dB dZ dN : ClassId} {K X V E : Nat → Int32} {en se op os oc : Int32} {la ks kl ko nk nr nv ne : Nat → Int32} {cu ba sa : Nat → Option Int32} {o : Bool} {ch : Int32} (hQ : ls_R 96 K X V E la en se op os oc cu ba sa o ch) {k : Int32} : Met l yX0_next (ws_ yX0_next cX0_next 3 (some .int)) (ls_rm 2 42) (va_Pc [.ref h, .int k] (fun U => va_P (dC, dI) ls_C (ls_W h a dB dZ dN K X V E en se op os oc la ks kl ko nk nr nv ne) U.heap ∧ va_K (dC, dI) ls_C (ls_T dB dZ dN) U)) (vp_Si (fun r => ls_nx cu k r)) 0 0 (fun _ => False) := by
  refine Met.ofW (cc := cX0_next) (maxL := 3) (ret := (some .int)) (by decide) rfl ?_
  intro p e s m args below meth c s₁ B hml hv
  obtain ⟨rfl, hP, hK⟩ := hv
  have hx := B.exec
  have hb := B.bytes
  have hr := B.returns
  have hts := atoms_spec (ws := (ws_ yX0_next cX0_next 3 (some .int))) B.pre
  have hts : ∀ w ∈ lw_all, w.before _ s = true := fun w h => hts w (List.mem_cons_of_mem _ h)
  have hown : s.vm.findClass RX0 = some m.cls := findClass_of_methodNamed B.named
  have hlocks := B.notSynchronized
  have S : CallFix p m c cX0_next 3 s _ lw_all RX0 := ⟨hx, hb, hml, hown, hts⟩
  have hl := lv_entry ([.ref h, .int k]) (n := 3) (Nat.le_of_ble_eq_true rfl)
  rw [lg_entry_eq]
  generalize (lg_sl ([.ref h, .int k]) ++ List.replicate (3 - (lg_sl ([.ref h, .int k])).length) Slot.unset).toArray = ls at hl ⊢
  have hl : lv_has ls 3 [(0, .ref h), (1, .int k)] := hl
  have loop : ∀ (f i : Nat) (ls : Array Slot), i ≤ 16 → 17 ≤ i + f → (∀ z, z < i → k ≤ nI z → cu z = none) → (∀ z, i ≤ z → z < 16 → k ≤ nI z) → lv_has ls 3 [(0, .ref h), (1, .int k), (2, .int (nI i))] → W p l e (headSpec (ws_ yX0_next cX0_next 3 (some .int)) (ls_rm 2 42)).room s m ([.ref h, .int k] : List Value).toArray below meth c s.heap [] 0 0 (MQ below (vp_Si (fun r => ls_nx cu k r)) ([.ref h, .int k] : List Value).toArray s 0 0 (fun _ => False)) (F0 m 10 ls []) := by
    intro f
    induction f with
    | zero => intro i ls h1 h2; omega
    | succ f ih =>
      intro i ls h1 h2 hv hw hl
      refine lv_iload_n hx hb dX0_next_10 rfl (lv_at hl 2 rfl) ?_
      refine lv_bipush (v := nI 16) hx hb dX0_next_11 (by decide) ?_
      refine ls_ige (tgt := 32) hx hb (by omega) (by omega) dX0_next_13 (by decide) (fun c1 => ?_) (fun c1 => ?_)
      · skip
        refine lv_iconst (v := (-1)) hx hb dX0_next_32 (by decide) ?_
        exact W.iret (v := (-1)) hx hb hr (fun t ht hW => ⟨_, rfl, Or.inl ⟨rfl, fun z hz hk => hv z (by omega) hk⟩, ht⟩) (fun q hq => by cases hq) dX0_next_33
      · skip
        refine lv_aload_n hx hb dX0_next_16 rfl (lv_at hl 0 rfl) ?_
        refine lv_iload_n hx hb dX0_next_17 rfl (lv_at hl 2 rfl) ?_
        refine ls_c_has S hK hP hl.1 ⟨Nat.le_of_ble_eq_true rfl, Nat.le_of_ble_eq_true rfl⟩ ⟨Nat.zero_le _, Nat.zero_le _⟩ (Nat.le_of_ble_eq_true rfl) dX0_next_18 hQ (fun r9 hr9 => ?_)
        subst hr9
        refine lv_if_eq (tgt := 26) hx hb dX0_next_21 (by decide) (fun c2 => ?_) (fun c2 => ?_)
        · skip
          refine lv_iinc (v := nI (i + 1)) (lv' := [(2, .int (nI (i + 1))), (0, .ref h), (1, .int k)]) hx hb dX0_next_26 hl (k := 2) rfl (ls_inc i) (by decide) rfl (fun ls hl => ?_)
          refine lv_goto (tgt := 10) hx hb dX0_next_29 (by decide) ?_
          refine ih (i + 1) ls (by omega) (by omega) (fun z hz hk => ?_) (fun z hz hz2 => hw z (by omega) hz2) (lv_sub hl [1, 2, 0] rfl)
          by_cases e0 : z = i
          · rw [e0]; exact ls_has_no c1 c2
          · exact hv z (by omega) hk
        · skip
          refine lv_iload_n hx hb dX0_next_24 rfl (lv_at hl 2 rfl) ?_
          exact W.iret (v := nI i) hx hb hr (fun t ht hW => ⟨_, rfl, Or.inr ⟨i, c1, rfl, hw i (Nat.le_refl i) c1, fun z => c2 (by rw [ls_has_j c1, z]; rfl), hv⟩, ht⟩) (fun q hq => by cases hq) dX0_next_25
  refine lv_iload_n hx hb dX0_next_0 rfl (lv_at hl 1 rfl) ?_
  refine lv_if_ge (tgt := 8) hx hb dX0_next_1 (by decide) (fun c1 => ?_) (fun c1 => ?_)
  · rcases pk_ix k (n := 16) (by omega) with h0 | h0 | ⟨j, hj, rfl⟩
    · exact absurd h0 (Int32.not_lt.mpr c1)
    · skip
      refine lv_iload_n hx hb dX0_next_8 rfl (lv_at hl 1 rfl) ?_
      refine lv_istore_n (lv' := [(2, .int k), (0, .ref h), (1, .int k)]) hx hb dX0_next_9 rfl hl (by decide) rfl (fun ls hl => ?_)
      refine lv_iload_n hx hb dX0_next_10 rfl (lv_at hl 0 rfl) ?_
      refine lv_bipush (v := nI 16) hx hb dX0_next_11 (by decide) ?_
      refine lv_icmp_ge (tgt := 32) hx hb dX0_next_13 (by decide) (fun c2 => ?_) (fun c2 => ?_)
      · skip
        refine lv_iconst (v := (-1)) hx hb dX0_next_32 (by decide) ?_
        exact W.iret (v := (-1)) hx hb hr (fun t ht hW => ⟨_, rfl, Or.inl ⟨rfl, fun z hz hk => absurd (Int32.le_trans h0 hk) (nI_ge hz (by omega))⟩, ht⟩) (fun q hq => by cases hq) dX0_next_33
      · exact absurd h0 c2
    · skip
      refine lv_iload_n hx hb dX0_next_8 rfl (lv_at hl 1 rfl) ?_
      refine lv_istore_n (lv' := [(2, .int (nI j)), (0, .ref h), (1, .int (nI j))]) hx hb dX0_next_9 rfl hl (by decide) rfl (fun ls hl => ?_)
      exact loop 17 j ls (by omega) (by omega) (fun z hz hk => absurd hk (nI_ge hz (by omega))) (fun z hz hz2 => nI_le hz (by omega)) (lv_sub hl [1, 2, 0] rfl)
  · skip
    refine lv_iconst (v := nI 0) hx hb dX0_next_4 (by decide) ?_
    refine lv_goto (tgt := 9) hx hb dX0_next_5 (by decide) ?_
    refine lv_istore_n (lv' := [(2, .int (nI 0)), (0, .ref h), (1, .int k)]) hx hb dX0_next_9 rfl hl (by decide) rfl (fun ls hl => ?_)
    exact loop 17 0 ls (by omega) (by omega) (fun z hz => by omega) (fun z _ hz2 => Int32.le_trans (Int32.le_of_lt (Int32.not_le.mp c1)) (nI_pos' (by omega))) (lv_sub hl [1, 2, 0] rfl)
set_option maxHeartbeats 4000000 in
set_option maxRecDepth 100000 in
/-- count() -/
theorem mt_count {l : Launch} {dC : Nat → ClassId} {dI : Nat → Nat → Nat} {h : Nat} {a : Nat → Nat} {dB dZ dN : ClassId} {K X V E : Nat → Int32} {en se op os oc : Int32} {la ks kl ko nk nr nv ne : Nat → Int32} {cu ba sa : Nat → Option Int32} {o : Bool} {ch : Int32} (hQ : ls_R 96 K X V E la en se op os oc cu ba sa o ch) : Met l yX0_count (ws_ yX0_count cX0_count 3 (some .int)) (ls_rm 2 42) (va_Pc [.ref h] (fun U => va_P (dC, dI) ls_C (ls_W h a dB dZ dN K X V E en se op os oc la ks kl ko nk nr nv ne) U.heap ∧ va_K (dC, dI) ls_C (ls_T dB dZ dN) U)) (vp_Si (fun r => r = nI (ls_ct cu 16))) 0 0 (fun _ => False) := by
  refine Met.ofW (cc := cX0_count) (maxL := 3) (ret := (some .int)) (by decide) rfl ?_
  intro p e s m args below meth c s₁ B hml hv
  obtain ⟨rfl, hP, hK⟩ := hv
  have hx := B.exec
  have hb := B.bytes
  have hr := B.returns
  have hts := atoms_spec (ws := (ws_ yX0_count cX0_count 3 (some .int))) B.pre
  have hts : ∀ w ∈ lw_all, w.before _ s = true := fun w h => hts w (List.mem_cons_of_mem _ h)
  have hown : s.vm.findClass RX0 = some m.cls := findClass_of_methodNamed B.named
  have hlocks := B.notSynchronized
  have S : CallFix p m c cX0_count 3 s _ lw_all RX0 := ⟨hx, hb, hml, hown, hts⟩
  have hl := lv_entry ([.ref h]) (n := 3) (Nat.le_of_ble_eq_true rfl)
  rw [lg_entry_eq]
  generalize (lg_sl ([.ref h]) ++ List.replicate (3 - (lg_sl ([.ref h])).length) Slot.unset).toArray = ls at hl ⊢
  have hl : lv_has ls 3 [(0, .ref h)] := hl
  have loop : ∀ (f i : Nat) (ls : Array Slot), i ≤ 16 → 17 ≤ i + f → lv_has ls 3 [(0, .ref h), (1, .int (nI (ls_ct cu i))), (2, .int (nI i))] → W p l e (headSpec (ws_ yX0_count cX0_count 3 (some .int)) (ls_rm 2 42)).room s m ([.ref h] : List Value).toArray below meth c s.heap [] 0 0 (MQ below (vp_Si (fun r => r = nI (ls_ct cu 16))) ([.ref h] : List Value).toArray s 0 0 (fun _ => False)) (F0 m 4 ls []) := by
    intro f
    induction f with
    | zero => intro i ls h1 h2; omega
    | succ f ih =>
      intro i ls h1 h2 hl
      refine lv_iload_n hx hb dX0_count_4 rfl (lv_at hl 2 rfl) ?_
      refine lv_bipush (v := nI 16) hx hb dX0_count_5 (by decide) ?_
      refine ls_ige (tgt := 32) hx hb (by omega) (by omega) dX0_count_7 (by decide) (fun c1 => ?_) (fun c1 => ?_)
      · skip
        refine lv_iload_n hx hb dX0_count_32 rfl (lv_at hl 1 rfl) ?_
        exact W.iret (v := nI (ls_ct cu i)) hx hb hr (fun t ht hW => ⟨_, rfl, by rw [show i = 16 by omega], ht⟩) (fun q hq => by cases hq) dX0_count_33
      · skip
        refine lv_iload_n hx hb dX0_count_10 rfl (lv_at hl 1 rfl) ?_
        refine lv_aload_n hx hb dX0_count_11 rfl (lv_at hl 0 rfl) ?_
        refine lv_iload_n hx hb dX0_count_12 rfl (lv_at hl 2 rfl) ?_
        refine ls_c_has S hK hP hl.1 ⟨Nat.le_of_ble_eq_true rfl, Nat.le_of_ble_eq_true rfl⟩ ⟨Nat.zero_le _, Nat.zero_le _⟩ (Nat.le_of_ble_eq_true rfl) dX0_count_13 hQ (fun r9 hr9 => ?_)
        subst hr9
        refine lv_if_eq (tgt := 23) hx hb dX0_count_16 (by decide) (fun c2 => ?_) (fun c2 => ?_)
        · skip
          refine lv_iconst (v := 0) hx hb dX0_count_23 (by decide) ?_
          refine lv_iadd hx hb dX0_count_24 ?_
          rw [show ((nI (ls_ct cu i)) + 0 : Int32) = nI (ls_ct cu (i + 1)) from by rw [ls_ct_s, ls_has_no c1 c2]; exact Int32.add_zero _]
          refine lv_istore_n (lv' := [(1, .int (nI (ls_ct cu (i + 1)))), (0, .ref h), (2, .int (nI i))]) hx hb dX0_count_25 rfl hl (by decide) rfl (fun ls hl => ?_)
          refine lv_iinc (v := nI (i + 1)) (lv' := [(2, .int (nI (i + 1))), (1, .int (nI (ls_ct cu (i + 1)))), (0, .ref h)]) hx hb dX0_count_26 hl (k := 2) rfl (ls_inc i) (by decide) rfl (fun ls hl => ?_)
          refine lv_goto (tgt := 4) hx hb dX0_count_29 (by decide) ?_
          exact ih (i + 1) ls (by omega) (by omega) (lv_sub hl [2, 1, 0] rfl)
        · skip
          obtain ⟨j, v, hj, e0, hv, -⟩ := ls_has_ne c2
          obtain rfl : i = j := (nI_eq (by omega) (by omega)).mp e0
          refine lv_iconst (v := 1) hx hb dX0_count_19 (by decide) ?_
          refine lv_goto (tgt := 24) hx hb dX0_count_20 (by decide) ?_
          refine lv_iadd hx hb dX0_count_24 ?_
          rw [show ((nI (ls_ct cu i)) + 1 : Int32) = nI (ls_ct cu (i + 1)) from by rw [ls_ct_s, hv]; exact nI_1 _]
          refine lv_istore_n (lv' := [(1, .int (nI (ls_ct cu (i + 1)))), (0, .ref h), (2, .int (nI i))]) hx hb dX0_count_25 rfl hl (by decide) rfl (fun ls hl => ?_)
          refine lv_iinc (v := nI (i + 1)) (lv' := [(2, .int (nI (i + 1))), (1, .int (nI (ls_ct cu (i + 1)))), (0, .ref h)]) hx hb dX0_count_26 hl (k := 2) rfl (ls_inc i) (by decide) rfl (fun ls hl => ?_)
          refine lv_goto (tgt := 4) hx hb dX0_count_29 (by decide) ?_
          exact ih (i + 1) ls (by omega) (by omega) (lv_sub hl [2, 1, 0] rfl)
  refine lv_iconst (v := nI (ls_ct cu 0)) hx hb dX0_count_0 rfl ?_
  refine lv_istore_n (lv' := [(1, .int (nI (ls_ct cu 0))), (0, .ref h)]) hx hb dX0_count_1 rfl hl (by decide) rfl (fun ls hl => ?_)
  refine lv_iconst (v := nI 0) hx hb dX0_count_2 (by decide) ?_
  refine lv_istore_n (lv' := [(2, .int (nI 0)), (1, .int (nI (ls_ct cu 0))), (0, .ref h)]) hx hb dX0_count_3 rfl hl (by decide) rfl (fun ls hl => ?_)
  exact loop 17 0 ls (by omega) (by omega) (lv_sub hl [2, 1, 0] rfl)
set_option maxHeartbeats 4000000 in
set_option maxRecDepth 100000 in
/-- safeKeys() -/
theorem mt_safeKeys {l : Launch} {dC : Nat → ClassId} {dI : Nat → Nat → Nat} {h : Nat} {a : Nat → Nat} {dB dZ dN : ClassId} {K X V E : Nat → Int32} {en se op os oc : Int32} {la ks kl ko nk nr nv ne : Nat → Int32} {cu ba sa : Nat → Option Int32} {o : Bool} {ch : Int32} (hQ : ls_R 96 K X V E la en se op os oc cu ba sa o ch) : Met l yX0_safeKeys (ws_ yX0_safeKeys cX0_safeKeys 4 (some .int)) (ls_rm 1 24) (va_Pc [.ref h] (fun U => va_P (dC, dI) ls_C (ls_W h a dB dZ dN K X V E en se op os oc la ks kl ko nk nr nv ne) U.heap ∧ va_K (dC, dI) ls_C (ls_T dB dZ dN) U)) (vp_Si (fun r => ls_mk (fun j => (sa j).isSome) r)) 0 0 (fun _ => False) := by
  refine Met.ofW (cc := cX0_safeKeys) (maxL := 4) (ret := (some .int)) (by decide) rfl ?_
  intro p e s m args below meth c s₁ B hml hv
  obtain ⟨rfl, hP, hK⟩ := hv
  have hx := B.exec
  have hb := B.bytes
  have hr := B.returns
  have hts := atoms_spec (ws := (ws_ yX0_safeKeys cX0_safeKeys 4 (some .int))) B.pre
  have hts : ∀ w ∈ lw_all, w.before _ s = true := fun w h => hts w (List.mem_cons_of_mem _ h)
  have hown : s.vm.findClass RX0 = some m.cls := findClass_of_methodNamed B.named
  have hlocks := B.notSynchronized
  have S : CallFix p m c cX0_safeKeys 4 s _ lw_all RX0 := ⟨hx, hb, hml, hown, hts⟩
  have hl := lv_entry ([.ref h]) (n := 4) (Nat.le_of_ble_eq_true rfl)
  rw [lg_entry_eq]
  generalize (lg_sl ([.ref h]) ++ List.replicate (4 - (lg_sl ([.ref h])).length) Slot.unset).toArray = ls at hl ⊢
  have hl : lv_has ls 4 [(0, .ref h)] := hl
  obtain ⟨hoc, n, q, c0, rfl, rfl, hQ⟩ := hQ
  obtain ⟨hn, hq, hc, ho1, ho0, hok, hcu, hba, hsa⟩ := id hQ
  have loop : ∀ (f i : Nat) (r0 : Int32) (ls : Array Slot), i ≤ 16 → 17 ≤ i + f → ls_mi (fun j => (sa j).isSome) i r0 → lv_has ls 4 [(0, .ref h), (1, .int r0), (2, .int (nI i))] → W p l e (headSpec (ws_ yX0_safeKeys cX0_safeKeys 4 (some .int)) (ls_rm 1 24)).room s m ([.ref h] : List Value).toArray below meth c s.heap [] 0 0 (MQ below (vp_Si (fun r => ls_mk (fun j => (sa j).isSome) r)) ([.ref h] : List Value).toArray s 0 0 (fun _ => False)) (F0 m 4 ls []) := by
    intro f
    induction f with
    | zero => intro i r0 ls h1 h2; omega
    | succ f ih =>
      intro i r0 ls h1 h2 hm hl
      refine lv_iload_n hx hb dX0_safeKeys_4 rfl (lv_at hl 2 rfl) ?_
      refine lv_bipush (v := nI 16) hx hb dX0_safeKeys_5 (by decide) ?_
      refine ls_ige (tgt := 44) hx hb (by omega) (by omega) dX0_safeKeys_7 (by decide) (fun c1 => ?_) (fun c1 => ?_)
      · skip
        refine lv_iload_n hx hb dX0_safeKeys_44 rfl (lv_at hl 1 rfl) ?_
        exact W.iret (v := r0) hx hb hr (fun t ht hW => ⟨_, rfl, by rw [show i = 16 by omega] at hm; exact ls_mi_mk hm, ht⟩) (fun q hq => by cases hq) dX0_safeKeys_45
      · skip
        refine lv_aload_n hx hb dX0_safeKeys_10 rfl (lv_at hl 0 rfl) ?_
        refine lv_iload_n hx hb dX0_safeKeys_11 rfl (lv_at hl 2 rfl) ?_
        refine lv_aload_n hx hb dX0_safeKeys_12 rfl (lv_at hl 0 rfl) ?_
        refine ls_g5 S hK hP dX0_safeKeys_13 ?_
        refine ls_c_before S hK hP hl.1 ⟨Nat.le_of_ble_eq_true rfl, Nat.le_of_ble_eq_true rfl⟩ ⟨Nat.zero_le _, Nat.zero_le _⟩ (Nat.le_of_ble_eq_true rfl) dX0_safeKeys_16 hn (by omega) c1 (hok.2.2.2 i c1) hok.2.2.1 (fun r9 hr9 => ?_)
        subst hr9
        refine lv_istore_n (lv' := [(3, .int (ls_i (ls_at K (nI i) q))), (0, .ref h), (1, .int r0), (2, .int (nI i))]) hx hb dX0_safeKeys_19 rfl hl (by decide) rfl (fun ls hl => ?_)
        refine lv_iload_n hx hb dX0_safeKeys_20 rfl (lv_at hl 2 rfl) ?_
        refine lv_aload_n hx hb dX0_safeKeys_21 rfl (lv_at hl 1 rfl) ?_
        refine lv_iload_n hx hb dX0_safeKeys_22 rfl (lv_at hl 0 rfl) ?_
        refine ls_c_holds S hK hP hl.1 ⟨Nat.le_of_ble_eq_true rfl, Nat.le_of_ble_eq_true rfl⟩ ⟨Nat.zero_le _, Nat.zero_le _⟩ (Nat.le_of_ble_eq_true rfl) dX0_safeKeys_23 (fun i hi => by have := (ls_at_lt hi).1; omega) (fun r9 hr9 => ?_)
        subst hr9
        refine lv_if_eq (tgt := 35) hx hb dX0_safeKeys_26 (by decide) (fun c2 => ?_) (fun c2 => ?_)
        · skip
          refine lv_iconst (v := 0) hx hb dX0_safeKeys_35 (by decide) ?_
          refine lv_ior hx hb dX0_safeKeys_36 ?_
          rw [show (r0 ||| 0 : Int32) = r0 from ls_or0 r0]
          refine lv_istore_n (lv' := [(1, .int r0), (3, .int (ls_i (ls_at K (nI i) q))), (0, .ref h), (2, .int (nI i))]) hx hb dX0_safeKeys_37 rfl hl (by decide) rfl (fun ls hl => ?_)
          refine lv_iinc (v := nI (i + 1)) (lv' := [(2, .int (nI (i + 1))), (1, .int r0), (3, .int (ls_i (ls_at K (nI i) q))), (0, .ref h)]) hx hb dX0_safeKeys_38 hl (k := 3) rfl (ls_inc i) (by decide) rfl (fun ls hl => ?_)
          refine lv_goto (tgt := 4) hx hb dX0_safeKeys_41 (by decide) ?_
          refine ih (i + 1) r0 ls (by omega) (by omega) (ls_mi_f hm ?_) (lv_sub hl [3, 1, 0] rfl)
          show (sa i).isSome = false
          rw [← hsa i c1, ls_hd_0 c2]
          rfl
        · skip
          refine lv_iconst (v := 1) hx hb dX0_safeKeys_29 (by decide) ?_
          refine lv_iload_n hx hb dX0_safeKeys_30 rfl (lv_at hl 3 rfl) ?_
          refine lv_ishl hx hb dX0_safeKeys_31 ?_
          refine lv_goto (tgt := 36) hx hb dX0_safeKeys_32 (by decide) ?_
          refine lv_ior hx hb dX0_safeKeys_36 ?_
          refine lv_istore_n (lv' := [(1, .int (r0 ||| (1 <<< ((nI i) &&& 31)))), (3, .int (ls_i (ls_at K (nI i) q))), (0, .ref h), (2, .int (nI i))]) hx hb dX0_safeKeys_37 rfl hl (by decide) rfl (fun ls hl => ?_)
          refine lv_iinc (v := nI (i + 1)) (lv' := [(2, .int (nI (i + 1))), (1, .int (r0 ||| (1 <<< ((nI i) &&& 31)))), (3, .int (ls_i (ls_at K (nI i) q))), (0, .ref h)]) hx hb dX0_safeKeys_38 hl (k := 3) rfl (ls_inc i) (by decide) rfl (fun ls hl => ?_)
          refine lv_goto (tgt := 4) hx hb dX0_safeKeys_41 (by decide) ?_
          refine ih (i + 1) _ ls (by omega) (by omega) (ls_mi_t hm c1 ?_) (lv_sub hl [3, 1, 0] rfl)
          show (sa i).isSome = true
          obtain ⟨r, hat, hxr⟩ := ls_hd_1 c2
          rw [← hsa i c1, ls_pv_hd1 hat hxr]
          rfl
  refine lv_iconst (v := 0) hx hb dX0_safeKeys_0 (by decide) ?_
  refine lv_istore_n (lv' := [(1, .int 0), (0, .ref h)]) hx hb dX0_safeKeys_1 rfl hl (by decide) rfl (fun ls hl => ?_)
  refine lv_iconst (v := nI 0) hx hb dX0_safeKeys_2 (by decide) ?_
  refine lv_istore_n (lv' := [(2, .int (nI 0)), (1, .int 0), (0, .ref h)]) hx hb dX0_safeKeys_3 rfl hl (by decide) rfl (fun ls hl => ?_)
  exact loop 17 0 0 ls (by omega) (by omega) ls_mi_0 (lv_sub hl [2, 1, 0] rfl)
set_option maxHeartbeats 4000000 in
set_option maxRecDepth 100000 in
/-- safeValue(k) -/
theorem mt_safeValue {l : Launch} {dC : Nat → ClassId} {dI : Nat → Nat → Nat} {h : Nat} {a : Nat → Nat} {dB dZ dN : ClassId} {K X V E : Nat → Int32} {en se op os oc : Int32} {la ks kl ko nk nr nv ne : Nat → Int32} {cu ba sa : Nat → Option Int32} {o : Bool} {ch : Int32} (hQ : ls_R 96 K X V E la en se op os oc cu ba sa o ch) {k : Int32} : Met l yX0_safeValue (ws_ yX0_safeValue cX0_safeValue 3 (some .int)) (ls_rm 1 24) (va_Pc [.ref h, .int k] (fun U => va_P (dC, dI) ls_C (ls_W h a dB dZ dN K X V E en se op os oc la ks kl ko nk nr nv ne) U.heap ∧ va_K (dC, dI) ls_C (ls_T dB dZ dN) U)) (vp_Si (fun r => r = ls_get sa k)) 0 0 (fun _ => False) := by
  refine Met.ofW (cc := cX0_safeValue) (maxL := 3) (ret := (some .int)) (by decide) rfl ?_
  intro p e s m args below meth c s₁ B hml hv
  obtain ⟨rfl, hP, hK⟩ := hv
  have hx := B.exec
  have hb := B.bytes
  have hr := B.returns
  have hts := atoms_spec (ws := (ws_ yX0_safeValue cX0_safeValue 3 (some .int))) B.pre
  have hts : ∀ w ∈ lw_all, w.before _ s = true := fun w h => hts w (List.mem_cons_of_mem _ h)
  have hown : s.vm.findClass RX0 = some m.cls := findClass_of_methodNamed B.named
  have hlocks := B.notSynchronized
  have S : CallFix p m c cX0_safeValue 3 s _ lw_all RX0 := ⟨hx, hb, hml, hown, hts⟩
  have hl := lv_entry ([.ref h, .int k]) (n := 3) (Nat.le_of_ble_eq_true rfl)
  rw [lg_entry_eq]
  generalize (lg_sl ([.ref h, .int k]) ++ List.replicate (3 - (lg_sl ([.ref h, .int k])).length) Slot.unset).toArray = ls at hl ⊢
  have hl : lv_has ls 3 [(0, .ref h), (1, .int k)] := hl
  obtain ⟨hoc, n, q, c0, rfl, rfl, hQ⟩ := hQ
  obtain ⟨hn, hq, hc, ho1, ho0, hok, hcu, hba, hsa⟩ := id hQ
  refine lv_iload_n hx hb dX0_safeValue_0 rfl (lv_at hl 1 rfl) ?_
  refine ls_c_isKey S hl.1 ⟨Nat.le_of_ble_eq_true rfl, Nat.le_of_ble_eq_true rfl⟩ ⟨Nat.zero_le _, Nat.zero_le _⟩ (Nat.le_of_ble_eq_true rfl) dX0_safeValue_1 (fun r9 hr9 => ?_)
  subst hr9
  rcases ls_kb_c k with ⟨h0, -⟩ | ⟨j, hj, rfl, h1⟩
  · skip
    refine lv_if_ne (tgt := 9) hx hb dX0_safeValue_4 (by decide) (fun c1 => ?_) (fun c1 => ?_)
    · exact absurd h0 c1
    · skip
      refine lv_iconst (v := 0) hx hb dX0_safeValue_7 (by decide) ?_
      exact W.iret (v := 0) hx hb hr (fun t ht hW => ⟨_, rfl, (ls_get_k h0).symm, ht⟩) (fun q hq => by cases hq) dX0_safeValue_8
  · skip
    refine lv_if_ne (tgt := 9) hx hb dX0_safeValue_4 (by decide) (fun c1 => ?_) (fun c1 => ?_)
    · skip
      refine lv_aload_n hx hb dX0_safeValue_9 rfl (lv_at hl 0 rfl) ?_
      refine lv_iload_n hx hb dX0_safeValue_10 rfl (lv_at hl 1 rfl) ?_
      refine lv_aload_n hx hb dX0_safeValue_11 rfl (lv_at hl 0 rfl) ?_
      refine ls_g5 S hK hP dX0_safeValue_12 ?_
      refine ls_c_before S hK hP hl.1 ⟨Nat.le_of_ble_eq_true rfl, Nat.le_of_ble_eq_true rfl⟩ ⟨Nat.zero_le _, Nat.zero_le _⟩ (Nat.le_of_ble_eq_true rfl) dX0_safeValue_15 hn (by omega) hj (hok.2.2.2 j hj) hok.2.2.1 (fun r9 hr9 => ?_)
      subst hr9
      refine lv_istore_n (lv' := [(2, .int (ls_i (ls_at K (nI j) q))), (0, .ref h), (1, .int (nI j))]) hx hb dX0_safeValue_18 rfl hl (by decide) rfl (fun ls hl => ?_)
      refine lv_aload_n hx hb dX0_safeValue_19 rfl (lv_at hl 1 rfl) ?_
      refine lv_iload_n hx hb dX0_safeValue_20 rfl (lv_at hl 0 rfl) ?_
      refine ls_c_holds S hK hP hl.1 ⟨Nat.le_of_ble_eq_true rfl, Nat.le_of_ble_eq_true rfl⟩ ⟨Nat.zero_le _, Nat.zero_le _⟩ (Nat.le_of_ble_eq_true rfl) dX0_safeValue_21 (fun i hi => by have := (ls_at_lt hi).1; omega) (fun r9 hr9 => ?_)
      subst hr9
      refine lv_if_eq (tgt := 36) hx hb dX0_safeValue_24 (by decide) (fun c2 => ?_) (fun c2 => ?_)
      · skip
        refine lv_iconst (v := 0) hx hb dX0_safeValue_36 (by decide) ?_
        exact W.iret (v := 0) hx hb hr (fun t ht hW => ⟨_, rfl, (ls_get_n hj (by rw [← hsa j hj]; exact ls_hd_0 c2)).symm, ht⟩) (fun q hq => by cases hq) dX0_safeValue_37
      · skip
        obtain ⟨r, hat, hxr⟩ := ls_hd_1 c2
        have hrq := (ls_at_lt hat).1
        refine lv_aload_n hx hb dX0_safeValue_27 rfl (lv_at hl 1 rfl) ?_
        refine ls_g2 S hK hP dX0_safeValue_28 ?_
        refine lv_iload_n hx hb dX0_safeValue_31 rfl (lv_at hl 0 rfl) ?_
        rw [show (ls_i (ls_at K (nI j) q) : Int32) = nI r from by rw [hat]; rfl]
        refine ls_l2 S hK hP (show r < 96 by omega) dX0_safeValue_32 ?_
        refine lv_goto (tgt := 37) hx hb dX0_safeValue_33 (by decide) ?_
        exact W.iret (v := V r) hx hb hr (fun t ht hW => ⟨_, rfl, (ls_get_1 hj (by rw [← hsa j hj]; exact ls_pv_hd1 hat hxr)).symm, ht⟩) (fun q hq => by cases hq) dX0_safeValue_37
    · exact absurd c1 (by rw [h1]; decide)
set_option maxHeartbeats 4000000 in
set_option maxRecDepth 100000 in
/-- differs(k) -/
theorem mt_differs {l : Launch} {dC : Nat → ClassId} {dI : Nat → Nat → Nat} {h : Nat} {a : Nat → Nat} {dB dZ dN : ClassId} {K X V E : Nat → Int32} {en se op os oc : Int32} {la ks kl ko nk nr nv ne : Nat → Int32} {cu ba sa : Nat → Option Int32} {o : Bool} {ch : Int32} (hQ : ls_R 96 K X V E la en se op os oc cu ba sa o ch) {j : Nat} (hj : j < 16) : Met l yX0_differs (ws_ yX0_differs cX0_differs 4 (some .boolean)) (ls_rm 1 24) (va_Pc [.ref h, .int (nI j)] (fun U => va_P (dC, dI) ls_C (ls_W h a dB dZ dN K X V E en se op os oc la ks kl ko nk nr nv ne) U.heap ∧ va_K (dC, dI) ls_C (ls_T dB dZ dN) U)) (vp_Si (fun r => r = ls_df cu sa j)) 0 0 (fun _ => False) := by
  refine Met.ofW (cc := cX0_differs) (maxL := 4) (ret := (some .boolean)) (by decide) rfl ?_
  intro p e s m args below meth c s₁ B hml hv
  obtain ⟨rfl, hP, hK⟩ := hv
  have hx := B.exec
  have hb := B.bytes
  have hr := B.returns
  have hts := atoms_spec (ws := (ws_ yX0_differs cX0_differs 4 (some .boolean))) B.pre
  have hts : ∀ w ∈ lw_all, w.before _ s = true := fun w h => hts w (List.mem_cons_of_mem _ h)
  have hown : s.vm.findClass RX0 = some m.cls := findClass_of_methodNamed B.named
  have hlocks := B.notSynchronized
  have S : CallFix p m c cX0_differs 4 s _ lw_all RX0 := ⟨hx, hb, hml, hown, hts⟩
  have hl := lv_entry ([.ref h, .int (nI j)]) (n := 4) (Nat.le_of_ble_eq_true rfl)
  rw [lg_entry_eq]
  generalize (lg_sl ([.ref h, .int (nI j)]) ++ List.replicate (4 - (lg_sl ([.ref h, .int (nI j)])).length) Slot.unset).toArray = ls at hl ⊢
  have hl : lv_has ls 4 [(0, .ref h), (1, .int (nI j))] := hl
  obtain ⟨hoc, n, q, c0, rfl, rfl, hQ⟩ := hQ
  obtain ⟨hn, hq, hc, ho1, ho0, hok, hcu, hba, hsa⟩ := id hQ
  refine lv_aload_n hx hb dX0_differs_0 rfl (lv_at hl 0 rfl) ?_
  refine lv_iload_n hx hb dX0_differs_1 rfl (lv_at hl 1 rfl) ?_
  refine lv_aload_n hx hb dX0_differs_2 rfl (lv_at hl 0 rfl) ?_
  refine ls_g5 S hK hP dX0_differs_3 ?_
  refine ls_c_before S hK hP hl.1 ⟨Nat.le_of_ble_eq_true rfl, Nat.le_of_ble_eq_true rfl⟩ ⟨Nat.zero_le _, Nat.zero_le _⟩ (Nat.le_of_ble_eq_true rfl) dX0_differs_6 hn (by omega) hj (hok.2.2.2 j hj) hok.2.2.1 (fun r9 hr9 => ?_)
  subst hr9
  refine lv_istore_n (lv' := [(2, .int (ls_i (ls_at K (nI j) q))), (0, .ref h), (1, .int (nI j))]) hx hb dX0_differs_9 rfl hl (by decide) rfl (fun ls hl => ?_)
  refine lv_aload_n hx hb dX0_differs_10 rfl (lv_at hl 1 rfl) ?_
  refine ls_g9 S hK hP dX0_differs_11 ?_
  refine lv_iload_n hx hb dX0_differs_14 rfl (lv_at hl 2 rfl) ?_
  refine ls_l4 S hK hP hj dX0_differs_15 ?_
  rw [show (la j : Int32) = ls_i (ls_at K (nI j) n) from hok.2.2.2 j hj]
  refine lv_istore_n (lv' := [(3, .int (ls_i (ls_at K (nI j) n))), (2, .int (ls_i (ls_at K (nI j) q))), (0, .ref h), (1, .int (nI j))]) hx hb dX0_differs_16 rfl hl (by decide) rfl (fun ls hl => ?_)
  refine lv_aload_n hx hb dX0_differs_17 rfl (lv_at hl 2 rfl) ?_
  refine lv_iload_n hx hb dX0_differs_18 rfl (lv_at hl 1 rfl) ?_
  refine ls_c_holds S hK hP hl.1 ⟨Nat.le_of_ble_eq_true rfl, Nat.le_of_ble_eq_true rfl⟩ ⟨Nat.zero_le _, Nat.zero_le _⟩ (Nat.le_of_ble_eq_true rfl) dX0_differs_19 (fun i hi => by have := (ls_at_lt hi).1; omega) (fun r9 hr9 => ?_)
  subst hr9
  refine lv_aload_n hx hb dX0_differs_22 rfl (lv_at hl 2 rfl) ?_
  refine lv_iload_n hx hb dX0_differs_23 rfl (lv_at hl 0 rfl) ?_
  refine ls_c_holds S hK hP hl.1 ⟨Nat.le_of_ble_eq_true rfl, Nat.le_of_ble_eq_true rfl⟩ ⟨Nat.zero_le _, Nat.zero_le _⟩ (Nat.le_of_ble_eq_true rfl) dX0_differs_24 (fun i hi => by have := (ls_at_lt hi).1; omega) (fun r9 hr9 => ?_)
  subst hr9
  have hcj := hcu j hj
  have hsj := hsa j hj
  refine lv_icmp_eq (tgt := 32) hx hb dX0_differs_27 (by decide) (fun c1 => ?_) (fun c1 => ?_)
  · skip
    refine lv_aload_n hx hb dX0_differs_32 rfl (lv_at hl 2 rfl) ?_
    refine lv_iload_n hx hb dX0_differs_33 rfl (lv_at hl 0 rfl) ?_
    refine ls_c_holds S hK hP hl.1 ⟨Nat.le_of_ble_eq_true rfl, Nat.le_of_ble_eq_true rfl⟩ ⟨Nat.zero_le _, Nat.zero_le _⟩ (Nat.le_of_ble_eq_true rfl) dX0_differs_34 (fun i hi => by have := (ls_at_lt hi).1; omega) (fun r9 hr9 => ?_)
    subst hr9
    refine lv_if_eq (tgt := 59) hx hb dX0_differs_37 (by decide) (fun c2 => ?_) (fun c2 => ?_)
    · skip
      refine lv_iconst (v := 0) hx hb dX0_differs_59 (by decide) ?_
      exact W.zret (v := 0) hx hb hr rfl (fun t ht hW => ⟨_, rfl, by unfold ls_df; rw [← hcj, ← hsj, ls_hd_0 c2, ls_hd_0 (c1.trans c2), if_pos rfl], ht⟩) (fun q hq => by cases hq) dX0_differs_60
    · skip
      obtain ⟨r, hat, hxr⟩ := ls_hd_1 c2
      obtain ⟨r', hat', hxr'⟩ := ls_hd_1 (fun z => c2 (c1.symm.trans z))
      have hr1 := (ls_at_lt hat).1
      have hr2 := (ls_at_lt hat').1
      rw [ls_pv_hd1 hat hxr] at hcj
      rw [ls_pv_hd1 hat' hxr'] at hsj
      refine lv_aload_n hx hb dX0_differs_40 rfl (lv_at hl 2 rfl) ?_
      refine ls_g2 S hK hP dX0_differs_41 ?_
      refine lv_iload_n hx hb dX0_differs_44 rfl (lv_at hl 0 rfl) ?_
      rw [show (ls_i (ls_at K (nI j) n) : Int32) = nI r from by rw [hat]; rfl]
      refine ls_l2 S hK hP (show r < 96 by omega) dX0_differs_45 ?_
      refine lv_aload_n hx hb dX0_differs_46 rfl (lv_at hl 2 rfl) ?_
      refine ls_g2 S hK hP dX0_differs_47 ?_
      refine lv_iload_n hx hb dX0_differs_50 rfl (lv_at hl 1 rfl) ?_
      rw [show (ls_i (ls_at K (nI j) q) : Int32) = nI r' from by rw [hat']; rfl]
      refine ls_l2 S hK hP (show r' < 96 by omega) dX0_differs_51 ?_
      refine lv_icmp_eq (tgt := 59) hx hb dX0_differs_52 (by decide) (fun c3 => ?_) (fun c3 => ?_)
      · skip
        refine lv_iconst (v := 0) hx hb dX0_differs_59 (by decide) ?_
        exact W.zret (v := 0) hx hb hr rfl (fun t ht hW => ⟨_, rfl, by unfold ls_df; rw [← hcj, ← hsj, c3, if_pos rfl], ht⟩) (fun q hq => by cases hq) dX0_differs_60
      · skip
        refine lv_iconst (v := 1) hx hb dX0_differs_55 (by decide) ?_
        refine lv_goto (tgt := 60) hx hb dX0_differs_56 (by decide) ?_
        exact W.zret (v := 1) hx hb hr rfl (fun t ht hW => ⟨_, rfl, by unfold ls_df; rw [← hcj, ← hsj, if_neg (fun z => c3 (Option.some.inj z))], ht⟩) (fun q hq => by cases hq) dX0_differs_60
  · skip
    refine lv_iconst (v := 1) hx hb dX0_differs_30 (by decide) ?_
    exact W.zret (v := 1) hx hb hr rfl (fun t ht hW => ⟨_, rfl, by unfold ls_df; rw [if_neg (fun z => c1 (by rw [ls_hd_pv (V := V), ls_hd_pv (V := V), hcj, hsj, z]))], ht⟩) (fun q hq => by cases hq) dX0_differs_31
section
variable {p : Program} {l : Launch} {e : Env} {R : Room} {s : State} {m : MethodId} {args : Array Value} {below : List Frame} {meth : Method} {c : Code} {H : Heap} {locs : List Loc} {cells slots : Nat} {Q : State → Prop}
variable {cc : ByteArray} {nL pc : Nat} {ls : Array Slot} {rest st0 : List Value} {dC : Nat → ClassId} {dI : Nat → Nat → Nat} {A : Nat → Prop} {H0 : Heap} {dB dZ dN : ClassId}
variable {h : Nat} {a : Nat → Nat}
variable {K X V E la ks kl ko nk nr nv ne : Nat → Int32} {en se op os oc : Int32}
theorem ls_c_differs (S : CallFix p m c cc nL s args lw_all RX0) (hK : va_K (dC, dI) ls_C (ls_T dB dZ dN) s) (hP : va_P (dC, dI) ls_C (ls_W h a dB dZ dN K X V E en se op os oc la ks kl ko nk nr nv ne) H) (hsz : ls.size = nL) (hR : 2 ≤ R.frames ∧ 47 ≤ R.locals) (hf : cells ≤ R.cells ∧ slots ≤ R.slots) (hrm : (rest.map fun v => v.category).sum ≤ 8) (hd : decode cc pc = .ok (.invokevirtual 93, 3)) {cu ba sa : Nat → Option Int32} {o : Bool} {ch : Int32} (hQ : ls_R 96 K X V E la en se op os oc cu ba sa o ch) {j : Nat} (hj : j < 16)
    (kk : ∀ r : Int32, r = ls_df cu sa j → W p l e R s m args below meth c H locs cells slots Q (F0 m (pc + 3) ls (.int r :: rest))) : W p l e R s m args below meth c H locs cells slots Q (F0 m pc ls (.int (nI j) :: .ref h :: rest)) :=
  ls_rV (ci := 0) S hK hP (mt_differs hQ hj) (cwV 1 S.2.2.2.2 (lw_V q165 q167 qs6 q12 q168) rfl rfl rfl (by decide +kernel) ⟨hR.1, hR.2⟩) rfl rfl rfl hsz rfl hrm hd hf kk
end
theorem ls_df_0 {cu sa : Nat → Option Int32} {i : Nat} (h : ls_df cu sa i = 0) : (fun j => decide (¬ cu j = sa j)) i = false := by
  unfold ls_df at h
  by_cases e : cu i = sa i
  · simp [e]
  · rw [if_neg e] at h; exact absurd h (by decide)
theorem ls_df_1 {cu sa : Nat → Option Int32} {i : Nat} (h : ¬ ls_df cu sa i = 0) : (fun j => decide (¬ cu j = sa j)) i = true := by
  unfold ls_df at h
  by_cases e : cu i = sa i
  · rw [if_pos e] at h; exact absurd rfl h
  · simp [e]
set_option maxHeartbeats 4000000 in
set_option maxRecDepth 100000 in
/-- the keys whose state is not the safe one -/
theorem mt_uns {l : Launch} {dC : Nat → ClassId} {dI : Nat → Nat → Nat} {h : Nat} {a : Nat → Nat} {dB dZ dN : ClassId} {K X V E : Nat → Int32} {en se op os oc : Int32} {la ks kl ko nk nr nv ne : Nat → Int32} {cu ba sa : Nat → Option Int32} {o : Bool} {ch : Int32} (hQ : ls_R 96 K X V E la en se op os oc cu ba sa o ch) : Met l yX0_unsafe (ws_ yX0_unsafe cX0_unsafe 3 (some .int)) (ls_rm 2 47) (va_Pc [.ref h] (fun U => va_P (dC, dI) ls_C (ls_W h a dB dZ dN K X V E en se op os oc la ks kl ko nk nr nv ne) U.heap ∧ va_K (dC, dI) ls_C (ls_T dB dZ dN) U)) (vp_Si (fun r => ls_mk (fun j => decide (¬ cu j = sa j)) r)) 0 0 (fun _ => False) := by
  refine Met.ofW (cc := cX0_unsafe) (maxL := 3) (ret := (some .int)) (by decide) rfl ?_
  intro p e s m args below meth c s₁ B hml hv
  obtain ⟨rfl, hP, hK⟩ := hv
  have hx := B.exec
  have hb := B.bytes
  have hr := B.returns
  have hts := atoms_spec (ws := (ws_ yX0_unsafe cX0_unsafe 3 (some .int))) B.pre
  have hts : ∀ w ∈ lw_all, w.before _ s = true := fun w h => hts w (List.mem_cons_of_mem _ h)
  have hown : s.vm.findClass RX0 = some m.cls := findClass_of_methodNamed B.named
  have hlocks := B.notSynchronized
  have S : CallFix p m c cX0_unsafe 3 s _ lw_all RX0 := ⟨hx, hb, hml, hown, hts⟩
  have hl := lv_entry ([.ref h]) (n := 3) (Nat.le_of_ble_eq_true rfl)
  rw [lg_entry_eq]
  generalize (lg_sl ([.ref h]) ++ List.replicate (3 - (lg_sl ([.ref h])).length) Slot.unset).toArray = ls at hl ⊢
  have hl : lv_has ls 3 [(0, .ref h)] := hl
  have loop : ∀ (f i : Nat) (r0 : Int32) (ls : Array Slot), i ≤ 16 → 17 ≤ i + f → ls_mi (fun j => decide (¬ cu j = sa j)) i r0 → lv_has ls 3 [(0, .ref h), (1, .int r0), (2, .int (nI i))] → W p l e (headSpec (ws_ yX0_unsafe cX0_unsafe 3 (some .int)) (ls_rm 2 47)).room s m ([.ref h] : List Value).toArray below meth c s.heap [] 0 0 (MQ below (vp_Si (fun r => ls_mk (fun j => decide (¬ cu j = sa j)) r)) ([.ref h] : List Value).toArray s 0 0 (fun _ => False)) (F0 m 4 ls []) := by
    intro f
    induction f with
    | zero => intro i r0 ls h1 h2; omega
    | succ f ih =>
      intro i r0 ls h1 h2 hm hl
      refine lv_iload_n hx hb dX0_unsafe_4 rfl (lv_at hl 2 rfl) ?_
      refine lv_bipush (v := nI 16) hx hb dX0_unsafe_5 (by decide) ?_
      refine ls_ige (tgt := 34) hx hb (by omega) (by omega) dX0_unsafe_7 (by decide) (fun c1 => ?_) (fun c1 => ?_)
      · skip
        refine lv_iload_n hx hb dX0_unsafe_34 rfl (lv_at hl 1 rfl) ?_
        exact W.iret (v := r0) hx hb hr (fun t ht hW => ⟨_, rfl, by rw [show i = 16 by omega] at hm; exact ls_mi_mk hm, ht⟩) (fun q hq => by cases hq) dX0_unsafe_35
      · skip
        refine lv_iload_n hx hb dX0_unsafe_10 rfl (lv_at hl 1 rfl) ?_
        refine lv_aload_n hx hb dX0_unsafe_11 rfl (lv_at hl 0 rfl) ?_
        refine lv_iload_n hx hb dX0_unsafe_12 rfl (lv_at hl 2 rfl) ?_
        refine ls_c_differs S hK hP hl.1 ⟨Nat.le_of_ble_eq_true rfl, Nat.le_of_ble_eq_true rfl⟩ ⟨Nat.zero_le _, Nat.zero_le _⟩ (Nat.le_of_ble_eq_true rfl) dX0_unsafe_13 hQ c1 (fun r9 hr9 => ?_)
        subst hr9
        refine lv_if_eq (tgt := 25) hx hb dX0_unsafe_16 (by decide) (fun c2 => ?_) (fun c2 => ?_)
        · skip
          refine lv_iconst (v := 0) hx hb dX0_unsafe_25 (by decide) ?_
          refine lv_ior hx hb dX0_unsafe_26 ?_
          rw [show (r0 ||| 0 : Int32) = r0 from ls_or0 r0]
          refine lv_istore_n (lv' := [(1, .int r0), (0, .ref h), (2, .int (nI i))]) hx hb dX0_unsafe_27 rfl hl (by decide) rfl (fun ls hl => ?_)
          refine lv_iinc (v := nI (i + 1)) (lv' := [(2, .int (nI (i + 1))), (1, .int r0), (0, .ref h)]) hx hb dX0_unsafe_28 hl (k := 2) rfl (ls_inc i) (by decide) rfl (fun ls hl => ?_)
          refine lv_goto (tgt := 4) hx hb dX0_unsafe_31 (by decide) ?_
          refine ih (i + 1) r0 ls (by omega) (by omega) (ls_mi_f hm (ls_df_0 c2)) (lv_sub hl [2, 1, 0] rfl)
        · skip
          refine lv_iconst (v := 1) hx hb dX0_unsafe_19 (by decide) ?_
          refine lv_iload_n hx hb dX0_unsafe_20 rfl (lv_at hl 2 rfl) ?_
          refine lv_ishl hx hb dX0_unsafe_21 ?_
          refine lv_goto (tgt := 26) hx hb dX0_unsafe_22 (by decide) ?_
          refine lv_ior hx hb dX0_unsafe_26 ?_
          refine lv_istore_n (lv' := [(1, .int (r0 ||| (1 <<< ((nI i) &&& 31)))), (0, .ref h), (2, .int (nI i))]) hx hb dX0_unsafe_27 rfl hl (by decide) rfl (fun ls hl => ?_)
          refine lv_iinc (v := nI (i + 1)) (lv' := [(2, .int (nI (i + 1))), (1, .int (r0 ||| (1 <<< ((nI i) &&& 31)))), (0, .ref h)]) hx hb dX0_unsafe_28 hl (k := 2) rfl (ls_inc i) (by decide) rfl (fun ls hl => ?_)
          refine lv_goto (tgt := 4) hx hb dX0_unsafe_31 (by decide) ?_
          refine ih (i + 1) _ ls (by omega) (by omega) (ls_mi_t hm c1 (ls_df_1 c2)) (lv_sub hl [2, 1, 0] rfl)
  refine lv_iconst (v := 0) hx hb dX0_unsafe_0 (by decide) ?_
  refine lv_istore_n (lv' := [(1, .int 0), (0, .ref h)]) hx hb dX0_unsafe_1 rfl hl (by decide) rfl (fun ls hl => ?_)
  refine lv_iconst (v := nI 0) hx hb dX0_unsafe_2 (by decide) ?_
  refine lv_istore_n (lv' := [(2, .int (nI 0)), (1, .int 0), (0, .ref h)]) hx hb dX0_unsafe_3 rfl hl (by decide) rfl (fun ls hl => ?_)
  exact loop 17 0 0 ls (by omega) (by omega) ls_mi_0 (lv_sub hl [2, 1, 0] rfl)
set_option maxHeartbeats 4000000 in
set_option maxRecDepth 100000 in
/-- pending() -/
theorem mt_pending {l : Launch} {dC : Nat → ClassId} {dI : Nat → Nat → Nat} {h : Nat} {a : Nat → Nat} {dB dZ dN : ClassId} {K X V E : Nat → Int32} {en se op os oc : Int32} {la ks kl ko nk nr nv ne : Nat → Int32} {cu ba sa : Nat → Option Int32} {o : Bool} {ch : Int32} (hQ : ls_R 96 K X V E la en se op os oc cu ba sa o ch) : Met l yX0_pending (ws_ yX0_pending cX0_pending 1 (some .int)) (ls_rm 0 0) (va_Pc [.ref h] (fun U => va_P (dC, dI) ls_C (ls_W h a dB dZ dN K X V E en se op os oc la ks kl ko nk nr nv ne) U.heap ∧ va_K (dC, dI) ls_C (ls_T dB dZ dN) U)) (vp_Si (fun r => r = ch)) 0 0 (fun _ => False) := by
  refine Met.ofW (cc := cX0_pending) (maxL := 1) (ret := (some .int)) (by decide) rfl ?_
  intro p e s m args below meth c s₁ B hml hv
  obtain ⟨rfl, hP, hK⟩ := hv
  have hx := B.exec
  have hb := B.bytes
  have hr := B.returns
  have hts := atoms_spec (ws := (ws_ yX0_pending cX0_pending 1 (some .int))) B.pre
  have hts : ∀ w ∈ lw_all, w.before _ s = true := fun w h => hts w (List.mem_cons_of_mem _ h)
  have hown : s.vm.findClass RX0 = some m.cls := findClass_of_methodNamed B.named
  have hlocks := B.notSynchronized
  have S : CallFix p m c cX0_pending 1 s _ lw_all RX0 := ⟨hx, hb, hml, hown, hts⟩
  have hl := lv_entry ([.ref h]) (n := 1) (Nat.le_of_ble_eq_true rfl)
  rw [lg_entry_eq]
  generalize (lg_sl ([.ref h]) ++ List.replicate (1 - (lg_sl ([.ref h])).length) Slot.unset).toArray = ls at hl ⊢
  have hl : lv_has ls 1 [(0, .ref h)] := hl
  refine lv_aload_n hx hb dX0_pending_0 rfl (lv_at hl 0 rfl) ?_
  refine ls_g8 S hK hP dX0_pending_1 ?_
  exact W.iret (v := oc) hx hb hr (fun t ht hW => ⟨_, rfl, hQ.1, ht⟩) (fun q hq => by cases hq) dX0_pending_4
end
section
set_option maxRecDepth 100000
set_option maxHeartbeats 4000000 in
set_option maxRecDepth 100000 in
/-- put(k, v) -/
theorem mt_put {l : Launch} {dC : Nat → ClassId} {dI : Nat → Nat → Nat} {h : Nat} {a : Nat → Nat} {dB dZ dN : ClassId} {K X V E : Nat → Int32} {en se op os oc : Int32} {la ks kl ko nk nr nv ne : Nat → Int32} {sz : Nat} {cu ba sa : Nat → Option Int32} {o : Bool} {ch : Int32} (hQ : ls_R 96 K X V E la en se op os oc cu ba sa o ch) {k v : Int32} : Met l yX0_put (ws_ yX0_put cX0_put 3 (some .boolean)) (ls_rm 3 70) (va_Pc [.ref h, .int k, .int v] (fun U => U.heap.size = sz ∧ va_P (dC, dI) ls_C (ls_W h a dB dZ dN K X V E en se op os oc la ks kl ko nk nr nv ne) U.heap ∧ va_K (dC, dI) ls_C (ls_T dB dZ dN) U ∧ va_D (fun _ => True) (ls_W h a dB dZ dN K X V E en se op os oc la ks kl ko nk nr nv ne))) (va_Qi (fun (r : Int32) (_ : Unit) => r = ls_kb k) (fun _ t => ls_B dC dI h a dB dZ dN (va_A (ls_W h a dB dZ dN K X V E en se op os oc la ks kl ko nk nr nv ne) sz) 96 (ls_cC (ls_kb k) cu k (some v)) (ls_cB (ls_kb k) o cu ba k (some v)) sa o (ls_cN (ls_kb k) o ch) t) (va_A (ls_W h a dB dZ dN K X V E en se op os oc la ks kl ko nk nr nv ne) sz)) 0 0 (va_A (ls_W h a dB dZ dN K X V E en se op os oc la ks kl ko nk nr nv ne) sz) := by
  refine Met.ofW (cc := cX0_put) (maxL := 3) (ret := (some .boolean)) (by decide) rfl ?_
  intro p e s m args below meth c s₁ B hml hv
  obtain ⟨rfl, hsz, hP, hK, hD0⟩ := hv
  have hx := B.exec
  have hb := B.bytes
  have hr := B.returns
  have hts := atoms_spec (ws := (ws_ yX0_put cX0_put 3 (some .boolean))) B.pre
  have hts : ∀ w ∈ lw_all, w.before _ s = true := fun w h => hts w (List.mem_cons_of_mem _ h)
  have hown : s.vm.findClass RX0 = some m.cls := findClass_of_methodNamed B.named
  have hlocks := B.notSynchronized
  have S : CallFix p m c cX0_put 3 s _ lw_all RX0 := ⟨hx, hb, hml, hown, hts⟩
  subst hsz
  have hD := hD0.self (sz := s.heap.size)
  generalize hAe : va_A (ls_W h a dB dZ dN K X V E en se op os oc la ks kl ko nk nr nv ne) s.heap.size = A at hD ⊢
  have hA : ∀ q : Nat, s.heap.size ≤ q → A q := fun q h => by rw [← hAe]; exact Or.inr h
  have hS : va_S A s.heap s.heap [] := va_S.rf
  have hl := lv_entry ([.ref h, .int k, .int v]) (n := 3) (Nat.le_of_ble_eq_true rfl)
  rw [lg_entry_eq]
  generalize (lg_sl ([.ref h, .int k, .int v]) ++ List.replicate (3 - (lg_sl ([.ref h, .int k, .int v])).length) Slot.unset).toArray = ls at hl ⊢
  have hl : lv_has ls 3 [(0, .ref h), (1, .int k), (2, .int v)] := hl
  refine lv_iload_n hx hb dX0_put_0 rfl (lv_at hl 1 rfl) ?_
  refine ls_c_isKey S hl.1 ⟨Nat.le_of_ble_eq_true rfl, Nat.le_of_ble_eq_true rfl⟩ ⟨Nat.zero_le _, Nat.zero_le _⟩ (Nat.le_of_ble_eq_true rfl) dX0_put_1 (fun r9 hr9 => ?_)
  subst hr9
  rcases ls_kb_c k with ⟨h0, -⟩ | ⟨j, hj, rfl, h1⟩
  · rw [ls_cC_0 h0, ls_cB_0 h0, ls_cN_0 h0]
    refine lv_if_ne (tgt := 9) hx hb dX0_put_4 (by decide) (fun c1 => ?_) (fun c1 => ?_)
    · exact absurd h0 c1
    · skip
      refine lv_iconst (v := 0) hx hb dX0_put_7 (by decide) ?_
      exact W.zret (v := 0) hx hb hr rfl (fun t ht hW => ⟨⟨0, (), rfl, h0.symm, _, _, _, _, _, _, _, _, _, _, _, _, _, _, _, _, _, by rw [ht]; exact hP, va_K.moved hW.alike hK, hD, hQ⟩, hS.F ht⟩) hS.2.2 dX0_put_8
  · have h2 : ¬ ls_kb (nI j) = 0 := by rw [h1]; decide
    rw [ls_cC_1 h2 hj, ls_cB_1 h2 hj, ls_cN_1 h2]
    refine lv_if_ne (tgt := 9) hx hb dX0_put_4 (by decide) (fun c1 => ?_) (fun c1 => ?_)
    · skip
      refine lv_aload_n hx hb dX0_put_9 rfl (lv_at hl 0 rfl) ?_
      refine lv_iload_n hx hb dX0_put_10 rfl (lv_at hl 1 rfl) ?_
      refine lv_iconst (v := 0) hx hb dX0_put_11 (by decide) ?_
      refine lv_iload_n hx hb dX0_put_12 rfl (lv_at hl 2 rfl) ?_
      refine ls_c_append S hK hP hD hS hA hl.1 ⟨Nat.le_of_ble_eq_true rfl, Nat.le_of_ble_eq_true rfl⟩ ⟨Nat.zero_le _, Nat.zero_le _⟩ (Nat.le_of_ble_eq_true rfl) dX0_put_13 hj (Or.inl rfl) hQ (fun K X V E en se op os oc la ks kl ko nk nr nv ne H locs hP hD hS hQ => ?_)
      refine lv_iconst (v := 1) hx hb dX0_put_16 (by decide) ?_
      exact W.zret (v := 1) hx hb hr rfl (fun t ht hW => ⟨⟨1, (), rfl, h1.symm, _, _, _, _, _, _, _, _, _, _, _, _, _, _, _, _, _, by rw [ht]; exact hP, va_K.moved hW.alike hK, hD, hQ⟩, hS.F ht⟩) hS.2.2 dX0_put_17
    · exact absurd c1 h2
set_option maxHeartbeats 4000000 in
set_option maxRecDepth 100000 in
/-- remove(k) -/
theorem mt_remove {l : Launch} {dC : Nat → ClassId} {dI : Nat → Nat → Nat} {h : Nat} {a : Nat → Nat} {dB dZ dN : ClassId} {K X V E : Nat → Int32} {en se op os oc : Int32} {la ks kl ko nk nr nv ne : Nat → Int32} {sz : Nat} {cu ba sa : Nat → Option Int32} {o : Bool} {ch : Int32} (hQ : ls_R 96 K X V E la en se op os oc cu ba sa o ch) {k : Int32} : Met l yX0_remove (ws_ yX0_remove cX0_remove 2 (some .boolean)) (ls_rm 3 70) (va_Pc [.ref h, .int k] (fun U => U.heap.size = sz ∧ va_P (dC, dI) ls_C (ls_W h a dB dZ dN K X V E en se op os oc la ks kl ko nk nr nv ne) U.heap ∧ va_K (dC, dI) ls_C (ls_T dB dZ dN) U ∧ va_D (fun _ => True) (ls_W h a dB dZ dN K X V E en se op os oc la ks kl ko nk nr nv ne))) (va_Qi (fun (r : Int32) (_ : Unit) => r = ls_has cu k) (fun _ t => ls_B dC dI h a dB dZ dN (va_A (ls_W h a dB dZ dN K X V E en se op os oc la ks kl ko nk nr nv ne) sz) 96 (ls_cC (ls_has cu k) cu k none) (ls_cB (ls_has cu k) o cu ba k none) sa o (ls_cN (ls_has cu k) o ch) t) (va_A (ls_W h a dB dZ dN K X V E en se op os oc la ks kl ko nk nr nv ne) sz)) 0 0 (va_A (ls_W h a dB dZ dN K X V E en se op os oc la ks kl ko nk nr nv ne) sz) := by
  refine Met.ofW (cc := cX0_remove) (maxL := 2) (ret := (some .boolean)) (by decide) rfl ?_
  intro p e s m args below meth c s₁ B hml hv
  obtain ⟨rfl, hsz, hP, hK, hD0⟩ := hv
  have hx := B.exec
  have hb := B.bytes
  have hr := B.returns
  have hts := atoms_spec (ws := (ws_ yX0_remove cX0_remove 2 (some .boolean))) B.pre
  have hts : ∀ w ∈ lw_all, w.before _ s = true := fun w h => hts w (List.mem_cons_of_mem _ h)
  have hown : s.vm.findClass RX0 = some m.cls := findClass_of_methodNamed B.named
  have hlocks := B.notSynchronized
  have S : CallFix p m c cX0_remove 2 s _ lw_all RX0 := ⟨hx, hb, hml, hown, hts⟩
  subst hsz
  have hD := hD0.self (sz := s.heap.size)
  generalize hAe : va_A (ls_W h a dB dZ dN K X V E en se op os oc la ks kl ko nk nr nv ne) s.heap.size = A at hD ⊢
  have hA : ∀ q : Nat, s.heap.size ≤ q → A q := fun q h => by rw [← hAe]; exact Or.inr h
  have hS : va_S A s.heap s.heap [] := va_S.rf
  have hl := lv_entry ([.ref h, .int k]) (n := 2) (Nat.le_of_ble_eq_true rfl)
  rw [lg_entry_eq]
  generalize (lg_sl ([.ref h, .int k]) ++ List.replicate (2 - (lg_sl ([.ref h, .int k])).length) Slot.unset).toArray = ls at hl ⊢
  have hl : lv_has ls 2 [(0, .ref h), (1, .int k)] := hl
  refine lv_aload_n hx hb dX0_remove_0 rfl (lv_at hl 0 rfl) ?_
  refine lv_iload_n hx hb dX0_remove_1 rfl (lv_at hl 1 rfl) ?_
  refine ls_c_has S hK hP hl.1 ⟨Nat.le_of_ble_eq_true rfl, Nat.le_of_ble_eq_true rfl⟩ ⟨Nat.zero_le _, Nat.zero_le _⟩ (Nat.le_of_ble_eq_true rfl) dX0_remove_2 hQ (fun r9 hr9 => ?_)
  subst hr9
  refine lv_if_ne (tgt := 10) hx hb dX0_remove_5 (by decide) (fun c1 => ?_) (fun c1 => ?_)
  · obtain ⟨j, v, hj, rfl, hv, h1⟩ := ls_has_ne c1
    rw [ls_cC_1 c1 hj, ls_cB_1 c1 hj, ls_cN_1 c1]
    refine lv_aload_n hx hb dX0_remove_10 rfl (lv_at hl 0 rfl) ?_
    refine lv_iload_n hx hb dX0_remove_11 rfl (lv_at hl 1 rfl) ?_
    refine lv_iconst (v := 1) hx hb dX0_remove_12 (by decide) ?_
    refine lv_iconst (v := 0) hx hb dX0_remove_13 (by decide) ?_
    refine ls_c_append S hK hP hD hS hA hl.1 ⟨Nat.le_of_ble_eq_true rfl, Nat.le_of_ble_eq_true rfl⟩ ⟨Nat.zero_le _, Nat.zero_le _⟩ (Nat.le_of_ble_eq_true rfl) dX0_remove_14 hj (Or.inr rfl) hQ (fun K X V E en se op os oc la ks kl ko nk nr nv ne H locs hP hD hS hQ => ?_)
    refine lv_iconst (v := 1) hx hb dX0_remove_17 (by decide) ?_
    exact W.zret (v := 1) hx hb hr rfl (fun t ht hW => ⟨⟨1, (), rfl, h1.symm, _, _, _, _, _, _, _, _, _, _, _, _, _, _, _, _, _, by rw [ht]; exact hP, va_K.moved hW.alike hK, hD, hQ⟩, hS.F ht⟩) hS.2.2 dX0_remove_18
  · rw [ls_cC_0 c1, ls_cB_0 c1, ls_cN_0 c1]
    refine lv_iconst (v := 0) hx hb dX0_remove_8 (by decide) ?_
    exact W.zret (v := 0) hx hb hr rfl (fun t ht hW => ⟨⟨0, (), rfl, c1.symm, _, _, _, _, _, _, _, _, _, _, _, _, _, _, _, _, _, by rw [ht]; exact hP, va_K.moved hW.alike hK, hD, hQ⟩, hS.F ht⟩) hS.2.2 dX0_remove_9
set_option maxHeartbeats 4000000 in
set_option maxRecDepth 100000 in
/-- clean() -/
theorem mt_clean {l : Launch} {dC : Nat → ClassId} {dI : Nat → Nat → Nat} {h : Nat} {a : Nat → Nat} {dB dZ dN : ClassId} {K X V E : Nat → Int32} {en se op os oc : Int32} {la ks kl ko nk nr nv ne : Nat → Int32} {sz : Nat} {cu ba sa : Nat → Option Int32} {o : Bool} {ch : Int32} (hQ : ls_R 96 K X V E la en se op os oc cu ba sa o ch) : Met l yX0_clean (ws_ yX0_clean cX0_clean 1 none) (ls_rm 2 47) (va_Pc [.ref h] (fun U => U.heap.size = sz ∧ va_P (dC, dI) ls_C (ls_W h a dB dZ dN K X V E en se op os oc la ks kl ko nk nr nv ne) U.heap ∧ va_K (dC, dI) ls_C (ls_T dB dZ dN) U ∧ va_D (fun _ => True) (ls_W h a dB dZ dN K X V E en se op os oc la ks kl ko nk nr nv ne))) (va_Qv (fun (_ : Unit) => True) (fun _ t => ls_B dC dI h a dB dZ dN (va_A (ls_W h a dB dZ dN K X V E en se op os oc la ks kl ko nk nr nv ne) sz) 96 cu ba sa o ch t) (va_A (ls_W h a dB dZ dN K X V E en se op os oc la ks kl ko nk nr nv ne) sz)) 0 0 (va_A (ls_W h a dB dZ dN K X V E en se op os oc la ks kl ko nk nr nv ne) sz) := by
  refine Met.ofW (cc := cX0_clean) (maxL := 1) (ret := none) (by decide) rfl ?_
  intro p e s m args below meth c s₁ B hml hv
  obtain ⟨rfl, hsz, hP, hK, hD0⟩ := hv
  have hx := B.exec
  have hb := B.bytes
  have hr := B.returns
  have hts := atoms_spec (ws := (ws_ yX0_clean cX0_clean 1 none)) B.pre
  have hts : ∀ w ∈ lw_all, w.before _ s = true := fun w h => hts w (List.mem_cons_of_mem _ h)
  have hown : s.vm.findClass RX0 = some m.cls := findClass_of_methodNamed B.named
  have hlocks := B.notSynchronized
  have S : CallFix p m c cX0_clean 1 s _ lw_all RX0 := ⟨hx, hb, hml, hown, hts⟩
  subst hsz
  have hD := hD0.self (sz := s.heap.size)
  generalize hAe : va_A (ls_W h a dB dZ dN K X V E en se op os oc la ks kl ko nk nr nv ne) s.heap.size = A at hD ⊢
  have hA : ∀ q : Nat, s.heap.size ≤ q → A q := fun q h => by rw [← hAe]; exact Or.inr h
  have hS : va_S A s.heap s.heap [] := va_S.rf
  have hl := lv_entry ([.ref h]) (n := 1) (Nat.le_of_ble_eq_true rfl)
  rw [lg_entry_eq]
  generalize (lg_sl ([.ref h]) ++ List.replicate (1 - (lg_sl ([.ref h])).length) Slot.unset).toArray = ls at hl ⊢
  have hl : lv_has ls 1 [(0, .ref h)] := hl
  refine lv_aload_n hx hb dX0_clean_0 rfl (lv_at hl 0 rfl) ?_
  refine ls_c_rewrite S hK hP hD hS hA hl.1 ⟨Nat.le_of_ble_eq_true rfl, Nat.le_of_ble_eq_true rfl⟩ ⟨Nat.zero_le _, Nat.zero_le _⟩ (Nat.le_of_ble_eq_true rfl) dX0_clean_1 hQ (fun K X V E en se op os oc la ks kl ko nk nr nv ne H locs hP hD hS hQ => ?_)
  exact W.vret hx hb hr (fun t ht hW => ⟨⟨(), rfl, trivial, _, _, _, _, _, _, _, _, _, _, _, _, _, _, _, _, _, by rw [ht]; exact hP, va_K.moved hW.alike hK, hD, ls_R_mono (by decide) hQ⟩, hS.F ht⟩) hS.2.2 dX0_clean_4
set_option maxHeartbeats 4000000 in
set_option maxRecDepth 100000 in
/-- begin() -/
theorem mt_begin {l : Launch} {dC : Nat → ClassId} {dI : Nat → Nat → Nat} {h : Nat} {a : Nat → Nat} {dB dZ dN : ClassId} {K X V E : Nat → Int32} {en se op os oc : Int32} {la ks kl ko nk nr nv ne : Nat → Int32} {sz : Nat} {cu ba sa : Nat → Option Int32} {o : Bool} {ch : Int32} (hQ : ls_R 96 K X V E la en se op os oc cu ba sa o ch) : Met l yX0_begin (ws_ yX0_begin cX0_begin 1 (some .int)) (ls_rm 0 0) (va_Pc [.ref h] (fun U => U.heap.size = sz ∧ va_P (dC, dI) ls_C (ls_W h a dB dZ dN K X V E en se op os oc la ks kl ko nk nr nv ne) U.heap ∧ va_K (dC, dI) ls_C (ls_T dB dZ dN) U ∧ va_D (fun _ => True) (ls_W h a dB dZ dN K X V E en se op os oc la ks kl ko nk nr nv ne))) (va_Qi (fun (r : Int32) (_ : Unit) => r = if o = true then -2 else 0) (fun _ t => ls_B dC dI h a dB dZ dN (va_A (ls_W h a dB dZ dN K X V E en se op os oc la ks kl ko nk nr nv ne) sz) 96 cu ba sa true (if o = true then ch else 0) t) (va_A (ls_W h a dB dZ dN K X V E en se op os oc la ks kl ko nk nr nv ne) sz)) 0 0 (va_A (ls_W h a dB dZ dN K X V E en se op os oc la ks kl ko nk nr nv ne) sz) := by
  refine Met.ofW (cc := cX0_begin) (maxL := 1) (ret := (some .int)) (by decide) rfl ?_
  intro p e s m args below meth c s₁ B hml hv
  obtain ⟨rfl, hsz, hP, hK, hD0⟩ := hv
  have hx := B.exec
  have hb := B.bytes
  have hr := B.returns
  have hts := atoms_spec (ws := (ws_ yX0_begin cX0_begin 1 (some .int))) B.pre
  have hts : ∀ w ∈ lw_all, w.before _ s = true := fun w h => hts w (List.mem_cons_of_mem _ h)
  have hown : s.vm.findClass RX0 = some m.cls := findClass_of_methodNamed B.named
  have hlocks := B.notSynchronized
  have S : CallFix p m c cX0_begin 1 s _ lw_all RX0 := ⟨hx, hb, hml, hown, hts⟩
  subst hsz
  have hD := hD0.self (sz := s.heap.size)
  generalize hAe : va_A (ls_W h a dB dZ dN K X V E en se op os oc la ks kl ko nk nr nv ne) s.heap.size = A at hD ⊢
  have hA : ∀ q : Nat, s.heap.size ≤ q → A q := fun q h => by rw [← hAe]; exact Or.inr h
  have hS : va_S A s.heap s.heap [] := va_S.rf
  have hl := lv_entry ([.ref h]) (n := 1) (Nat.le_of_ble_eq_true rfl)
  rw [lg_entry_eq]
  generalize (lg_sl ([.ref h]) ++ List.replicate (1 - (lg_sl ([.ref h])).length) Slot.unset).toArray = ls at hl ⊢
  have hl : lv_has ls 1 [(0, .ref h)] := hl
  obtain ⟨hoc, n, q, c0, rfl, rfl, hQ⟩ := hQ
  obtain ⟨hn, hq, hc, ho1, ho0, hok, hcu, hba, hsa⟩ := id hQ
  refine lv_aload_n hx hb dX0_begin_0 rfl (lv_at hl 0 rfl) ?_
  refine ls_g6 S hK hP dX0_begin_1 ?_
  cases o with
  | true =>
    refine lv_if_eq (tgt := 10) hx hb dX0_begin_4 (by decide) (fun c1 => ?_) (fun c1 => ?_)
    · exact absurd c1 (by rw [(ho1 rfl).1]; decide)
    · skip
      refine lv_bipush (v := (-2)) hx hb dX0_begin_7 (by decide) ?_
      exact W.iret (v := (-2)) hx hb hr (fun t ht hW => ⟨⟨(-2), (), rfl, rfl, _, _, _, _, _, _, _, _, _, _, _, _, _, _, _, _, _, by rw [ht]; exact hP, va_K.moved hW.alike hK, hD, ⟨hoc, n, q, c0, rfl, rfl, hQ⟩⟩, hS.F ht⟩) hS.2.2 dX0_begin_9
  | false =>
    refine lv_if_eq (tgt := 10) hx hb dX0_begin_4 (by decide) (fun c1 => ?_) (fun c1 => ?_)
    · skip
      refine lv_aload_n hx hb dX0_begin_10 rfl (lv_at hl 0 rfl) ?_
      refine lv_iconst (v := 1) hx hb dX0_begin_11 (by decide) ?_
      refine ls_p6 S hK hP hD hS rfl rfl dX0_begin_12 (fun H locs hP hD hS => ?_)
      refine lv_aload_n hx hb dX0_begin_15 rfl (lv_at hl 0 rfl) ?_
      refine lv_aload_n hx hb dX0_begin_16 rfl (lv_at hl 0 rfl) ?_
      refine ls_g4 S hK hP dX0_begin_17 ?_
      refine ls_p7 S hK hP hD hS dX0_begin_20 (fun H locs hP hD hS => ?_)
      refine lv_aload_n hx hb dX0_begin_23 rfl (lv_at hl 0 rfl) ?_
      refine lv_iconst (v := 0) hx hb dX0_begin_24 (by decide) ?_
      refine ls_p8 S hK hP hD hS dX0_begin_25 (fun H locs hP hD hS => ?_)
      refine lv_iconst (v := 0) hx hb dX0_begin_28 (by decide) ?_
      exact W.iret (v := 0) hx hb hr (fun t ht hW => ⟨⟨0, (), rfl, rfl, _, _, _, _, _, _, _, _, _, _, _, _, _, _, _, _, _, by rw [ht]; exact hP, va_K.moved hW.alike hK, hD, ⟨rfl, n, q, n, rfl, rfl, hn, by omega, Nat.le_refl n, fun _ => ⟨rfl, rfl⟩, fun z => (by cases z), hok, hcu, (by rw [(ho0 rfl).2.1] at hba; exact hba), hsa⟩⟩, hS.F ht⟩) hS.2.2 dX0_begin_29
    · exact absurd (ho0 rfl).1 c1
set_option maxHeartbeats 4000000 in
set_option maxRecDepth 100000 in
/-- commit() -/
theorem mt_commit {l : Launch} {dC : Nat → ClassId} {dI : Nat → Nat → Nat} {h : Nat} {a : Nat → Nat} {dB dZ dN : ClassId} {K X V E : Nat → Int32} {en se op os oc : Int32} {la ks kl ko nk nr nv ne : Nat → Int32} {sz : Nat} {cu ba sa : Nat → Option Int32} {o : Bool} {ch : Int32} (hQ : ls_R 96 K X V E la en se op os oc cu ba sa o ch) : Met l yX0_commit (ws_ yX0_commit cX0_commit 1 (some .int)) (ls_rm 0 0) (va_Pc [.ref h] (fun U => U.heap.size = sz ∧ va_P (dC, dI) ls_C (ls_W h a dB dZ dN K X V E en se op os oc la ks kl ko nk nr nv ne) U.heap ∧ va_K (dC, dI) ls_C (ls_T dB dZ dN) U ∧ va_D (fun _ => True) (ls_W h a dB dZ dN K X V E en se op os oc la ks kl ko nk nr nv ne))) (va_Qi (fun (r : Int32) (_ : Unit) => r = if o = true then 0 else -1) (fun _ t => ls_B dC dI h a dB dZ dN (va_A (ls_W h a dB dZ dN K X V E en se op os oc la ks kl ko nk nr nv ne) sz) 96 cu (if o = true then cu else ba) sa false 0 t) (va_A (ls_W h a dB dZ dN K X V E en se op os oc la ks kl ko nk nr nv ne) sz)) 0 0 (va_A (ls_W h a dB dZ dN K X V E en se op os oc la ks kl ko nk nr nv ne) sz) := by
  refine Met.ofW (cc := cX0_commit) (maxL := 1) (ret := (some .int)) (by decide) rfl ?_
  intro p e s m args below meth c s₁ B hml hv
  obtain ⟨rfl, hsz, hP, hK, hD0⟩ := hv
  have hx := B.exec
  have hb := B.bytes
  have hr := B.returns
  have hts := atoms_spec (ws := (ws_ yX0_commit cX0_commit 1 (some .int))) B.pre
  have hts : ∀ w ∈ lw_all, w.before _ s = true := fun w h => hts w (List.mem_cons_of_mem _ h)
  have hown : s.vm.findClass RX0 = some m.cls := findClass_of_methodNamed B.named
  have hlocks := B.notSynchronized
  have S : CallFix p m c cX0_commit 1 s _ lw_all RX0 := ⟨hx, hb, hml, hown, hts⟩
  subst hsz
  have hD := hD0.self (sz := s.heap.size)
  generalize hAe : va_A (ls_W h a dB dZ dN K X V E en se op os oc la ks kl ko nk nr nv ne) s.heap.size = A at hD ⊢
  have hA : ∀ q : Nat, s.heap.size ≤ q → A q := fun q h => by rw [← hAe]; exact Or.inr h
  have hS : va_S A s.heap s.heap [] := va_S.rf
  have hl := lv_entry ([.ref h]) (n := 1) (Nat.le_of_ble_eq_true rfl)
  rw [lg_entry_eq]
  generalize (lg_sl ([.ref h]) ++ List.replicate (1 - (lg_sl ([.ref h])).length) Slot.unset).toArray = ls at hl ⊢
  have hl : lv_has ls 1 [(0, .ref h)] := hl
  obtain ⟨hoc, n, q, c0, rfl, rfl, hQ⟩ := hQ
  obtain ⟨hn, hq, hc, ho1, ho0, hok, hcu, hba, hsa⟩ := id hQ
  refine lv_aload_n hx hb dX0_commit_0 rfl (lv_at hl 0 rfl) ?_
  refine ls_g6 S hK hP dX0_commit_1 ?_
  cases o with
  | true =>
    refine lv_if_ne (tgt := 9) hx hb dX0_commit_4 (by decide) (fun c1 => ?_) (fun c1 => ?_)
    · skip
      refine lv_aload_n hx hb dX0_commit_9 rfl (lv_at hl 0 rfl) ?_
      refine lv_iconst (v := 0) hx hb dX0_commit_10 (by decide) ?_
      refine ls_p6 S hK hP hD hS rfl rfl dX0_commit_11 (fun H locs hP hD hS => ?_)
      refine lv_aload_n hx hb dX0_commit_14 rfl (lv_at hl 0 rfl) ?_
      refine lv_iconst (v := 0) hx hb dX0_commit_15 (by decide) ?_
      refine ls_p8 S hK hP hD hS dX0_commit_16 (fun H locs hP hD hS => ?_)
      refine lv_iconst (v := 0) hx hb dX0_commit_19 (by decide) ?_
      exact W.iret (v := 0) hx hb hr (fun t ht hW => ⟨⟨0, (), rfl, rfl, _, _, _, _, _, _, _, _, _, _, _, _, _, _, _, _, _, by rw [ht]; exact hP, va_K.moved hW.alike hK, hD, ⟨rfl, n, q, n, rfl, rfl, hn, by omega, Nat.le_refl n, fun z => (by cases z), fun _ => ⟨rfl, rfl, rfl⟩, hok, hcu, hcu, hsa⟩⟩, hS.F ht⟩) hS.2.2 dX0_commit_20
    · exact absurd c1 (by rw [(ho1 rfl).1]; decide)
  | false =>
    refine lv_if_ne (tgt := 9) hx hb dX0_commit_4 (by decide) (fun c1 => ?_) (fun c1 => ?_)
    · exact absurd (ho0 rfl).1 c1
    · skip
      refine lv_iconst (v := (-1)) hx hb dX0_commit_7 (by decide) ?_
      exact W.iret (v := (-1)) hx hb hr (fun t ht hW => ⟨⟨(-1), (), rfl, rfl, _, _, _, _, _, _, _, _, _, _, _, _, _, _, _, _, _, by rw [ht]; exact hP, va_K.moved hW.alike hK, hD, ⟨hoc.trans (ho0 rfl).2.2, n, q, c0, rfl, rfl, hn, hq, hc, ho1, fun _ => ⟨(ho0 rfl).1, (ho0 rfl).2.1, rfl⟩, hok, hcu, hba, hsa⟩⟩, hS.F ht⟩) hS.2.2 dX0_commit_8
set_option maxHeartbeats 4000000 in
set_option maxRecDepth 100000 in
/-- abort() -/
theorem mt_abort {l : Launch} {dC : Nat → ClassId} {dI : Nat → Nat → Nat} {h : Nat} {a : Nat → Nat} {dB dZ dN : ClassId} {K X V E : Nat → Int32} {en se op os oc : Int32} {la ks kl ko nk nr nv ne : Nat → Int32} {sz : Nat} {cu ba sa : Nat → Option Int32} {o : Bool} {ch : Int32} (hQ : ls_R 96 K X V E la en se op os oc cu ba sa o ch) : Met l yX0_abort (ws_ yX0_abort cX0_abort 1 (some .int)) (ls_rm 2 46) (va_Pc [.ref h] (fun U => U.heap.size = sz ∧ va_P (dC, dI) ls_C (ls_W h a dB dZ dN K X V E en se op os oc la ks kl ko nk nr nv ne) U.heap ∧ va_K (dC, dI) ls_C (ls_T dB dZ dN) U ∧ va_D (fun _ => True) (ls_W h a dB dZ dN K X V E en se op os oc la ks kl ko nk nr nv ne))) (va_Qi (fun (r : Int32) (_ : Unit) => r = if o = true then 0 else -1) (fun _ t => ls_B dC dI h a dB dZ dN (va_A (ls_W h a dB dZ dN K X V E en se op os oc la ks kl ko nk nr nv ne) sz) 96 (if o = true then ba else cu) ba sa false 0 t) (va_A (ls_W h a dB dZ dN K X V E en se op os oc la ks kl ko nk nr nv ne) sz)) 0 0 (va_A (ls_W h a dB dZ dN K X V E en se op os oc la ks kl ko nk nr nv ne) sz) := by
  refine Met.ofW (cc := cX0_abort) (maxL := 1) (ret := (some .int)) (by decide) rfl ?_
  intro p e s m args below meth c s₁ B hml hv
  obtain ⟨rfl, hsz, hP, hK, hD0⟩ := hv
  have hx := B.exec
  have hb := B.bytes
  have hr := B.returns
  have hts := atoms_spec (ws := (ws_ yX0_abort cX0_abort 1 (some .int))) B.pre
  have hts : ∀ w ∈ lw_all, w.before _ s = true := fun w h => hts w (List.mem_cons_of_mem _ h)
  have hown : s.vm.findClass RX0 = some m.cls := findClass_of_methodNamed B.named
  have hlocks := B.notSynchronized
  have S : CallFix p m c cX0_abort 1 s _ lw_all RX0 := ⟨hx, hb, hml, hown, hts⟩
  subst hsz
  have hD := hD0.self (sz := s.heap.size)
  generalize hAe : va_A (ls_W h a dB dZ dN K X V E en se op os oc la ks kl ko nk nr nv ne) s.heap.size = A at hD ⊢
  have hA : ∀ q : Nat, s.heap.size ≤ q → A q := fun q h => by rw [← hAe]; exact Or.inr h
  have hS : va_S A s.heap s.heap [] := va_S.rf
  have hl := lv_entry ([.ref h]) (n := 1) (Nat.le_of_ble_eq_true rfl)
  rw [lg_entry_eq]
  generalize (lg_sl ([.ref h]) ++ List.replicate (1 - (lg_sl ([.ref h])).length) Slot.unset).toArray = ls at hl ⊢
  have hl : lv_has ls 1 [(0, .ref h)] := hl
  obtain ⟨hoc, n, q, c0, rfl, rfl, hQ⟩ := hQ
  obtain ⟨hn, hq, hc, ho1, ho0, hok, hcu, hba, hsa⟩ := id hQ
  refine lv_aload_n hx hb dX0_abort_0 rfl (lv_at hl 0 rfl) ?_
  refine ls_g6 S hK hP dX0_abort_1 ?_
  cases o with
  | true =>
    refine lv_if_ne (tgt := 9) hx hb dX0_abort_4 (by decide) (fun c1 => ?_) (fun c1 => ?_)
    · skip
      refine lv_aload_n hx hb dX0_abort_9 rfl (lv_at hl 0 rfl) ?_
      refine lv_aload_n hx hb dX0_abort_10 rfl (lv_at hl 0 rfl) ?_
      refine ls_g7 S hK hP dX0_abort_11 ?_
      rw [show (os : Int32) = nI c0 from (ho1 rfl).2]
      refine ls_c_cutTo S hK hP hD hS hA hl.1 ⟨Nat.le_of_ble_eq_true rfl, Nat.le_of_ble_eq_true rfl⟩ ⟨Nat.zero_le _, Nat.zero_le _⟩ (Nat.le_of_ble_eq_true rfl) dX0_abort_14 hQ rfl rfl (fun K X V E en se op os oc la ks kl ko nk nr nv ne H locs hP hD hS hQ => ?_)
      refine lv_iconst (v := 0) hx hb dX0_abort_17 (by decide) ?_
      exact W.iret (v := 0) hx hb hr (fun t ht hW => ⟨⟨0, (), rfl, rfl, _, _, _, _, _, _, _, _, _, _, _, _, _, _, _, _, _, by rw [ht]; exact hP, va_K.moved hW.alike hK, hD, hQ⟩, hS.F ht⟩) hS.2.2 dX0_abort_18
    · exact absurd c1 (by rw [(ho1 rfl).1]; decide)
  | false =>
    refine lv_if_ne (tgt := 9) hx hb dX0_abort_4 (by decide) (fun c1 => ?_) (fun c1 => ?_)
    · exact absurd (ho0 rfl).1 c1
    · skip
      refine lv_iconst (v := (-1)) hx hb dX0_abort_7 (by decide) ?_
      exact W.iret (v := (-1)) hx hb hr (fun t ht hW => ⟨⟨(-1), (), rfl, rfl, _, _, _, _, _, _, _, _, _, _, _, _, _, _, _, _, _, by rw [ht]; exact hP, va_K.moved hW.alike hK, hD, ⟨hoc.trans (ho0 rfl).2.2, n, q, c0, rfl, rfl, hn, hq, hc, ho1, fun _ => ⟨(ho0 rfl).1, (ho0 rfl).2.1, rfl⟩, hok, hcu, hba, hsa⟩⟩, hS.F ht⟩) hS.2.2 dX0_abort_8
set_option maxHeartbeats 4000000 in
set_option maxRecDepth 100000 in
/-- sync() -/
theorem mt_sync {l : Launch} {dC : Nat → ClassId} {dI : Nat → Nat → Nat} {h : Nat} {a : Nat → Nat} {dB dZ dN : ClassId} {K X V E : Nat → Int32} {en se op os oc : Int32} {la ks kl ko nk nr nv ne : Nat → Int32} {sz : Nat} {cu ba sa : Nat → Option Int32} {o : Bool} {ch : Int32} (hQ : ls_R 96 K X V E la en se op os oc cu ba sa o ch) : Met l yX0_sync (ws_ yX0_sync cX0_sync 1 none) (ls_rm 0 0) (va_Pc [.ref h] (fun U => U.heap.size = sz ∧ va_P (dC, dI) ls_C (ls_W h a dB dZ dN K X V E en se op os oc la ks kl ko nk nr nv ne) U.heap ∧ va_K (dC, dI) ls_C (ls_T dB dZ dN) U ∧ va_D (fun _ => True) (ls_W h a dB dZ dN K X V E en se op os oc la ks kl ko nk nr nv ne))) (va_Qv (fun (_ : Unit) => True) (fun _ t => ls_B dC dI h a dB dZ dN (va_A (ls_W h a dB dZ dN K X V E en se op os oc la ks kl ko nk nr nv ne) sz) 96 cu ba ba o ch t) (va_A (ls_W h a dB dZ dN K X V E en se op os oc la ks kl ko nk nr nv ne) sz)) 0 0 (va_A (ls_W h a dB dZ dN K X V E en se op os oc la ks kl ko nk nr nv ne) sz) := by
  refine Met.ofW (cc := cX0_sync) (maxL := 1) (ret := none) (by decide) rfl ?_
  intro p e s m args below meth c s₁ B hml hv
  obtain ⟨rfl, hsz, hP, hK, hD0⟩ := hv
  have hx := B.exec
  have hb := B.bytes
  have hr := B.returns
  have hts := atoms_spec (ws := (ws_ yX0_sync cX0_sync 1 none)) B.pre
  have hts : ∀ w ∈ lw_all, w.before _ s = true := fun w h => hts w (List.mem_cons_of_mem _ h)
  have hown : s.vm.findClass RX0 = some m.cls := findClass_of_methodNamed B.named
  have hlocks := B.notSynchronized
  have S : CallFix p m c cX0_sync 1 s _ lw_all RX0 := ⟨hx, hb, hml, hown, hts⟩
  subst hsz
  have hD := hD0.self (sz := s.heap.size)
  generalize hAe : va_A (ls_W h a dB dZ dN K X V E en se op os oc la ks kl ko nk nr nv ne) s.heap.size = A at hD ⊢
  have hA : ∀ q : Nat, s.heap.size ≤ q → A q := fun q h => by rw [← hAe]; exact Or.inr h
  have hS : va_S A s.heap s.heap [] := va_S.rf
  have hl := lv_entry ([.ref h]) (n := 1) (Nat.le_of_ble_eq_true rfl)
  rw [lg_entry_eq]
  generalize (lg_sl ([.ref h]) ++ List.replicate (1 - (lg_sl ([.ref h])).length) Slot.unset).toArray = ls at hl ⊢
  have hl : lv_has ls 1 [(0, .ref h)] := hl
  obtain ⟨hoc, n, q, c0, rfl, rfl, hQ⟩ := hQ
  obtain ⟨hn, hq, hc, ho1, ho0, hok, hcu, hba, hsa⟩ := id hQ
  refine lv_aload_n hx hb dX0_sync_0 rfl (lv_at hl 0 rfl) ?_
  refine lv_aload_n hx hb dX0_sync_1 rfl (lv_at hl 0 rfl) ?_
  refine ls_g6 S hK hP dX0_sync_2 ?_
  cases o with
  | true =>
    refine lv_if_eq (tgt := 15) hx hb dX0_sync_5 (by decide) (fun c1 => ?_) (fun c1 => ?_)
    · exact absurd c1 (by rw [(ho1 rfl).1]; decide)
    · skip
      refine lv_aload_n hx hb dX0_sync_8 rfl (lv_at hl 0 rfl) ?_
      refine ls_g7 S hK hP dX0_sync_9 ?_
      rw [show (os : Int32) = nI c0 from (ho1 rfl).2]
      refine lv_goto (tgt := 19) hx hb dX0_sync_12 (by decide) ?_
      refine ls_p5 S hK hP hD hS dX0_sync_19 (fun H locs hP hD hS => ?_)
      exact W.vret hx hb hr (fun t ht hW => ⟨⟨(), rfl, trivial, _, _, _, _, _, _, _, _, _, _, _, _, _, _, _, _, _, by rw [ht]; exact hP, va_K.moved hW.alike hK, hD, ⟨hoc, n, c0, c0, rfl, rfl, hn, Nat.le_refl c0, hc, ho1, ho0, hok, hcu, hba, hba⟩⟩, hS.F ht⟩) hS.2.2 dX0_sync_22
  | false =>
    refine lv_if_eq (tgt := 15) hx hb dX0_sync_5 (by decide) (fun c1 => ?_) (fun c1 => ?_)
    · skip
      refine lv_aload_n hx hb dX0_sync_15 rfl (lv_at hl 0 rfl) ?_
      refine ls_g4 S hK hP dX0_sync_16 ?_
      rw [show (nI n : Int32) = nI c0 from by rw [(ho0 rfl).2.1]]
      refine ls_p5 S hK hP hD hS dX0_sync_19 (fun H locs hP hD hS => ?_)
      exact W.vret hx hb hr (fun t ht hW => ⟨⟨(), rfl, trivial, _, _, _, _, _, _, _, _, _, _, _, _, _, _, _, _, _, by rw [ht]; exact hP, va_K.moved hW.alike hK, hD, ⟨hoc, n, c0, c0, rfl, rfl, hn, Nat.le_refl c0, hc, ho1, ho0, hok, hcu, hba, hba⟩⟩, hS.F ht⟩) hS.2.2 dX0_sync_22
    · exact absurd (ho0 rfl).1 c1
set_option maxHeartbeats 4000000 in
set_option maxRecDepth 100000 in
/-- crash() -/
theorem mt_crash {l : Launch} {dC : Nat → ClassId} {dI : Nat → Nat → Nat} {h : Nat} {a : Nat → Nat} {dB dZ dN : ClassId} {K X V E : Nat → Int32} {en se op os oc : Int32} {la ks kl ko nk nr nv ne : Nat → Int32} {sz : Nat} {cu ba sa : Nat → Option Int32} {o : Bool} {ch : Int32} (hQ : ls_R 96 K X V E la en se op os oc cu ba sa o ch) : Met l yX0_crash (ws_ yX0_crash cX0_crash 3 none) (ls_rm 0 0) (va_Pc [.ref h] (fun U => U.heap.size = sz ∧ va_P (dC, dI) ls_C (ls_W h a dB dZ dN K X V E en se op os oc la ks kl ko nk nr nv ne) U.heap ∧ va_K (dC, dI) ls_C (ls_T dB dZ dN) U ∧ va_D (fun _ => True) (ls_W h a dB dZ dN K X V E en se op os oc la ks kl ko nk nr nv ne))) (va_Qv (fun (_ : Unit) => True) (fun _ t => ls_B dC dI h a dB dZ dN (va_A (ls_W h a dB dZ dN K X V E en se op os oc la ks kl ko nk nr nv ne) sz) 96 sa sa sa false 0 t) (va_A (ls_W h a dB dZ dN K X V E en se op os oc la ks kl ko nk nr nv ne) sz)) 0 0 (va_A (ls_W h a dB dZ dN K X V E en se op os oc la ks kl ko nk nr nv ne) sz) := by
  refine Met.ofW (cc := cX0_crash) (maxL := 3) (ret := none) (by decide) rfl ?_
  intro p e s m args below meth c s₁ B hml hv
  obtain ⟨rfl, hsz, hP, hK, hD0⟩ := hv
  have hx := B.exec
  have hb := B.bytes
  have hr := B.returns
  have hts := atoms_spec (ws := (ws_ yX0_crash cX0_crash 3 none)) B.pre
  have hts : ∀ w ∈ lw_all, w.before _ s = true := fun w h => hts w (List.mem_cons_of_mem _ h)
  have hown : s.vm.findClass RX0 = some m.cls := findClass_of_methodNamed B.named
  have hlocks := B.notSynchronized
  have S : CallFix p m c cX0_crash 3 s _ lw_all RX0 := ⟨hx, hb, hml, hown, hts⟩
  subst hsz
  have hD := hD0.self (sz := s.heap.size)
  generalize hAe : va_A (ls_W h a dB dZ dN K X V E en se op os oc la ks kl ko nk nr nv ne) s.heap.size = A at hD ⊢
  have hA : ∀ q : Nat, s.heap.size ≤ q → A q := fun q h => by rw [← hAe]; exact Or.inr h
  have hS : va_S A s.heap s.heap [] := va_S.rf
  have hl := lv_entry ([.ref h]) (n := 3) (Nat.le_of_ble_eq_true rfl)
  rw [lg_entry_eq]
  generalize (lg_sl ([.ref h]) ++ List.replicate (3 - (lg_sl ([.ref h])).length) Slot.unset).toArray = ls at hl ⊢
  have hl : lv_has ls 3 [(0, .ref h)] := hl
  obtain ⟨hoc, n, q, c0, rfl, rfl, hQ⟩ := hQ
  obtain ⟨hn, hq, hc, ho1, ho0, hok, hcu, hba, hsa⟩ := id hQ
  have loop2 : ∀ (f i : Nat) (E la : Nat → Int32) (H : Heap) (locs : List Loc) (ls : Array Slot), i ≤ q → q < i + f → ls_ok K X E la i → va_P (dC, dI) ls_C (ls_W h a dB dZ dN K X V E (nI q) (nI q) 0 os 0 la ks kl ko nk nr nv ne) H → va_D A (ls_W h a dB dZ dN K X V E (nI q) (nI q) 0 os 0 la ks kl ko nk nr nv ne) → va_S A s.heap H locs → lv_has ls 3 [(0, .ref h), (1, .int (nI i))] → W p l e (headSpec (ws_ yX0_crash cX0_crash 3 none) (ls_rm 0 0)).room s m ([.ref h] : List Value).toArray below meth c H locs 0 0 (MQ below (va_Qv (fun (_ : Unit) => True) (fun _ t => ls_B dC dI h a dB dZ dN A 96 sa sa sa false 0 t) A) ([.ref h] : List Value).toArray s 0 0 A) (F0 m 41 ls []) := by
    intro f
    induction f with
    | zero => intro i E la H locs ls h1 h2; omega
    | succ f ih =>
      intro i E la H locs ls h1 h2 hok2 hP hD hS hl
      refine lv_iload_n hx hb dX0_crash_41 rfl (lv_at hl 1 rfl) ?_
      refine lv_aload_n hx hb dX0_crash_42 rfl (lv_at hl 0 rfl) ?_
      refine ls_g4 S hK hP dX0_crash_43 ?_
      refine ls_ige (tgt := 82) hx hb (by omega) (by omega) dX0_crash_46 (by decide) (fun c1 => ?_) (fun c1 => ?_)
      · obtain rfl : i = q := by omega
        exact W.vret hx hb hr (fun t ht hW => ⟨⟨(), rfl, trivial, _, _, _, _, _, _, _, _, _, _, _, _, _, _, _, _, _, by rw [ht]; exact hP, va_K.moved hW.alike hK, hD, ⟨rfl, i, i, i, rfl, rfl, ls_Q_crash hQ hok2⟩⟩, hS.F ht⟩) hS.2.2 dX0_crash_82
      · skip
        obtain ⟨j, hj, hKj⟩ := hok.1 i (by omega)
        have hi : i < 96 := by omega
        refine lv_aload_n hx hb dX0_crash_49 rfl (lv_at hl 0 rfl) ?_
        refine ls_g0 S hK hP dX0_crash_50 ?_
        refine lv_iload_n hx hb dX0_crash_53 rfl (lv_at hl 1 rfl) ?_
        refine ls_l0 S hK hP hi dX0_crash_54 ?_
        rw [show (K i : Int32) = nI j from hKj]
        refine lv_istore_n (lv' := [(2, .int (nI j)), (0, .ref h), (1, .int (nI i))]) hx hb dX0_crash_55 rfl hl (by decide) rfl (fun ls hl => ?_)
        refine lv_aload_n hx hb dX0_crash_56 rfl (lv_at hl 1 rfl) ?_
        refine ls_g3 S hK hP dX0_crash_57 ?_
        refine lv_iload_n hx hb dX0_crash_60 rfl (lv_at hl 2 rfl) ?_
        refine lv_aload_n hx hb dX0_crash_61 rfl (lv_at hl 1 rfl) ?_
        refine ls_g9 S hK hP dX0_crash_62 ?_
        refine lv_iload_n hx hb dX0_crash_65 rfl (lv_at hl 0 rfl) ?_
        refine ls_l4 S hK hP hj dX0_crash_66 ?_
        refine ls_s3 S hK hP hD hS hi (ls_ok_nb hok2 (by omega) hj) dX0_crash_67 (fun H locs hP hD hS => ?_)
        refine lv_aload_n hx hb dX0_crash_68 rfl (lv_at hl 1 rfl) ?_
        refine ls_g9 S hK hP dX0_crash_69 ?_
        refine lv_iload_n hx hb dX0_crash_72 rfl (lv_at hl 0 rfl) ?_
        refine lv_iload_n hx hb dX0_crash_73 rfl (lv_at hl 2 rfl) ?_
        refine lv_i2b (v := nI i) hx hb dX0_crash_74 (ls_b8 i (by omega)) ?_
        refine ls_s4 S hK hP hD hS hj (ls_nb (by omega)) dX0_crash_75 (fun H locs hP hD hS => ?_)
        refine lv_iinc (v := nI (i + 1)) (lv' := [(1, .int (nI (i + 1))), (2, .int (nI j)), (0, .ref h)]) hx hb dX0_crash_76 hl (k := 2) rfl (ls_inc i) (by decide) rfl (fun ls hl => ?_)
        refine lv_goto (tgt := 41) hx hb dX0_crash_79 (by decide) ?_
        exact ih (i + 1) _ _ _ _ ls (by omega) (by omega) (ls_ok_read hok2 hj hKj (hok.2.1 i (by omega))) hP hD hS (lv_sub hl [2, 0] rfl)
  have loop1 : ∀ (f i : Nat) (la : Nat → Int32) (H : Heap) (locs : List Loc) (ls : Array Slot), i ≤ 16 → 17 ≤ i + f → (∀ j, j < i → la j = -1) → va_P (dC, dI) ls_C (ls_W h a dB dZ dN K X V E (nI q) (nI q) 0 os 0 la ks kl ko nk nr nv ne) H → va_D A (ls_W h a dB dZ dN K X V E (nI q) (nI q) 0 os 0 la ks kl ko nk nr nv ne) → va_S A s.heap H locs → lv_has ls 3 [(0, .ref h), (1, .int (nI i))] → W p l e (headSpec (ws_ yX0_crash cX0_crash 3 none) (ls_rm 0 0)).room s m ([.ref h] : List Value).toArray below meth c H locs 0 0 (MQ below (va_Qv (fun (_ : Unit) => True) (fun _ t => ls_B dC dI h a dB dZ dN A 96 sa sa sa false 0 t) A) ([.ref h] : List Value).toArray s 0 0 A) (F0 m 20 ls []) := by
    intro f
    induction f with
    | zero => intro i la H locs ls h1 h2; omega
    | succ f ih =>
      intro i la H locs ls h1 h2 hv hP hD hS hl
      refine lv_iload_n hx hb dX0_crash_20 rfl (lv_at hl 1 rfl) ?_
      refine lv_bipush (v := nI 16) hx hb dX0_crash_21 (by decide) ?_
      refine ls_ige (tgt := 39) hx hb (by omega) (by omega) dX0_crash_23 (by decide) (fun c1 => ?_) (fun c1 => ?_)
      · skip
        refine lv_iconst (v := nI 0) hx hb dX0_crash_39 (by decide) ?_
        refine lv_istore_n (lv' := [(1, .int (nI 0)), (0, .ref h)]) hx hb dX0_crash_40 rfl hl (by decide) rfl (fun ls hl => ?_)
        exact loop2 (q + 1) 0 _ _ _ _ ls (by omega) (by omega) (ls_ok_0 (fun j hj => hv j (by omega))) hP hD hS (lv_sub hl [1, 0] rfl)
      · skip
        refine lv_aload_n hx hb dX0_crash_26 rfl (lv_at hl 0 rfl) ?_
        refine ls_g9 S hK hP dX0_crash_27 ?_
        refine lv_iload_n hx hb dX0_crash_30 rfl (lv_at hl 1 rfl) ?_
        refine lv_iconst (v := (-1)) hx hb dX0_crash_31 (by decide) ?_
        refine ls_s4 S hK hP hD hS c1 (vp_nar_byte (-1)) dX0_crash_32 (fun H locs hP hD hS => ?_)
        refine lv_iinc (v := nI (i + 1)) (lv' := [(1, .int (nI (i + 1))), (0, .ref h)]) hx hb dX0_crash_33 hl (k := 1) rfl (ls_inc i) (by decide) rfl (fun ls hl => ?_)
        refine lv_goto (tgt := 20) hx hb dX0_crash_36 (by decide) ?_
        refine ih (i + 1) _ _ _ ls (by omega) (by omega) (fun j hj => ?_) hP hD hS (lv_sub hl [1, 0] rfl)
        by_cases e0 : j = i
        · rw [e0, pk_us]; rfl
        · rw [pk_un e0]; exact hv j (by omega)
  refine lv_aload_n hx hb dX0_crash_0 rfl (lv_at hl 0 rfl) ?_
  refine lv_aload_n hx hb dX0_crash_1 rfl (lv_at hl 0 rfl) ?_
  refine ls_g5 S hK hP dX0_crash_2 ?_
  refine ls_p4 S hK hP hD hS dX0_crash_5 (fun H locs hP hD hS => ?_)
  refine lv_aload_n hx hb dX0_crash_8 rfl (lv_at hl 0 rfl) ?_
  refine lv_iconst (v := 0) hx hb dX0_crash_9 (by decide) ?_
  refine ls_p6 S hK hP hD hS rfl rfl dX0_crash_10 (fun H locs hP hD hS => ?_)
  refine lv_aload_n hx hb dX0_crash_13 rfl (lv_at hl 0 rfl) ?_
  refine lv_iconst (v := 0) hx hb dX0_crash_14 (by decide) ?_
  refine ls_p8 S hK hP hD hS dX0_crash_15 (fun H locs hP hD hS => ?_)
  refine lv_iconst (v := nI 0) hx hb dX0_crash_18 (by decide) ?_
  refine lv_istore_n (lv' := [(1, .int (nI 0)), (0, .ref h)]) hx hb dX0_crash_19 rfl hl (by decide) rfl (fun ls hl => ?_)
  exact loop1 17 0 _ _ _ ls (by omega) (by omega) (fun j hj => by omega) hP hD hS (lv_sub hl [1, 0] rfl)
end
section
set_option maxRecDepth 100000
set_option maxHeartbeats 4000000 in
set_option maxRecDepth 100000 in
/-- LogStore(): no key, nothing runs -/
theorem mt_init {l : Launch} {dC : Nat → ClassId} {dI : Nat → Nat → Nat} {h sz : Nat} : Met l yX0_init (ws_ yX0_init cX0_init 2 none) ({ frames := 1, cells := 12, slots := 832, locals := 12 } : Room) (va_Pc [.ref h] (fun U => U.heap.size = sz ∧ va_P (dC, dI) ls_C [(h, .inr (0, [.null, .null, .null, .null, .int 0, .int 0, .int 0, .int 0, .int 0, .null, .null, .null, .null, .null, .null, .null, .null]))] U.heap ∧ va_K (dC, dI) ls_C [] U ∧ va_D (fun _ => True) [(h, .inr (0, [.null, .null, .null, .null, .int 0, .int 0, .int 0, .int 0, .int 0, .null, .null, .null, .null, .null, .null, .null, .null]))])) (va_Qv (fun (_ : Unit) => True) (fun _ t => ∃ (a : Nat → Nat) (dB dZ dN : ClassId) (K : Nat → Int32) (X : Nat → Int32) (V : Nat → Int32) (E : Nat → Int32) (en : Int32) (se : Int32) (op : Int32) (os : Int32) (oc : Int32) (la : Nat → Int32) (ks : Nat → Int32) (kl : Nat → Int32) (ko : Nat → Int32) (nk : Nat → Int32) (nr : Nat → Int32) (nv : Nat → Int32) (ne : Nat → Int32), va_P (dC, dI) ls_C (ls_W h a dB dZ dN K X V E en se op os oc la ks kl ko nk nr nv ne) t.heap ∧ va_K (dC, dI) ls_C (ls_T dB dZ dN) t ∧ va_D (va_A [(h, .inr (0, [.null, .null, .null, .null, .int 0, .int 0, .int 0, .int 0, .int 0, .null, .null, .null, .null, .null, .null, .null, .null]))] sz) (ls_W h a dB dZ dN K X V E en se op os oc la ks kl ko nk nr nv ne) ∧ ls_R 96 K X V E la en se op os oc (fun _ => none) (fun _ => none) (fun _ => none) false 0) (va_A [(h, .inr (0, [.null, .null, .null, .null, .int 0, .int 0, .int 0, .int 0, .int 0, .null, .null, .null, .null, .null, .null, .null, .null]))] sz)) 12 832 (va_A [(h, .inr (0, [.null, .null, .null, .null, .int 0, .int 0, .int 0, .int 0, .int 0, .null, .null, .null, .null, .null, .null, .null, .null]))] sz) := by
  refine Met.ofW (cc := cX0_init) (maxL := 2) (ret := none) (by decide) rfl ?_
  intro p e s m args below meth c s₁ B hml hv
  obtain ⟨rfl, hsz, hP, hK, hD0⟩ := hv
  have hx := B.exec
  have hb := B.bytes
  have hr := B.returns
  have hts := atoms_spec (ws := (ws_ yX0_init cX0_init 2 none)) B.pre
  have hts : ∀ w ∈ lw_all, w.before _ s = true := fun w h => hts w (List.mem_cons_of_mem _ h)
  have hown : s.vm.findClass RX0 = some m.cls := findClass_of_methodNamed B.named
  have hlocks := B.notSynchronized
  have hin : meth.name = "<init>" := (name_of_methodNamed B.named B.method).1
  have S : CallFix p m c cX0_init 2 s _ lw_all RX0 := ⟨hx, hb, hml, hown, hts⟩
  subst hsz
  have hD := hD0.self (sz := s.heap.size)
  generalize hAe : va_A [(h, .inr (0, [.null, .null, .null, .null, .int 0, .int 0, .int 0, .int 0, .int 0, .null, .null, .null, .null, .null, .null, .null, .null]))] s.heap.size = A at hD ⊢
  have hA : ∀ q : Nat, s.heap.size ≤ q → A q := fun q h => by rw [← hAe]; exact Or.inr h
  have hS : va_S A s.heap s.heap [] := va_S.rf
  have hl := lv_entry ([.ref h]) (n := 2) (Nat.le_of_ble_eq_true rfl)
  rw [lg_entry_eq]
  generalize (lg_sl ([.ref h]) ++ List.replicate (2 - (lg_sl ([.ref h])).length) Slot.unset).toArray = ls at hl ⊢
  have hl : lv_has ls 2 [(0, .ref h)] := hl
  refine lv_aload_n hx hb dX0_init_0 rfl (lv_at hl 0 rfl) ?_
  refine W.objInit hx hb hown (hts _ q19) (hts _ q20) (hts _ q21) rfl (by rw [hml]; exact hl.1) rfl dX0_init_1 (Nat.le_of_ble_eq_true rfl) (Nat.le_of_ble_eq_true rfl) ?_
  refine W.eq (g2 := F0 m 4 ls []) rfl ?_
  refine lv_aload_n hx hb dX0_init_4 rfl (lv_at hl 0 rfl) ?_
  refine lv_bipush (v := nI 96) hx hb dX0_init_5 (by decide) ?_
  refine va_newa hx hb (atype := .byte) (hts _ q74) rfl hK hP hD hS hA (N' := 96) (a0 := (96, .inl (fun _ => 0))) (fun _ => rfl) (by decide) (by decide) (by decide) (Nat.le_of_ble_eq_true rfl) (Nat.le_of_ble_eq_true rfl) dX0_init_7 (fun z0 dB H hK hP hD hS => ?_)
  have hK : va_K (dC, dI) ls_C [(dB, .byte)] s := hK
  have hP : va_P (dC, dI) ls_C [(h, .inr (0, [.null, .null, .null, .null, .int 0, .int 0, .int 0, .int 0, .int 0, .null, .null, .null, .null, .null, .null, .null, .null])), (z0, .inl (dB, 96, .inl (fun _ => 0)))] H := hP
  have hD : va_D A [(h, .inr (0, [.null, .null, .null, .null, .int 0, .int 0, .int 0, .int 0, .int 0, .null, .null, .null, .null, .null, .null, .null, .null])), (z0, .inl (dB, 96, .inl (fun _ => 0)))] := hD
  refine W.widen (k := 1) (n := 96) (by omega) (by omega) ?_
  refine va_putF (D := (dC, dI)) (ci := 0) (v := .ref z0) (ty := .array .byte) (C := RX0) (T := TX0) (N := 17) hx hb hts in_X0 tyX0 tyX0_ok nmX0 hown hK hP hD hS 0 rfl rfl 0 (by decide) (hts _ q22) (fun _ h9 => h9) rfl hin rfl (by decide +kernel) rfl rfl (Nat.le_of_ble_eq_true rfl) dX0_init_9 (fun H locs hP hD hS => ?_)
  have hP : va_P (dC, dI) ls_C [(h, .inr (0, [.ref z0, .null, .null, .null, .int 0, .int 0, .int 0, .int 0, .int 0, .null, .null, .null, .null, .null, .null, .null, .null])), (z0, .inl (dB, 96, .inl (fun _ => 0)))] H := hP
  have hD : va_D A [(h, .inr (0, [.ref z0, .null, .null, .null, .int 0, .int 0, .int 0, .int 0, .int 0, .null, .null, .null, .null, .null, .null, .null, .null])), (z0, .inl (dB, 96, .inl (fun _ => 0)))] := hD
  refine lv_aload_n hx hb dX0_init_12 rfl (lv_at hl 0 rfl) ?_
  refine lv_bipush (v := nI 96) hx hb dX0_init_13 (by decide) ?_
  refine va_newa hx hb (atype := .boolean) (hts _ q75) rfl hK hP hD hS hA (N' := 96) (a0 := (96, .inl (fun _ => 0))) (fun _ => rfl) (by decide) (by decide) (by decide) (Nat.le_of_ble_eq_true rfl) (Nat.le_of_ble_eq_true rfl) dX0_init_15 (fun z1 dZ H hK hP hD hS => ?_)
  have hK : va_K (dC, dI) ls_C [(dB, .byte), (dZ, .boolean)] s := hK
  have hP : va_P (dC, dI) ls_C [(h, .inr (0, [.ref z0, .null, .null, .null, .int 0, .int 0, .int 0, .int 0, .int 0, .null, .null, .null, .null, .null, .null, .null, .null])), (z0, .inl (dB, 96, .inl (fun _ => 0))), (z1, .inl (dZ, 96, .inl (fun _ => 0)))] H := hP
  have hD : va_D A [(h, .inr (0, [.ref z0, .null, .null, .null, .int 0, .int 0, .int 0, .int 0, .int 0, .null, .null, .null, .null, .null, .null, .null, .null])), (z0, .inl (dB, 96, .inl (fun _ => 0))), (z1, .inl (dZ, 96, .inl (fun _ => 0)))] := hD
  refine W.widen (k := 2) (n := 192) (by omega) (by omega) ?_
  refine va_putF (D := (dC, dI)) (ci := 0) (v := .ref z1) (ty := .array .boolean) (C := RX0) (T := TX0) (N := 17) hx hb hts in_X0 tyX0 tyX0_ok nmX0 hown hK hP hD hS 0 rfl rfl 1 (by decide) (hts _ q23) (fun _ h9 => h9) rfl hin rfl (by decide +kernel) rfl rfl (Nat.le_of_ble_eq_true rfl) dX0_init_17 (fun H locs hP hD hS => ?_)
  have hP : va_P (dC, dI) ls_C [(h, .inr (0, [.ref z0, .ref z1, .null, .null, .int 0, .int 0, .int 0, .int 0, .int 0, .null, .null, .null, .null, .null, .null, .null, .null])), (z0, .inl (dB, 96, .inl (fun _ => 0))), (z1, .inl (dZ, 96, .inl (fun _ => 0)))] H := hP
  have hD : va_D A [(h, .inr (0, [.ref z0, .ref z1, .null, .null, .int 0, .int 0, .int 0, .int 0, .int 0, .null, .null, .null, .null, .null, .null, .null, .null])), (z0, .inl (dB, 96, .inl (fun _ => 0))), (z1, .inl (dZ, 96, .inl (fun _ => 0)))] := hD
  refine lv_aload_n hx hb dX0_init_20 rfl (lv_at hl 0 rfl) ?_
  refine lv_bipush (v := nI 96) hx hb dX0_init_21 (by decide) ?_
  refine va_newa hx hb (atype := .int) (hts _ q76) rfl hK hP hD hS hA (N' := 96) (a0 := (96, .inl (fun _ => 0))) (fun _ => rfl) (by decide) (by decide) (by decide) (Nat.le_of_ble_eq_true rfl) (Nat.le_of_ble_eq_true rfl) dX0_init_23 (fun z2 dN H hK hP hD hS => ?_)
  have hK : va_K (dC, dI) ls_C [(dB, .byte), (dZ, .boolean), (dN, .int)] s := hK
  have hP : va_P (dC, dI) ls_C [(h, .inr (0, [.ref z0, .ref z1, .null, .null, .int 0, .int 0, .int 0, .int 0, .int 0, .null, .null, .null, .null, .null, .null, .null, .null])), (z0, .inl (dB, 96, .inl (fun _ => 0))), (z1, .inl (dZ, 96, .inl (fun _ => 0))), (z2, .inl (dN, 96, .inl (fun _ => 0)))] H := hP
  have hD : va_D A [(h, .inr (0, [.ref z0, .ref z1, .null, .null, .int 0, .int 0, .int 0, .int 0, .int 0, .null, .null, .null, .null, .null, .null, .null, .null])), (z0, .inl (dB, 96, .inl (fun _ => 0))), (z1, .inl (dZ, 96, .inl (fun _ => 0))), (z2, .inl (dN, 96, .inl (fun _ => 0)))] := hD
  refine W.widen (k := 3) (n := 288) (by omega) (by omega) ?_
  refine va_putF (D := (dC, dI)) (ci := 0) (v := .ref z2) (ty := .array .int) (C := RX0) (T := TX0) (N := 17) hx hb hts in_X0 tyX0 tyX0_ok nmX0 hown hK hP hD hS 0 rfl rfl 2 (by decide) (hts _ q24) (fun _ h9 => h9) rfl hin rfl (by decide +kernel) rfl rfl (Nat.le_of_ble_eq_true rfl) dX0_init_25 (fun H locs hP hD hS => ?_)
  have hP : va_P (dC, dI) ls_C [(h, .inr (0, [.ref z0, .ref z1, .ref z2, .null, .int 0, .int 0, .int 0, .int 0, .int 0, .null, .null, .null, .null, .null, .null, .null, .null])), (z0, .inl (dB, 96, .inl (fun _ => 0))), (z1, .inl (dZ, 96, .inl (fun _ => 0))), (z2, .inl (dN, 96, .inl (fun _ => 0)))] H := hP
  have hD : va_D A [(h, .inr (0, [.ref z0, .ref z1, .ref z2, .null, .int 0, .int 0, .int 0, .int 0, .int 0, .null, .null, .null, .null, .null, .null, .null, .null])), (z0, .inl (dB, 96, .inl (fun _ => 0))), (z1, .inl (dZ, 96, .inl (fun _ => 0))), (z2, .inl (dN, 96, .inl (fun _ => 0)))] := hD
  refine lv_aload_n hx hb dX0_init_28 rfl (lv_at hl 0 rfl) ?_
  refine lv_bipush (v := nI 96) hx hb dX0_init_29 (by decide) ?_
  refine va_newa hx hb (atype := .byte) (hts _ q74) rfl hK hP hD hS hA (N' := 96) (a0 := (96, .inl (fun _ => 0))) (fun _ => rfl) (by decide) (by decide) (by decide) (Nat.le_of_ble_eq_true rfl) (Nat.le_of_ble_eq_true rfl) dX0_init_31 (fun z3 cA H hK hP hD hS => ?_)
  obtain rfl : dB = cA := Option.some.inj ((va_nm_byte (hK.2 0 (dB, .byte) rfl).2).symm.trans (va_nm_byte (hK.2 3 (cA, .byte) rfl).2))
  have hK : va_K (dC, dI) ls_C [(dB, .byte), (dZ, .boolean), (dN, .int)] s := hK.sub [0, 1, 2] rfl
  have hP : va_P (dC, dI) ls_C [(h, .inr (0, [.ref z0, .ref z1, .ref z2, .null, .int 0, .int 0, .int 0, .int 0, .int 0, .null, .null, .null, .null, .null, .null, .null, .null])), (z0, .inl (dB, 96, .inl (fun _ => 0))), (z1, .inl (dZ, 96, .inl (fun _ => 0))), (z2, .inl (dN, 96, .inl (fun _ => 0))), (z3, .inl (dB, 96, .inl (fun _ => 0)))] H := hP
  have hD : va_D A [(h, .inr (0, [.ref z0, .ref z1, .ref z2, .null, .int 0, .int 0, .int 0, .int 0, .int 0, .null, .null, .null, .null, .null, .null, .null, .null])), (z0, .inl (dB, 96, .inl (fun _ => 0))), (z1, .inl (dZ, 96, .inl (fun _ => 0))), (z2, .inl (dN, 96, .inl (fun _ => 0))), (z3, .inl (dB, 96, .inl (fun _ => 0)))] := hD
  refine W.widen (k := 4) (n := 384) (by omega) (by omega) ?_
  refine va_putF (D := (dC, dI)) (ci := 0) (v := .ref z3) (ty := .array .byte) (C := RX0) (T := TX0) (N := 17) hx hb hts in_X0 tyX0 tyX0_ok nmX0 hown hK hP hD hS 0 rfl rfl 3 (by decide) (hts _ q25) (fun _ h9 => h9) rfl hin rfl (by decide +kernel) rfl rfl (Nat.le_of_ble_eq_true rfl) dX0_init_33 (fun H locs hP hD hS => ?_)
  have hP : va_P (dC, dI) ls_C [(h, .inr (0, [.ref z0, .ref z1, .ref z2, .ref z3, .int 0, .int 0, .int 0, .int 0, .int 0, .null, .null, .null, .null, .null, .null, .null, .null])), (z0, .inl (dB, 96, .inl (fun _ => 0))), (z1, .inl (dZ, 96, .inl (fun _ => 0))), (z2, .inl (dN, 96, .inl (fun _ => 0))), (z3, .inl (dB, 96, .inl (fun _ => 0)))] H := hP
  have hD : va_D A [(h, .inr (0, [.ref z0, .ref z1, .ref z2, .ref z3, .int 0, .int 0, .int 0, .int 0, .int 0, .null, .null, .null, .null, .null, .null, .null, .null])), (z0, .inl (dB, 96, .inl (fun _ => 0))), (z1, .inl (dZ, 96, .inl (fun _ => 0))), (z2, .inl (dN, 96, .inl (fun _ => 0))), (z3, .inl (dB, 96, .inl (fun _ => 0)))] := hD
  refine lv_aload_n hx hb dX0_init_36 rfl (lv_at hl 0 rfl) ?_
  refine lv_bipush (v := nI 16) hx hb dX0_init_37 (by decide) ?_
  refine va_newa hx hb (atype := .byte) (hts _ q74) rfl hK hP hD hS hA (N' := 16) (a0 := (16, .inl (fun _ => 0))) (fun _ => rfl) (by decide) (by decide) (by decide) (Nat.le_of_ble_eq_true rfl) (Nat.le_of_ble_eq_true rfl) dX0_init_39 (fun z4 cA H hK hP hD hS => ?_)
  obtain rfl : dB = cA := Option.some.inj ((va_nm_byte (hK.2 0 (dB, .byte) rfl).2).symm.trans (va_nm_byte (hK.2 3 (cA, .byte) rfl).2))
  have hK : va_K (dC, dI) ls_C [(dB, .byte), (dZ, .boolean), (dN, .int)] s := hK.sub [0, 1, 2] rfl
  have hP : va_P (dC, dI) ls_C [(h, .inr (0, [.ref z0, .ref z1, .ref z2, .ref z3, .int 0, .int 0, .int 0, .int 0, .int 0, .null, .null, .null, .null, .null, .null, .null, .null])), (z0, .inl (dB, 96, .inl (fun _ => 0))), (z1, .inl (dZ, 96, .inl (fun _ => 0))), (z2, .inl (dN, 96, .inl (fun _ => 0))), (z3, .inl (dB, 96, .inl (fun _ => 0))), (z4, .inl (dB, 16, .inl (fun _ => 0)))] H := hP
  have hD : va_D A [(h, .inr (0, [.ref z0, .ref z1, .ref z2, .ref z3, .int 0, .int 0, .int 0, .int 0, .int 0, .null, .null, .null, .null, .null, .null, .null, .null])), (z0, .inl (dB, 96, .inl (fun _ => 0))), (z1, .inl (dZ, 96, .inl (fun _ => 0))), (z2, .inl (dN, 96, .inl (fun _ => 0))), (z3, .inl (dB, 96, .inl (fun _ => 0))), (z4, .inl (dB, 16, .inl (fun _ => 0)))] := hD
  refine W.widen (k := 5) (n := 400) (by omega) (by omega) ?_
  refine va_putF (D := (dC, dI)) (ci := 0) (v := .ref z4) (ty := .array .byte) (C := RX0) (T := TX0) (N := 17) hx hb hts in_X0 tyX0 tyX0_ok nmX0 hown hK hP hD hS 0 rfl rfl 9 (by decide) (hts _ q31) (fun _ h9 => h9) rfl hin rfl (by decide +kernel) rfl rfl (Nat.le_of_ble_eq_true rfl) dX0_init_41 (fun H locs hP hD hS => ?_)
  have hP : va_P (dC, dI) ls_C [(h, .inr (0, [.ref z0, .ref z1, .ref z2, .ref z3, .int 0, .int 0, .int 0, .int 0, .int 0, .ref z4, .null, .null, .null, .null, .null, .null, .null])), (z0, .inl (dB, 96, .inl (fun _ => 0))), (z1, .inl (dZ, 96, .inl (fun _ => 0))), (z2, .inl (dN, 96, .inl (fun _ => 0))), (z3, .inl (dB, 96, .inl (fun _ => 0))), (z4, .inl (dB, 16, .inl (fun _ => 0)))] H := hP
  have hD : va_D A [(h, .inr (0, [.ref z0, .ref z1, .ref z2, .ref z3, .int 0, .int 0, .int 0, .int 0, .int 0, .ref z4, .null, .null, .null, .null, .null, .null, .null])), (z0, .inl (dB, 96, .inl (fun _ => 0))), (z1, .inl (dZ, 96, .inl (fun _ => 0))), (z2, .inl (dN, 96, .inl (fun _ => 0))), (z3, .inl (dB, 96, .inl (fun _ => 0))), (z4, .inl (dB, 16, .inl (fun _ => 0)))] := hD
  refine lv_aload_n hx hb dX0_init_44 rfl (lv_at hl 0 rfl) ?_
  refine lv_bipush (v := nI 16) hx hb dX0_init_45 (by decide) ?_
  refine va_newa hx hb (atype := .byte) (hts _ q74) rfl hK hP hD hS hA (N' := 16) (a0 := (16, .inl (fun _ => 0))) (fun _ => rfl) (by decide) (by decide) (by decide) (Nat.le_of_ble_eq_true rfl) (Nat.le_of_ble_eq_true rfl) dX0_init_47 (fun z5 cA H hK hP hD hS => ?_)
  obtain rfl : dB = cA := Option.some.inj ((va_nm_byte (hK.2 0 (dB, .byte) rfl).2).symm.trans (va_nm_byte (hK.2 3 (cA, .byte) rfl).2))
  have hK : va_K (dC, dI) ls_C [(dB, .byte), (dZ, .boolean), (dN, .int)] s := hK.sub [0, 1, 2] rfl
  have hP : va_P (dC, dI) ls_C [(h, .inr (0, [.ref z0, .ref z1, .ref z2, .ref z3, .int 0, .int 0, .int 0, .int 0, .int 0, .ref z4, .null, .null, .null, .null, .null, .null, .null])), (z0, .inl (dB, 96, .inl (fun _ => 0))), (z1, .inl (dZ, 96, .inl (fun _ => 0))), (z2, .inl (dN, 96, .inl (fun _ => 0))), (z3, .inl (dB, 96, .inl (fun _ => 0))), (z4, .inl (dB, 16, .inl (fun _ => 0))), (z5, .inl (dB, 16, .inl (fun _ => 0)))] H := hP
  have hD : va_D A [(h, .inr (0, [.ref z0, .ref z1, .ref z2, .ref z3, .int 0, .int 0, .int 0, .int 0, .int 0, .ref z4, .null, .null, .null, .null, .null, .null, .null])), (z0, .inl (dB, 96, .inl (fun _ => 0))), (z1, .inl (dZ, 96, .inl (fun _ => 0))), (z2, .inl (dN, 96, .inl (fun _ => 0))), (z3, .inl (dB, 96, .inl (fun _ => 0))), (z4, .inl (dB, 16, .inl (fun _ => 0))), (z5, .inl (dB, 16, .inl (fun _ => 0)))] := hD
  refine W.widen (k := 6) (n := 416) (by omega) (by omega) ?_
  refine va_putF (D := (dC, dI)) (ci := 0) (v := .ref z5) (ty := .array .byte) (C := RX0) (T := TX0) (N := 17) hx hb hts in_X0 tyX0 tyX0_ok nmX0 hown hK hP hD hS 0 rfl rfl 10 (by decide) (hts _ q32) (fun _ h9 => h9) rfl hin rfl (by decide +kernel) rfl rfl (Nat.le_of_ble_eq_true rfl) dX0_init_49 (fun H locs hP hD hS => ?_)
  have hP : va_P (dC, dI) ls_C [(h, .inr (0, [.ref z0, .ref z1, .ref z2, .ref z3, .int 0, .int 0, .int 0, .int 0, .int 0, .ref z4, .ref z5, .null, .null, .null, .null, .null, .null])), (z0, .inl (dB, 96, .inl (fun _ => 0))), (z1, .inl (dZ, 96, .inl (fun _ => 0))), (z2, .inl (dN, 96, .inl (fun _ => 0))), (z3, .inl (dB, 96, .inl (fun _ => 0))), (z4, .inl (dB, 16, .inl (fun _ => 0))), (z5, .inl (dB, 16, .inl (fun _ => 0)))] H := hP
  have hD : va_D A [(h, .inr (0, [.ref z0, .ref z1, .ref z2, .ref z3, .int 0, .int 0, .int 0, .int 0, .int 0, .ref z4, .ref z5, .null, .null, .null, .null, .null, .null])), (z0, .inl (dB, 96, .inl (fun _ => 0))), (z1, .inl (dZ, 96, .inl (fun _ => 0))), (z2, .inl (dN, 96, .inl (fun _ => 0))), (z3, .inl (dB, 96, .inl (fun _ => 0))), (z4, .inl (dB, 16, .inl (fun _ => 0))), (z5, .inl (dB, 16, .inl (fun _ => 0)))] := hD
  refine lv_aload_n hx hb dX0_init_52 rfl (lv_at hl 0 rfl) ?_
  refine lv_bipush (v := nI 16) hx hb dX0_init_53 (by decide) ?_
  refine va_newa hx hb (atype := .byte) (hts _ q74) rfl hK hP hD hS hA (N' := 16) (a0 := (16, .inl (fun _ => 0))) (fun _ => rfl) (by decide) (by decide) (by decide) (Nat.le_of_ble_eq_true rfl) (Nat.le_of_ble_eq_true rfl) dX0_init_55 (fun z6 cA H hK hP hD hS => ?_)
  obtain rfl : dB = cA := Option.some.inj ((va_nm_byte (hK.2 0 (dB, .byte) rfl).2).symm.trans (va_nm_byte (hK.2 3 (cA, .byte) rfl).2))
  have hK : va_K (dC, dI) ls_C [(dB, .byte), (dZ, .boolean), (dN, .int)] s := hK.sub [0, 1, 2] rfl
  have hP : va_P (dC, dI) ls_C [(h, .inr (0, [.ref z0, .ref z1, .ref z2, .ref z3, .int 0, .int 0, .int 0, .int 0, .int 0, .ref z4, .ref z5, .null, .null, .null, .null, .null, .null])), (z0, .inl (dB, 96, .inl (fun _ => 0))), (z1, .inl (dZ, 96, .inl (fun _ => 0))), (z2, .inl (dN, 96, .inl (fun _ => 0))), (z3, .inl (dB, 96, .inl (fun _ => 0))), (z4, .inl (dB, 16, .inl (fun _ => 0))), (z5, .inl (dB, 16, .inl (fun _ => 0))), (z6, .inl (dB, 16, .inl (fun _ => 0)))] H := hP
  have hD : va_D A [(h, .inr (0, [.ref z0, .ref z1, .ref z2, .ref z3, .int 0, .int 0, .int 0, .int 0, .int 0, .ref z4, .ref z5, .null, .null, .null, .null, .null, .null])), (z0, .inl (dB, 96, .inl (fun _ => 0))), (z1, .inl (dZ, 96, .inl (fun _ => 0))), (z2, .inl (dN, 96, .inl (fun _ => 0))), (z3, .inl (dB, 96, .inl (fun _ => 0))), (z4, .inl (dB, 16, .inl (fun _ => 0))), (z5, .inl (dB, 16, .inl (fun _ => 0))), (z6, .inl (dB, 16, .inl (fun _ => 0)))] := hD
  refine W.widen (k := 7) (n := 432) (by omega) (by omega) ?_
  refine va_putF (D := (dC, dI)) (ci := 0) (v := .ref z6) (ty := .array .byte) (C := RX0) (T := TX0) (N := 17) hx hb hts in_X0 tyX0 tyX0_ok nmX0 hown hK hP hD hS 0 rfl rfl 11 (by decide) (hts _ q33) (fun _ h9 => h9) rfl hin rfl (by decide +kernel) rfl rfl (Nat.le_of_ble_eq_true rfl) dX0_init_57 (fun H locs hP hD hS => ?_)
  have hP : va_P (dC, dI) ls_C [(h, .inr (0, [.ref z0, .ref z1, .ref z2, .ref z3, .int 0, .int 0, .int 0, .int 0, .int 0, .ref z4, .ref z5, .ref z6, .null, .null, .null, .null, .null])), (z0, .inl (dB, 96, .inl (fun _ => 0))), (z1, .inl (dZ, 96, .inl (fun _ => 0))), (z2, .inl (dN, 96, .inl (fun _ => 0))), (z3, .inl (dB, 96, .inl (fun _ => 0))), (z4, .inl (dB, 16, .inl (fun _ => 0))), (z5, .inl (dB, 16, .inl (fun _ => 0))), (z6, .inl (dB, 16, .inl (fun _ => 0)))] H := hP
  have hD : va_D A [(h, .inr (0, [.ref z0, .ref z1, .ref z2, .ref z3, .int 0, .int 0, .int 0, .int 0, .int 0, .ref z4, .ref z5, .ref z6, .null, .null, .null, .null, .null])), (z0, .inl (dB, 96, .inl (fun _ => 0))), (z1, .inl (dZ, 96, .inl (fun _ => 0))), (z2, .inl (dN, 96, .inl (fun _ => 0))), (z3, .inl (dB, 96, .inl (fun _ => 0))), (z4, .inl (dB, 16, .inl (fun _ => 0))), (z5, .inl (dB, 16, .inl (fun _ => 0))), (z6, .inl (dB, 16, .inl (fun _ => 0)))] := hD
  refine lv_aload_n hx hb dX0_init_60 rfl (lv_at hl 0 rfl) ?_
  refine lv_bipush (v := nI 16) hx hb dX0_init_61 (by decide) ?_
  refine va_newa hx hb (atype := .byte) (hts _ q74) rfl hK hP hD hS hA (N' := 16) (a0 := (16, .inl (fun _ => 0))) (fun _ => rfl) (by decide) (by decide) (by decide) (Nat.le_of_ble_eq_true rfl) (Nat.le_of_ble_eq_true rfl) dX0_init_63 (fun z7 cA H hK hP hD hS => ?_)
  obtain rfl : dB = cA := Option.some.inj ((va_nm_byte (hK.2 0 (dB, .byte) rfl).2).symm.trans (va_nm_byte (hK.2 3 (cA, .byte) rfl).2))
  have hK : va_K (dC, dI) ls_C [(dB, .byte), (dZ, .boolean), (dN, .int)] s := hK.sub [0, 1, 2] rfl
  have hP : va_P (dC, dI) ls_C [(h, .inr (0, [.ref z0, .ref z1, .ref z2, .ref z3, .int 0, .int 0, .int 0, .int 0, .int 0, .ref z4, .ref z5, .ref z6, .null, .null, .null, .null, .null])), (z0, .inl (dB, 96, .inl (fun _ => 0))), (z1, .inl (dZ, 96, .inl (fun _ => 0))), (z2, .inl (dN, 96, .inl (fun _ => 0))), (z3, .inl (dB, 96, .inl (fun _ => 0))), (z4, .inl (dB, 16, .inl (fun _ => 0))), (z5, .inl (dB, 16, .inl (fun _ => 0))), (z6, .inl (dB, 16, .inl (fun _ => 0))), (z7, .inl (dB, 16, .inl (fun _ => 0)))] H := hP
  have hD : va_D A [(h, .inr (0, [.ref z0, .ref z1, .ref z2, .ref z3, .int 0, .int 0, .int 0, .int 0, .int 0, .ref z4, .ref z5, .ref z6, .null, .null, .null, .null, .null])), (z0, .inl (dB, 96, .inl (fun _ => 0))), (z1, .inl (dZ, 96, .inl (fun _ => 0))), (z2, .inl (dN, 96, .inl (fun _ => 0))), (z3, .inl (dB, 96, .inl (fun _ => 0))), (z4, .inl (dB, 16, .inl (fun _ => 0))), (z5, .inl (dB, 16, .inl (fun _ => 0))), (z6, .inl (dB, 16, .inl (fun _ => 0))), (z7, .inl (dB, 16, .inl (fun _ => 0)))] := hD
  refine W.widen (k := 8) (n := 448) (by omega) (by omega) ?_
  refine va_putF (D := (dC, dI)) (ci := 0) (v := .ref z7) (ty := .array .byte) (C := RX0) (T := TX0) (N := 17) hx hb hts in_X0 tyX0 tyX0_ok nmX0 hown hK hP hD hS 0 rfl rfl 12 (by decide) (hts _ q34) (fun _ h9 => h9) rfl hin rfl (by decide +kernel) rfl rfl (Nat.le_of_ble_eq_true rfl) dX0_init_65 (fun H locs hP hD hS => ?_)
  have hP : va_P (dC, dI) ls_C [(h, .inr (0, [.ref z0, .ref z1, .ref z2, .ref z3, .int 0, .int 0, .int 0, .int 0, .int 0, .ref z4, .ref z5, .ref z6, .ref z7, .null, .null, .null, .null])), (z0, .inl (dB, 96, .inl (fun _ => 0))), (z1, .inl (dZ, 96, .inl (fun _ => 0))), (z2, .inl (dN, 96, .inl (fun _ => 0))), (z3, .inl (dB, 96, .inl (fun _ => 0))), (z4, .inl (dB, 16, .inl (fun _ => 0))), (z5, .inl (dB, 16, .inl (fun _ => 0))), (z6, .inl (dB, 16, .inl (fun _ => 0))), (z7, .inl (dB, 16, .inl (fun _ => 0)))] H := hP
  have hD : va_D A [(h, .inr (0, [.ref z0, .ref z1, .ref z2, .ref z3, .int 0, .int 0, .int 0, .int 0, .int 0, .ref z4, .ref z5, .ref z6, .ref z7, .null, .null, .null, .null])), (z0, .inl (dB, 96, .inl (fun _ => 0))), (z1, .inl (dZ, 96, .inl (fun _ => 0))), (z2, .inl (dN, 96, .inl (fun _ => 0))), (z3, .inl (dB, 96, .inl (fun _ => 0))), (z4, .inl (dB, 16, .inl (fun _ => 0))), (z5, .inl (dB, 16, .inl (fun _ => 0))), (z6, .inl (dB, 16, .inl (fun _ => 0))), (z7, .inl (dB, 16, .inl (fun _ => 0)))] := hD
  refine lv_aload_n hx hb dX0_init_68 rfl (lv_at hl 0 rfl) ?_
  refine lv_bipush (v := nI 96) hx hb dX0_init_69 (by decide) ?_
  refine va_newa hx hb (atype := .byte) (hts _ q74) rfl hK hP hD hS hA (N' := 96) (a0 := (96, .inl (fun _ => 0))) (fun _ => rfl) (by decide) (by decide) (by decide) (Nat.le_of_ble_eq_true rfl) (Nat.le_of_ble_eq_true rfl) dX0_init_71 (fun z8 cA H hK hP hD hS => ?_)
  obtain rfl : dB = cA := Option.some.inj ((va_nm_byte (hK.2 0 (dB, .byte) rfl).2).symm.trans (va_nm_byte (hK.2 3 (cA, .byte) rfl).2))
  have hK : va_K (dC, dI) ls_C [(dB, .byte), (dZ, .boolean), (dN, .int)] s := hK.sub [0, 1, 2] rfl
  have hP : va_P (dC, dI) ls_C [(h, .inr (0, [.ref z0, .ref z1, .ref z2, .ref z3, .int 0, .int 0, .int 0, .int 0, .int 0, .ref z4, .ref z5, .ref z6, .ref z7, .null, .null, .null, .null])), (z0, .inl (dB, 96, .inl (fun _ => 0))), (z1, .inl (dZ, 96, .inl (fun _ => 0))), (z2, .inl (dN, 96, .inl (fun _ => 0))), (z3, .inl (dB, 96, .inl (fun _ => 0))), (z4, .inl (dB, 16, .inl (fun _ => 0))), (z5, .inl (dB, 16, .inl (fun _ => 0))), (z6, .inl (dB, 16, .inl (fun _ => 0))), (z7, .inl (dB, 16, .inl (fun _ => 0))), (z8, .inl (dB, 96, .inl (fun _ => 0)))] H := hP
  have hD : va_D A [(h, .inr (0, [.ref z0, .ref z1, .ref z2, .ref z3, .int 0, .int 0, .int 0, .int 0, .int 0, .ref z4, .ref z5, .ref z6, .ref z7, .null, .null, .null, .null])), (z0, .inl (dB, 96, .inl (fun _ => 0))), (z1, .inl (dZ, 96, .inl (fun _ => 0))), (z2, .inl (dN, 96, .inl (fun _ => 0))), (z3, .inl (dB, 96, .inl (fun _ => 0))), (z4, .inl (dB, 16, .inl (fun _ => 0))), (z5, .inl (dB, 16, .inl (fun _ => 0))), (z6, .inl (dB, 16, .inl (fun _ => 0))), (z7, .inl (dB, 16, .inl (fun _ => 0))), (z8, .inl (dB, 96, .inl (fun _ => 0)))] := hD
  refine W.widen (k := 9) (n := 544) (by omega) (by omega) ?_
  refine va_putF (D := (dC, dI)) (ci := 0) (v := .ref z8) (ty := .array .byte) (C := RX0) (T := TX0) (N := 17) hx hb hts in_X0 tyX0 tyX0_ok nmX0 hown hK hP hD hS 0 rfl rfl 13 (by decide) (hts _ q35) (fun _ h9 => h9) rfl hin rfl (by decide +kernel) rfl rfl (Nat.le_of_ble_eq_true rfl) dX0_init_73 (fun H locs hP hD hS => ?_)
  have hP : va_P (dC, dI) ls_C [(h, .inr (0, [.ref z0, .ref z1, .ref z2, .ref z3, .int 0, .int 0, .int 0, .int 0, .int 0, .ref z4, .ref z5, .ref z6, .ref z7, .ref z8, .null, .null, .null])), (z0, .inl (dB, 96, .inl (fun _ => 0))), (z1, .inl (dZ, 96, .inl (fun _ => 0))), (z2, .inl (dN, 96, .inl (fun _ => 0))), (z3, .inl (dB, 96, .inl (fun _ => 0))), (z4, .inl (dB, 16, .inl (fun _ => 0))), (z5, .inl (dB, 16, .inl (fun _ => 0))), (z6, .inl (dB, 16, .inl (fun _ => 0))), (z7, .inl (dB, 16, .inl (fun _ => 0))), (z8, .inl (dB, 96, .inl (fun _ => 0)))] H := hP
  have hD : va_D A [(h, .inr (0, [.ref z0, .ref z1, .ref z2, .ref z3, .int 0, .int 0, .int 0, .int 0, .int 0, .ref z4, .ref z5, .ref z6, .ref z7, .ref z8, .null, .null, .null])), (z0, .inl (dB, 96, .inl (fun _ => 0))), (z1, .inl (dZ, 96, .inl (fun _ => 0))), (z2, .inl (dN, 96, .inl (fun _ => 0))), (z3, .inl (dB, 96, .inl (fun _ => 0))), (z4, .inl (dB, 16, .inl (fun _ => 0))), (z5, .inl (dB, 16, .inl (fun _ => 0))), (z6, .inl (dB, 16, .inl (fun _ => 0))), (z7, .inl (dB, 16, .inl (fun _ => 0))), (z8, .inl (dB, 96, .inl (fun _ => 0)))] := hD
  refine lv_aload_n hx hb dX0_init_76 rfl (lv_at hl 0 rfl) ?_
  refine lv_bipush (v := nI 96) hx hb dX0_init_77 (by decide) ?_
  refine va_newa hx hb (atype := .boolean) (hts _ q75) rfl hK hP hD hS hA (N' := 96) (a0 := (96, .inl (fun _ => 0))) (fun _ => rfl) (by decide) (by decide) (by decide) (Nat.le_of_ble_eq_true rfl) (Nat.le_of_ble_eq_true rfl) dX0_init_79 (fun z9 cA H hK hP hD hS => ?_)
  obtain rfl : dZ = cA := Option.some.inj ((va_nm_boolean (hK.2 1 (dZ, .boolean) rfl).2).symm.trans (va_nm_boolean (hK.2 3 (cA, .boolean) rfl).2))
  have hK : va_K (dC, dI) ls_C [(dB, .byte), (dZ, .boolean), (dN, .int)] s := hK.sub [0, 1, 2] rfl
  have hP : va_P (dC, dI) ls_C [(h, .inr (0, [.ref z0, .ref z1, .ref z2, .ref z3, .int 0, .int 0, .int 0, .int 0, .int 0, .ref z4, .ref z5, .ref z6, .ref z7, .ref z8, .null, .null, .null])), (z0, .inl (dB, 96, .inl (fun _ => 0))), (z1, .inl (dZ, 96, .inl (fun _ => 0))), (z2, .inl (dN, 96, .inl (fun _ => 0))), (z3, .inl (dB, 96, .inl (fun _ => 0))), (z4, .inl (dB, 16, .inl (fun _ => 0))), (z5, .inl (dB, 16, .inl (fun _ => 0))), (z6, .inl (dB, 16, .inl (fun _ => 0))), (z7, .inl (dB, 16, .inl (fun _ => 0))), (z8, .inl (dB, 96, .inl (fun _ => 0))), (z9, .inl (dZ, 96, .inl (fun _ => 0)))] H := hP
  have hD : va_D A [(h, .inr (0, [.ref z0, .ref z1, .ref z2, .ref z3, .int 0, .int 0, .int 0, .int 0, .int 0, .ref z4, .ref z5, .ref z6, .ref z7, .ref z8, .null, .null, .null])), (z0, .inl (dB, 96, .inl (fun _ => 0))), (z1, .inl (dZ, 96, .inl (fun _ => 0))), (z2, .inl (dN, 96, .inl (fun _ => 0))), (z3, .inl (dB, 96, .inl (fun _ => 0))), (z4, .inl (dB, 16, .inl (fun _ => 0))), (z5, .inl (dB, 16, .inl (fun _ => 0))), (z6, .inl (dB, 16, .inl (fun _ => 0))), (z7, .inl (dB, 16, .inl (fun _ => 0))), (z8, .inl (dB, 96, .inl (fun _ => 0))), (z9, .inl (dZ, 96, .inl (fun _ => 0)))] := hD
  refine W.widen (k := 10) (n := 640) (by omega) (by omega) ?_
  refine va_putF (D := (dC, dI)) (ci := 0) (v := .ref z9) (ty := .array .boolean) (C := RX0) (T := TX0) (N := 17) hx hb hts in_X0 tyX0 tyX0_ok nmX0 hown hK hP hD hS 0 rfl rfl 14 (by decide) (hts _ q36) (fun _ h9 => h9) rfl hin rfl (by decide +kernel) rfl rfl (Nat.le_of_ble_eq_true rfl) dX0_init_81 (fun H locs hP hD hS => ?_)
  have hP : va_P (dC, dI) ls_C [(h, .inr (0, [.ref z0, .ref z1, .ref z2, .ref z3, .int 0, .int 0, .int 0, .int 0, .int 0, .ref z4, .ref z5, .ref z6, .ref z7, .ref z8, .ref z9, .null, .null])), (z0, .inl (dB, 96, .inl (fun _ => 0))), (z1, .inl (dZ, 96, .inl (fun _ => 0))), (z2, .inl (dN, 96, .inl (fun _ => 0))), (z3, .inl (dB, 96, .inl (fun _ => 0))), (z4, .inl (dB, 16, .inl (fun _ => 0))), (z5, .inl (dB, 16, .inl (fun _ => 0))), (z6, .inl (dB, 16, .inl (fun _ => 0))), (z7, .inl (dB, 16, .inl (fun _ => 0))), (z8, .inl (dB, 96, .inl (fun _ => 0))), (z9, .inl (dZ, 96, .inl (fun _ => 0)))] H := hP
  have hD : va_D A [(h, .inr (0, [.ref z0, .ref z1, .ref z2, .ref z3, .int 0, .int 0, .int 0, .int 0, .int 0, .ref z4, .ref z5, .ref z6, .ref z7, .ref z8, .ref z9, .null, .null])), (z0, .inl (dB, 96, .inl (fun _ => 0))), (z1, .inl (dZ, 96, .inl (fun _ => 0))), (z2, .inl (dN, 96, .inl (fun _ => 0))), (z3, .inl (dB, 96, .inl (fun _ => 0))), (z4, .inl (dB, 16, .inl (fun _ => 0))), (z5, .inl (dB, 16, .inl (fun _ => 0))), (z6, .inl (dB, 16, .inl (fun _ => 0))), (z7, .inl (dB, 16, .inl (fun _ => 0))), (z8, .inl (dB, 96, .inl (fun _ => 0))), (z9, .inl (dZ, 96, .inl (fun _ => 0)))] := hD
  refine lv_aload_n hx hb dX0_init_84 rfl (lv_at hl 0 rfl) ?_
  refine lv_bipush (v := nI 96) hx hb dX0_init_85 (by decide) ?_
  refine va_newa hx hb (atype := .int) (hts _ q76) rfl hK hP hD hS hA (N' := 96) (a0 := (96, .inl (fun _ => 0))) (fun _ => rfl) (by decide) (by decide) (by decide) (Nat.le_of_ble_eq_true rfl) (Nat.le_of_ble_eq_true rfl) dX0_init_87 (fun z10 cA H hK hP hD hS => ?_)
  obtain rfl : dN = cA := Option.some.inj ((va_nm_int (hK.2 2 (dN, .int) rfl).2).symm.trans (va_nm_int (hK.2 3 (cA, .int) rfl).2))
  have hK : va_K (dC, dI) ls_C [(dB, .byte), (dZ, .boolean), (dN, .int)] s := hK.sub [0, 1, 2] rfl
  have hP : va_P (dC, dI) ls_C [(h, .inr (0, [.ref z0, .ref z1, .ref z2, .ref z3, .int 0, .int 0, .int 0, .int 0, .int 0, .ref z4, .ref z5, .ref z6, .ref z7, .ref z8, .ref z9, .null, .null])), (z0, .inl (dB, 96, .inl (fun _ => 0))), (z1, .inl (dZ, 96, .inl (fun _ => 0))), (z2, .inl (dN, 96, .inl (fun _ => 0))), (z3, .inl (dB, 96, .inl (fun _ => 0))), (z4, .inl (dB, 16, .inl (fun _ => 0))), (z5, .inl (dB, 16, .inl (fun _ => 0))), (z6, .inl (dB, 16, .inl (fun _ => 0))), (z7, .inl (dB, 16, .inl (fun _ => 0))), (z8, .inl (dB, 96, .inl (fun _ => 0))), (z9, .inl (dZ, 96, .inl (fun _ => 0))), (z10, .inl (dN, 96, .inl (fun _ => 0)))] H := hP
  have hD : va_D A [(h, .inr (0, [.ref z0, .ref z1, .ref z2, .ref z3, .int 0, .int 0, .int 0, .int 0, .int 0, .ref z4, .ref z5, .ref z6, .ref z7, .ref z8, .ref z9, .null, .null])), (z0, .inl (dB, 96, .inl (fun _ => 0))), (z1, .inl (dZ, 96, .inl (fun _ => 0))), (z2, .inl (dN, 96, .inl (fun _ => 0))), (z3, .inl (dB, 96, .inl (fun _ => 0))), (z4, .inl (dB, 16, .inl (fun _ => 0))), (z5, .inl (dB, 16, .inl (fun _ => 0))), (z6, .inl (dB, 16, .inl (fun _ => 0))), (z7, .inl (dB, 16, .inl (fun _ => 0))), (z8, .inl (dB, 96, .inl (fun _ => 0))), (z9, .inl (dZ, 96, .inl (fun _ => 0))), (z10, .inl (dN, 96, .inl (fun _ => 0)))] := hD
  refine W.widen (k := 11) (n := 736) (by omega) (by omega) ?_
  refine va_putF (D := (dC, dI)) (ci := 0) (v := .ref z10) (ty := .array .int) (C := RX0) (T := TX0) (N := 17) hx hb hts in_X0 tyX0 tyX0_ok nmX0 hown hK hP hD hS 0 rfl rfl 15 (by decide) (hts _ q37) (fun _ h9 => h9) rfl hin rfl (by decide +kernel) rfl rfl (Nat.le_of_ble_eq_true rfl) dX0_init_89 (fun H locs hP hD hS => ?_)
  have hP : va_P (dC, dI) ls_C [(h, .inr (0, [.ref z0, .ref z1, .ref z2, .ref z3, .int 0, .int 0, .int 0, .int 0, .int 0, .ref z4, .ref z5, .ref z6, .ref z7, .ref z8, .ref z9, .ref z10, .null])), (z0, .inl (dB, 96, .inl (fun _ => 0))), (z1, .inl (dZ, 96, .inl (fun _ => 0))), (z2, .inl (dN, 96, .inl (fun _ => 0))), (z3, .inl (dB, 96, .inl (fun _ => 0))), (z4, .inl (dB, 16, .inl (fun _ => 0))), (z5, .inl (dB, 16, .inl (fun _ => 0))), (z6, .inl (dB, 16, .inl (fun _ => 0))), (z7, .inl (dB, 16, .inl (fun _ => 0))), (z8, .inl (dB, 96, .inl (fun _ => 0))), (z9, .inl (dZ, 96, .inl (fun _ => 0))), (z10, .inl (dN, 96, .inl (fun _ => 0)))] H := hP
  have hD : va_D A [(h, .inr (0, [.ref z0, .ref z1, .ref z2, .ref z3, .int 0, .int 0, .int 0, .int 0, .int 0, .ref z4, .ref z5, .ref z6, .ref z7, .ref z8, .ref z9, .ref z10, .null])), (z0, .inl (dB, 96, .inl (fun _ => 0))), (z1, .inl (dZ, 96, .inl (fun _ => 0))), (z2, .inl (dN, 96, .inl (fun _ => 0))), (z3, .inl (dB, 96, .inl (fun _ => 0))), (z4, .inl (dB, 16, .inl (fun _ => 0))), (z5, .inl (dB, 16, .inl (fun _ => 0))), (z6, .inl (dB, 16, .inl (fun _ => 0))), (z7, .inl (dB, 16, .inl (fun _ => 0))), (z8, .inl (dB, 96, .inl (fun _ => 0))), (z9, .inl (dZ, 96, .inl (fun _ => 0))), (z10, .inl (dN, 96, .inl (fun _ => 0)))] := hD
  refine lv_aload_n hx hb dX0_init_92 rfl (lv_at hl 0 rfl) ?_
  refine lv_bipush (v := nI 96) hx hb dX0_init_93 (by decide) ?_
  refine va_newa hx hb (atype := .byte) (hts _ q74) rfl hK hP hD hS hA (N' := 96) (a0 := (96, .inl (fun _ => 0))) (fun _ => rfl) (by decide) (by decide) (by decide) (Nat.le_of_ble_eq_true rfl) (Nat.le_of_ble_eq_true rfl) dX0_init_95 (fun z11 cA H hK hP hD hS => ?_)
  obtain rfl : dB = cA := Option.some.inj ((va_nm_byte (hK.2 0 (dB, .byte) rfl).2).symm.trans (va_nm_byte (hK.2 3 (cA, .byte) rfl).2))
  have hK : va_K (dC, dI) ls_C [(dB, .byte), (dZ, .boolean), (dN, .int)] s := hK.sub [0, 1, 2] rfl
  have hP : va_P (dC, dI) ls_C [(h, .inr (0, [.ref z0, .ref z1, .ref z2, .ref z3, .int 0, .int 0, .int 0, .int 0, .int 0, .ref z4, .ref z5, .ref z6, .ref z7, .ref z8, .ref z9, .ref z10, .null])), (z0, .inl (dB, 96, .inl (fun _ => 0))), (z1, .inl (dZ, 96, .inl (fun _ => 0))), (z2, .inl (dN, 96, .inl (fun _ => 0))), (z3, .inl (dB, 96, .inl (fun _ => 0))), (z4, .inl (dB, 16, .inl (fun _ => 0))), (z5, .inl (dB, 16, .inl (fun _ => 0))), (z6, .inl (dB, 16, .inl (fun _ => 0))), (z7, .inl (dB, 16, .inl (fun _ => 0))), (z8, .inl (dB, 96, .inl (fun _ => 0))), (z9, .inl (dZ, 96, .inl (fun _ => 0))), (z10, .inl (dN, 96, .inl (fun _ => 0))), (z11, .inl (dB, 96, .inl (fun _ => 0)))] H := hP
  have hD : va_D A [(h, .inr (0, [.ref z0, .ref z1, .ref z2, .ref z3, .int 0, .int 0, .int 0, .int 0, .int 0, .ref z4, .ref z5, .ref z6, .ref z7, .ref z8, .ref z9, .ref z10, .null])), (z0, .inl (dB, 96, .inl (fun _ => 0))), (z1, .inl (dZ, 96, .inl (fun _ => 0))), (z2, .inl (dN, 96, .inl (fun _ => 0))), (z3, .inl (dB, 96, .inl (fun _ => 0))), (z4, .inl (dB, 16, .inl (fun _ => 0))), (z5, .inl (dB, 16, .inl (fun _ => 0))), (z6, .inl (dB, 16, .inl (fun _ => 0))), (z7, .inl (dB, 16, .inl (fun _ => 0))), (z8, .inl (dB, 96, .inl (fun _ => 0))), (z9, .inl (dZ, 96, .inl (fun _ => 0))), (z10, .inl (dN, 96, .inl (fun _ => 0))), (z11, .inl (dB, 96, .inl (fun _ => 0)))] := hD
  refine W.widen (k := 12) (n := 832) (by omega) (by omega) ?_
  refine va_putF (D := (dC, dI)) (ci := 0) (v := .ref z11) (ty := .array .byte) (C := RX0) (T := TX0) (N := 17) hx hb hts in_X0 tyX0 tyX0_ok nmX0 hown hK hP hD hS 0 rfl rfl 16 (by decide) (hts _ q38) (fun _ h9 => h9) rfl hin rfl (by decide +kernel) rfl rfl (Nat.le_of_ble_eq_true rfl) dX0_init_97 (fun H locs hP hD hS => ?_)
  have hP : va_P (dC, dI) ls_C [(h, .inr (0, [.ref z0, .ref z1, .ref z2, .ref z3, .int 0, .int 0, .int 0, .int 0, .int 0, .ref z4, .ref z5, .ref z6, .ref z7, .ref z8, .ref z9, .ref z10, .ref z11])), (z0, .inl (dB, 96, .inl (fun _ => 0))), (z1, .inl (dZ, 96, .inl (fun _ => 0))), (z2, .inl (dN, 96, .inl (fun _ => 0))), (z3, .inl (dB, 96, .inl (fun _ => 0))), (z4, .inl (dB, 16, .inl (fun _ => 0))), (z5, .inl (dB, 16, .inl (fun _ => 0))), (z6, .inl (dB, 16, .inl (fun _ => 0))), (z7, .inl (dB, 16, .inl (fun _ => 0))), (z8, .inl (dB, 96, .inl (fun _ => 0))), (z9, .inl (dZ, 96, .inl (fun _ => 0))), (z10, .inl (dN, 96, .inl (fun _ => 0))), (z11, .inl (dB, 96, .inl (fun _ => 0)))] H := hP
  have hD : va_D A [(h, .inr (0, [.ref z0, .ref z1, .ref z2, .ref z3, .int 0, .int 0, .int 0, .int 0, .int 0, .ref z4, .ref z5, .ref z6, .ref z7, .ref z8, .ref z9, .ref z10, .ref z11])), (z0, .inl (dB, 96, .inl (fun _ => 0))), (z1, .inl (dZ, 96, .inl (fun _ => 0))), (z2, .inl (dN, 96, .inl (fun _ => 0))), (z3, .inl (dB, 96, .inl (fun _ => 0))), (z4, .inl (dB, 16, .inl (fun _ => 0))), (z5, .inl (dB, 16, .inl (fun _ => 0))), (z6, .inl (dB, 16, .inl (fun _ => 0))), (z7, .inl (dB, 16, .inl (fun _ => 0))), (z8, .inl (dB, 96, .inl (fun _ => 0))), (z9, .inl (dZ, 96, .inl (fun _ => 0))), (z10, .inl (dN, 96, .inl (fun _ => 0))), (z11, .inl (dB, 96, .inl (fun _ => 0)))] := hD
  obtain ⟨a, ha⟩ : ∃ a : Nat → Nat, a = fun k => [z0, z1, z2, z3, z4, z5, z6, z7, z8, z9, z10, z11].getD k 0 := ⟨_, rfl⟩
  have hP : va_P (dC, dI) ls_C (ls_W h a dB dZ dN (fun _ => 0) (fun _ => 0) (fun _ => 0) (fun _ => 0) 0 0 0 0 0 (fun _ => 0) (fun _ => 0) (fun _ => 0) (fun _ => 0) (fun _ => 0) (fun _ => 0) (fun _ => 0) (fun _ => 0)) H := by rw [ha]; exact hP
  have hD : va_D A (ls_W h a dB dZ dN (fun _ => 0) (fun _ => 0) (fun _ => 0) (fun _ => 0) 0 0 0 0 0 (fun _ => 0) (fun _ => 0) (fun _ => 0) (fun _ => 0) (fun _ => 0) (fun _ => 0) (fun _ => 0) (fun _ => 0)) := by rw [ha]; exact hD
  have hK : va_K (dC, dI) ls_C (ls_T dB dZ dN) s := hK
  have loop : ∀ (f i : Nat) (la : Nat → Int32) (H : Heap) (locs : List Loc) (ls : Array Slot), i ≤ 16 → 17 ≤ i + f → (∀ j, j < i → la j = -1) → va_P (dC, dI) ls_C (ls_W h a dB dZ dN (fun _ => 0) (fun _ => 0) (fun _ => 0) (fun _ => 0) 0 0 0 0 0 la (fun _ => 0) (fun _ => 0) (fun _ => 0) (fun _ => 0) (fun _ => 0) (fun _ => 0) (fun _ => 0)) H → va_D A (ls_W h a dB dZ dN (fun _ => 0) (fun _ => 0) (fun _ => 0) (fun _ => 0) 0 0 0 0 0 la (fun _ => 0) (fun _ => 0) (fun _ => 0) (fun _ => 0) (fun _ => 0) (fun _ => 0) (fun _ => 0)) → va_S A s.heap H locs → lv_has ls 2 [(0, .ref h), (1, .int (nI i))] → W p l e (headSpec (ws_ yX0_init cX0_init 2 none) ({ frames := 1, cells := 12, slots := 832, locals := 12 } : Room)).room s m ([.ref h] : List Value).toArray below meth c H locs 12 832 (MQ below (va_Qv (fun (_ : Unit) => True) (fun _ t => ∃ (a : Nat → Nat) (dB dZ dN : ClassId) (K : Nat → Int32) (X : Nat → Int32) (V : Nat → Int32) (E : Nat → Int32) (en : Int32) (se : Int32) (op : Int32) (os : Int32) (oc : Int32) (la : Nat → Int32) (ks : Nat → Int32) (kl : Nat → Int32) (ko : Nat → Int32) (nk : Nat → Int32) (nr : Nat → Int32) (nv : Nat → Int32) (ne : Nat → Int32), va_P (dC, dI) ls_C (ls_W h a dB dZ dN K X V E en se op os oc la ks kl ko nk nr nv ne) t.heap ∧ va_K (dC, dI) ls_C (ls_T dB dZ dN) t ∧ va_D A (ls_W h a dB dZ dN K X V E en se op os oc la ks kl ko nk nr nv ne) ∧ ls_R 96 K X V E la en se op os oc (fun _ => none) (fun _ => none) (fun _ => none) false 0) A) ([.ref h] : List Value).toArray s 12 832 A) (F0 m 102 ls []) := by
    intro f
    induction f with
    | zero => intro i la H locs ls h1 h2; omega
    | succ f ih =>
      intro i la H locs ls h1 h2 hv hP hD hS hl
      refine lv_iload_n hx hb dX0_init_102 rfl (lv_at hl 1 rfl) ?_
      refine lv_bipush (v := nI 16) hx hb dX0_init_103 (by decide) ?_
      refine ls_ige (tgt := 121) hx hb (by omega) (by omega) dX0_init_105 (by decide) (fun c1 => ?_) (fun c1 => ?_)
      · skip
        have hfin : ls_R 96 (fun _ => 0) (fun _ => 0) (fun _ => 0) (fun _ => 0) la 0 0 0 0 0 (fun _ => none) (fun _ => none) (fun _ => none) false 0 := ⟨rfl, 0, 0, 0, rfl, rfl, by omega, by omega, by omega, fun z => (by cases z), fun _ => ⟨rfl, rfl, rfl⟩, ls_ok_0 (fun j hj => hv j (by omega)), fun _ _ => rfl, fun _ _ => rfl, fun _ _ => rfl⟩
        exact W.vret hx hb hr (fun t ht hW => ⟨⟨(), rfl, trivial, _, _, _, _, _, _, _, _, _, _, _, _, _, _, _, _, _, _, _, _, _, by rw [ht]; exact hP, va_K.moved hW.alike hK, hD, hfin⟩, hS.F ht⟩) hS.2.2 dX0_init_121
      · skip
        refine lv_aload_n hx hb dX0_init_108 rfl (lv_at hl 0 rfl) ?_
        refine ls_g9 S hK hP dX0_init_109 ?_
        refine lv_iload_n hx hb dX0_init_112 rfl (lv_at hl 1 rfl) ?_
        refine lv_iconst (v := (-1)) hx hb dX0_init_113 (by decide) ?_
        refine ls_s4 S hK hP hD hS c1 (vp_nar_byte (-1)) dX0_init_114 (fun H locs hP hD hS => ?_)
        refine lv_iinc (v := nI (i + 1)) (lv' := [(1, .int (nI (i + 1))), (0, .ref h)]) hx hb dX0_init_115 hl (k := 1) rfl (ls_inc i) (by decide) rfl (fun ls hl => ?_)
        refine lv_goto (tgt := 102) hx hb dX0_init_118 (by decide) ?_
        refine ih (i + 1) _ _ _ ls (by omega) (by omega) (fun j hj => ?_) hP hD hS (lv_sub hl [1, 0] rfl)
        by_cases e0 : j = i
        · rw [e0, pk_us]; rfl
        · rw [pk_un e0]; exact hv j (by omega)
  refine lv_iconst (v := nI 0) hx hb dX0_init_100 (by decide) ?_
  refine lv_istore_n (lv' := [(1, .int (nI 0)), (0, .ref h)]) hx hb dX0_init_101 rfl hl (by decide) rfl (fun ls hl => ?_)
  exact loop 17 0 _ _ _ ls (by omega) (by omega) (fun j hj => by omega) hP hD hS (lv_sub hl [1, 0] rfl)
end
section
/-! THE PLAIN LAW, second half: masks and values represent the same abstract state -/
def ml_v (y : Int32) (f : Nat → Int32) (j : Nat) : Option Int32 := if bt y j = true then some (f j) else none
def ml_b (y : Int32) : Prop := ∀ i, 16 ≤ i → i < 32 → bt y i = false
def ml_R (ky bk kp op cg : Int32) (vv bv kv : Nat → Int32) (cu ba sa : Nat → Option Int32) (o : Bool) (ch : Int32) : Prop :=
  (∀ j, j < 16 → ml_v ky vv j = cu j) ∧ (∀ j, j < 16 → ml_v bk bv j = ba j) ∧ (∀ j, j < 16 → ml_v kp kv j = sa j) ∧ ml_b ky ∧ ml_b bk ∧ ml_b kp ∧ (o = true → op = 1 ∧ cg = ch) ∧ (o = false → op = 0 ∧ ch = 0)
theorem ml_v_t {y : Int32} {f : Nat → Int32} {j : Nat} (h : bt y j = true) : ml_v y f j = some (f j) := by unfold ml_v; rw [if_pos h]
theorem ml_v_f {y : Int32} {f : Nat → Int32} {j : Nat} (h : ¬ bt y j = true) : ml_v y f j = none := by unfold ml_v; rw [if_neg h]
theorem ml_v_c {y : Int32} {f g : Nat → Int32} {j : Nat} (h : g j = f j) : ml_v y g j = ml_v y f j := by unfold ml_v; rw [h]
theorem ml_b_0 : ml_b 0 := fun i _ _ => b_0 i
theorem ml_v_0 {f : Nat → Int32} {j : Nat} : ml_v 0 f j = none := ml_v_f (by rw [b_0]; decide)
theorem ml_R_0 : ml_R 0 0 0 0 0 (fun _ => 0) (fun _ => 0) (fun _ => 0) (fun _ => none) (fun _ => none) (fun _ => none) false 0 :=
  ⟨fun _ _ => ml_v_0, fun _ _ => ml_v_0, fun _ _ => ml_v_0, ml_b_0, ml_b_0, ml_b_0, fun z => (by cases z), fun _ => ⟨rfl, rfl⟩⟩
theorem ml_has_t {ky : Int32} {vv : Nat → Int32} {cu : Nat → Option Int32} {j : Nat} (hj : j < 16) (h : ml_v ky vv j = cu j) (hb : bt ky j = true) : ls_has cu (nI j) = 1 := by
  rw [ls_has_j hj, ← h, ml_v_t hb]; rfl
theorem ml_has_f {ky : Int32} {vv : Nat → Int32} {cu : Nat → Option Int32} {j : Nat} (hj : j < 16) (h : ml_v ky vv j = cu j) (hb : ¬ bt ky j = true) : ls_has cu (nI j) = 0 := by
  rw [ls_has_j hj, ← h, ml_v_f hb]; rfl
theorem ml_put {ky bk kp op cg v : Int32} {vv bv kv : Nat → Int32} {cu ba sa : Nat → Option Int32} {o : Bool} {ch : Int32} {j : Nat} (hj : j < 16) (h : ml_R ky bk kp op cg vv bv kv cu ba sa o ch) : ml_R (ky ||| ((1 : Int32) <<< (nI j &&& 31))) bk kp op cg (upd vv j v) bv kv (ls_up cu j (some v)) ba sa o ch := by
  obtain ⟨h1, h2, h3, h4, h5, h6, h7, h8⟩ := h
  refine ⟨fun i hi => ?_, h2, h3, fun i hi hi2 => ?_, h5, h6, h7, h8⟩
  · unfold ml_v
    rw [ls_bset ky hj (by omega)]
    by_cases e : i = j
    · rw [e, ls_up_s, pk_us, if_pos (by simp)]
    · rw [ls_up_n e, pk_un e, ← h1 i hi]
      unfold ml_v
      simp [e]
  · rw [ls_bset ky hj hi2, h4 i hi hi2]
    simp
    omega
theorem ml_rem {ky bk kp op cg : Int32} {vv bv kv : Nat → Int32} {cu ba sa : Nat → Option Int32} {o : Bool} {ch : Int32} {j : Nat} (hj : j < 16) (h : ml_R ky bk kp op cg vv bv kv cu ba sa o ch) : ml_R (ky &&& (((1 : Int32) <<< (nI j &&& 31)) ^^^ (-1))) bk kp op cg vv bv kv (ls_up cu j none) ba sa o ch := by
  obtain ⟨h1, h2, h3, h4, h5, h6, h7, h8⟩ := h
  refine ⟨fun i hi => ?_, h2, h3, fun i hi hi2 => ?_, h5, h6, h7, h8⟩
  · unfold ml_v
    rw [ls_bclr ky hj (by omega)]
    by_cases e : i = j
    · rw [e, ls_up_s, if_neg (by simp)]
    · rw [ls_up_n e, ← h1 i hi]
      unfold ml_v
      simp [e]
  · rw [ls_bclr ky hj hi2, h4 i hi hi2]
    rfl
theorem ml_ct {ky : Int32} {vv : Nat → Int32} {cu : Nat → Option Int32} {i : Nat} (hi : i < 16) (h : ml_v ky vv i = cu i) : nI (ls_ct cu i) + ((ky >>> (nI i &&& 31)) &&& 1) = nI (ls_ct cu (i + 1)) := by
  rw [ls_bit ky hi, ls_ct_s, ← h]
  by_cases hb : bt ky i = true
  · rw [if_pos hb, ml_v_t hb]; exact nI_1 _
  · rw [if_neg hb, ml_v_f hb]; exact Int32.add_zero _
theorem ml_mk {kp : Int32} {kv : Nat → Int32} {sa : Nat → Option Int32} (h : ∀ j, j < 16 → ml_v kp kv j = sa j) (hb : ml_b kp) : ls_mk (fun j => (sa j).isSome) kp := by
  intro i hi
  by_cases e : i < 16
  · show bt kp i = (decide (i < 16) && (sa i).isSome)
    rw [← h i e]
    by_cases hb : bt kp i = true
    · rw [ml_v_t hb, hb]; simp [e]
    · rw [ml_v_f hb]
      simp at hb
      simp [hb]
  · rw [hb i (by omega) hi]
    simp [e]
/-- the mask of what differs, under making -/
def ml_mu (f : Nat → Bool) (ky kp : Int32) (i : Nat) (r : Int32) : Prop := ∀ b, b < 32 → bt r b = if b < i then f b else (bt ky b ^^ bt kp b)
theorem ml_mu_0 {f : Nat → Bool} {ky kp : Int32} : ml_mu f ky kp 0 (ky ^^^ kp) := fun b _ => by rw [b_xor, if_neg (by omega)]
theorem ml_mu_t {f : Nat → Bool} {ky kp r : Int32} {i : Nat} (h : ml_mu f ky kp i r) (hi : i < 16) (hf : f i = true) : ml_mu f ky kp (i + 1) (r ||| ((1 : Int32) <<< (nI i &&& 31))) := fun b hb => by
  rw [ls_bset r hi hb, h b hb]
  by_cases e : b = i
  · rw [e, if_pos (Nat.lt_succ_self i), hf]; simp
  · by_cases e2 : b < i
    · rw [if_pos e2, if_pos (by omega)]; simp [e]
    · rw [if_neg e2, if_neg (by omega)]; simp [e]
theorem ml_mu_s {f : Nat → Bool} {ky kp r : Int32} {i : Nat} (h : ml_mu f ky kp i r) (hf : f i = (bt ky i ^^ bt kp i)) : ml_mu f ky kp (i + 1) r := fun b hb => by
  rw [h b hb]
  by_cases e : b = i
  · rw [e, if_neg (Nat.lt_irrefl i), if_pos (Nat.lt_succ_self i), hf]
  · by_cases e2 : b < i
    · rw [if_pos e2, if_pos (by omega)]
    · rw [if_neg e2, if_neg (by omega)]
theorem ml_mu_e {f : Nat → Bool} {ky kp r : Int32} (h : ml_mu f ky kp 16 r) (h1 : ml_b ky) (h2 : ml_b kp) : ls_mk f r := fun i hi => by
  rw [h i hi]
  by_cases e : i < 16
  · rw [if_pos e]; simp [e]
  · rw [if_neg e, h1 i (by omega) hi, h2 i (by omega) hi]; simp [e]
theorem ml_settle {ky bk kp op cg : Int32} {vv bv kv bv' : Nat → Int32} {cu ba sa : Nat → Option Int32} {o : Bool} {ch : Int32} (h : ml_R ky bk kp op cg vv bv kv cu ba sa o ch) (hv : ∀ j, j < 16 → bv' j = vv j) : ml_R ky ky kp op cg vv bv' kv cu cu sa o ch := by
  obtain ⟨h1, h2, h3, h4, h5, h6, h7, h8⟩ := h
  exact ⟨h1, fun j hj => by rw [ml_v_c (hv j hj)]; exact h1 j hj, h3, h4, h4, h6, h7, h8⟩
theorem ml_back {ky bk kp op cg : Int32} {vv bv kv vv' : Nat → Int32} {cu ba sa : Nat → Option Int32} {o : Bool} {ch : Int32} (h : ml_R ky bk kp op cg vv bv kv cu ba sa o ch) (hv : ∀ j, j < 16 → vv' j = bv j) : ml_R bk bk kp op cg vv' bv kv ba ba sa o ch := by
  obtain ⟨h1, h2, h3, h4, h5, h6, h7, h8⟩ := h
  exact ⟨fun j hj => by rw [ml_v_c (hv j hj)]; exact h2 j hj, h2, h3, h5, h5, h6, h7, h8⟩
theorem ml_sync {ky bk kp op cg : Int32} {vv bv kv kv' : Nat → Int32} {cu ba sa : Nat → Option Int32} {o : Bool} {ch : Int32} (h : ml_R ky bk kp op cg vv bv kv cu ba sa o ch) (hv : ∀ j, j < 16 → kv' j = bv j) : ml_R ky bk bk op cg vv bv kv' cu ba ba o ch := by
  obtain ⟨h1, h2, h3, h4, h5, h6, h7, h8⟩ := h
  exact ⟨h1, h2, fun j hj => by rw [ml_v_c (hv j hj)]; exact h2 j hj, h4, h5, h5, h7, h8⟩
theorem ml_unkeep {ky bk kp op cg : Int32} {vv bv kv bv' : Nat → Int32} {cu ba sa : Nat → Option Int32} {o : Bool} {ch : Int32} (h : ml_R ky bk kp op cg vv bv kv cu ba sa o ch) (hv : ∀ j, j < 16 → bv' j = kv j) : ml_R ky kp kp 0 cg vv bv' kv cu sa sa false 0 := by
  obtain ⟨h1, h2, h3, h4, h5, h6, h7, h8⟩ := h
  exact ⟨h1, fun j hj => by rw [ml_v_c (hv j hj)]; exact h3 j hj, h3, h4, h6, h6, fun z => (by cases z), fun _ => ⟨rfl, rfl⟩⟩
theorem ml_shut {ky bk kp op cg : Int32} {vv bv kv : Nat → Int32} {cu ba sa : Nat → Option Int32} {o : Bool} {ch : Int32} (h : ml_R ky bk kp op cg vv bv kv cu ba sa o ch) : ml_R ky bk kp 0 cg vv bv kv cu ba sa false 0 := by
  obtain ⟨h1, h2, h3, h4, h5, h6, h7, h8⟩ := h
  exact ⟨h1, h2, h3, h4, h5, h6, fun z => (by cases z), fun _ => ⟨rfl, rfl⟩⟩
theorem ls_15 {k : Int32} (h : nI 16 ≤ k) : nI 15 < k := Int32.lt_of_lt_of_le (nI_lt (by omega) (by omega)) h
end
section
set_option maxRecDepth 100000
abbrev ml_B (dC : Nat → ClassId) (dI : Nat → Nat → Nat) (h : Nat) (a : Nat → Nat) (dB dZ dN : ClassId) (A : Nat → Prop) (cu ba sa : Nat → Option Int32) (o : Bool) (ch : Int32) (t : State) : Prop := ∃ (ky bk kp op cg : Int32) (vv bv kv : Nat → Int32), va_P (dC, dI) ls_C (ml_W h a dN ky bk kp op cg vv bv kv) t.heap ∧ va_K (dC, dI) ls_C (ls_T dB dZ dN) t ∧ va_D A (ml_W h a dN ky bk kp op cg vv bv kv) ∧ ml_R ky bk kp op cg vv bv kv cu ba sa o ch
set_option maxHeartbeats 4000000 in
set_option maxRecDepth 100000 in
/-- LogStoreModel(): no key, nothing runs -/
theorem mt1_init {l : Launch} {dC : Nat → ClassId} {dI : Nat → Nat → Nat} {h sz : Nat} : Met l yX1_init (ws_ yX1_init cX1_init 1 none) ({ frames := 1, cells := 3, slots := 48, locals := 12 } : Room) (va_Pc [.ref h] (fun U => U.heap.size = sz ∧ va_P (dC, dI) ls_C [(h, .inr (1, [.int 0, .int 0, .int 0, .null, .null, .null, .int 0, .int 0]))] U.heap ∧ va_K (dC, dI) ls_C [] U ∧ va_D (fun _ => True) [(h, .inr (1, [.int 0, .int 0, .int 0, .null, .null, .null, .int 0, .int 0]))])) (va_Qv (fun (_ : Unit) => True) (fun _ t => ∃ (a : Nat → Nat) (dN : ClassId) (ky : Int32) (bk : Int32) (kp : Int32) (op : Int32) (cg : Int32) (vv : Nat → Int32) (bv : Nat → Int32) (kv : Nat → Int32), va_P (dC, dI) ls_C (ml_W h a dN ky bk kp op cg vv bv kv) t.heap ∧ va_K (dC, dI) ls_C [(dN, .int)] t ∧ va_D (va_A [(h, .inr (1, [.int 0, .int 0, .int 0, .null, .null, .null, .int 0, .int 0]))] sz) (ml_W h a dN ky bk kp op cg vv bv kv) ∧ ml_R ky bk kp op cg vv bv kv (fun _ => none) (fun _ => none) (fun _ => none) false 0) (va_A [(h, .inr (1, [.int 0, .int 0, .int 0, .null, .null, .null, .int 0, .int 0]))] sz)) 3 48 (va_A [(h, .inr (1, [.int 0, .int 0, .int 0, .null, .null, .null, .int 0, .int 0]))] sz) := by
  refine Met.ofW (cc := cX1_init) (maxL := 1) (ret := none) (by decide) rfl ?_
  intro p e s m args below meth c s₁ B hml hv
  obtain ⟨rfl, hsz, hP, hK, hD0⟩ := hv
  have hx := B.exec
  have hb := B.bytes
  have hr := B.returns
  have hts := atoms_spec (ws := (ws_ yX1_init cX1_init 1 none)) B.pre
  have hts : ∀ w ∈ lw_all, w.before _ s = true := fun w h => hts w (List.mem_cons_of_mem _ h)
  have hown : s.vm.findClass RX1 = some m.cls := findClass_of_methodNamed B.named
  have hlocks := B.notSynchronized
  have hin : meth.name = "<init>" := (name_of_methodNamed B.named B.method).1
  have S : CallFix p m c cX1_init 1 s _ lw_all RX1 := ⟨hx, hb, hml, hown, hts⟩
  subst hsz
  have hD := hD0.self (sz := s.heap.size)
  generalize hAe : va_A [(h, .inr (1, [.int 0, .int 0, .int 0, .null, .null, .null, .int 0, .int 0]))] s.heap.size = A at hD ⊢
  have hA : ∀ q : Nat, s.heap.size ≤ q → A q := fun q h => by rw [← hAe]; exact Or.inr h
  have hS : va_S A s.heap s.heap [] := va_S.rf
  have hl := lv_entry ([.ref h]) (n := 1) (Nat.le_of_ble_eq_true rfl)
  rw [lg_entry_eq]
  generalize (lg_sl ([.ref h]) ++ List.replicate (1 - (lg_sl ([.ref h])).length) Slot.unset).toArray = ls at hl ⊢
  have hl : lv_has ls 1 [(0, .ref h)] := hl
  refine lv_aload_n hx hb dX1_init_0 rfl (lv_at hl 0 rfl) ?_
  refine W.objInit hx hb hown (hts _ q178) (hts _ q20) (hts _ q21) rfl (by rw [hml]; exact hl.1) rfl dX1_init_1 (Nat.le_of_ble_eq_true rfl) (Nat.le_of_ble_eq_true rfl) ?_
  refine W.eq (g2 := F0 m 4 ls []) rfl ?_
  refine lv_aload_n hx hb dX1_init_4 rfl (lv_at hl 0 rfl) ?_
  refine lv_bipush (v := nI 16) hx hb dX1_init_5 (by decide) ?_
  refine va_newa hx hb (atype := .int) (hts _ q76) rfl hK hP hD hS hA (N' := 16) (a0 := (16, .inl (fun _ => 0))) (fun _ => rfl) (by decide) (by decide) (by decide) (Nat.le_of_ble_eq_true rfl) (Nat.le_of_ble_eq_true rfl) dX1_init_7 (fun z0 dN H hK hP hD hS => ?_)
  have hK : va_K (dC, dI) ls_C [(dN, .int)] s := hK
  have hP : va_P (dC, dI) ls_C [(h, .inr (1, [.int 0, .int 0, .int 0, .null, .null, .null, .int 0, .int 0])), (z0, .inl (dN, 16, .inl (fun _ => 0)))] H := hP
  have hD : va_D A [(h, .inr (1, [.int 0, .int 0, .int 0, .null, .null, .null, .int 0, .int 0])), (z0, .inl (dN, 16, .inl (fun _ => 0)))] := hD
  refine W.widen (k := 1) (n := 16) (by omega) (by omega) ?_
  refine va_put (D := (dC, dI)) (ci := 1) (v := .ref z0) (ty := .array .int) (C := RX1) (T := TX1) (N := 8) hx hb hts in_X1 tyX1 tyX1_ok nmX1 hown hK hP hD hS 0 rfl rfl 3 (by decide) (hts _ q182) (fun _ h9 => h9) rfl (by decide +kernel) rfl rfl (Nat.le_of_ble_eq_true rfl) dX1_init_9 (fun H locs hP hD hS => ?_)
  have hP : va_P (dC, dI) ls_C [(h, .inr (1, [.int 0, .int 0, .int 0, .ref z0, .null, .null, .int 0, .int 0])), (z0, .inl (dN, 16, .inl (fun _ => 0)))] H := hP
  have hD : va_D A [(h, .inr (1, [.int 0, .int 0, .int 0, .ref z0, .null, .null, .int 0, .int 0])), (z0, .inl (dN, 16, .inl (fun _ => 0)))] := hD
  refine lv_aload_n hx hb dX1_init_12 rfl (lv_at hl 0 rfl) ?_
  refine lv_bipush (v := nI 16) hx hb dX1_init_13 (by decide) ?_
  refine va_newa hx hb (atype := .int) (hts _ q76) rfl hK hP hD hS hA (N' := 16) (a0 := (16, .inl (fun _ => 0))) (fun _ => rfl) (by decide) (by decide) (by decide) (Nat.le_of_ble_eq_true rfl) (Nat.le_of_ble_eq_true rfl) dX1_init_15 (fun z1 cA H hK hP hD hS => ?_)
  obtain rfl : dN = cA := Option.some.inj ((va_nm_int (hK.2 0 (dN, .int) rfl).2).symm.trans (va_nm_int (hK.2 1 (cA, .int) rfl).2))
  have hK : va_K (dC, dI) ls_C [(dN, .int)] s := hK.sub [0] rfl
  have hP : va_P (dC, dI) ls_C [(h, .inr (1, [.int 0, .int 0, .int 0, .ref z0, .null, .null, .int 0, .int 0])), (z0, .inl (dN, 16, .inl (fun _ => 0))), (z1, .inl (dN, 16, .inl (fun _ => 0)))] H := hP
  have hD : va_D A [(h, .inr (1, [.int 0, .int 0, .int 0, .ref z0, .null, .null, .int 0, .int 0])), (z0, .inl (dN, 16, .inl (fun _ => 0))), (z1, .inl (dN, 16, .inl (fun _ => 0)))] := hD
  refine W.widen (k := 2) (n := 32) (by omega) (by omega) ?_
  refine va_put (D := (dC, dI)) (ci := 1) (v := .ref z1) (ty := .array .int) (C := RX1) (T := TX1) (N := 8) hx hb hts in_X1 tyX1 tyX1_ok nmX1 hown hK hP hD hS 0 rfl rfl 4 (by decide) (hts _ q183) (fun _ h9 => h9) rfl (by decide +kernel) rfl rfl (Nat.le_of_ble_eq_true rfl) dX1_init_17 (fun H locs hP hD hS => ?_)
  have hP : va_P (dC, dI) ls_C [(h, .inr (1, [.int 0, .int 0, .int 0, .ref z0, .ref z1, .null, .int 0, .int 0])), (z0, .inl (dN, 16, .inl (fun _ => 0))), (z1, .inl (dN, 16, .inl (fun _ => 0)))] H := hP
  have hD : va_D A [(h, .inr (1, [.int 0, .int 0, .int 0, .ref z0, .ref z1, .null, .int 0, .int 0])), (z0, .inl (dN, 16, .inl (fun _ => 0))), (z1, .inl (dN, 16, .inl (fun _ => 0)))] := hD
  refine lv_aload_n hx hb dX1_init_20 rfl (lv_at hl 0 rfl) ?_
  refine lv_bipush (v := nI 16) hx hb dX1_init_21 (by decide) ?_
  refine va_newa hx hb (atype := .int) (hts _ q76) rfl hK hP hD hS hA (N' := 16) (a0 := (16, .inl (fun _ => 0))) (fun _ => rfl) (by decide) (by decide) (by decide) (Nat.le_of_ble_eq_true rfl) (Nat.le_of_ble_eq_true rfl) dX1_init_23 (fun z2 cA H hK hP hD hS => ?_)
  obtain rfl : dN = cA := Option.some.inj ((va_nm_int (hK.2 0 (dN, .int) rfl).2).symm.trans (va_nm_int (hK.2 1 (cA, .int) rfl).2))
  have hK : va_K (dC, dI) ls_C [(dN, .int)] s := hK.sub [0] rfl
  have hP : va_P (dC, dI) ls_C [(h, .inr (1, [.int 0, .int 0, .int 0, .ref z0, .ref z1, .null, .int 0, .int 0])), (z0, .inl (dN, 16, .inl (fun _ => 0))), (z1, .inl (dN, 16, .inl (fun _ => 0))), (z2, .inl (dN, 16, .inl (fun _ => 0)))] H := hP
  have hD : va_D A [(h, .inr (1, [.int 0, .int 0, .int 0, .ref z0, .ref z1, .null, .int 0, .int 0])), (z0, .inl (dN, 16, .inl (fun _ => 0))), (z1, .inl (dN, 16, .inl (fun _ => 0))), (z2, .inl (dN, 16, .inl (fun _ => 0)))] := hD
  refine W.widen (k := 3) (n := 48) (by omega) (by omega) ?_
  refine va_put (D := (dC, dI)) (ci := 1) (v := .ref z2) (ty := .array .int) (C := RX1) (T := TX1) (N := 8) hx hb hts in_X1 tyX1 tyX1_ok nmX1 hown hK hP hD hS 0 rfl rfl 5 (by decide) (hts _ q184) (fun _ h9 => h9) rfl (by decide +kernel) rfl rfl (Nat.le_of_ble_eq_true rfl) dX1_init_25 (fun H locs hP hD hS => ?_)
  have hP : va_P (dC, dI) ls_C [(h, .inr (1, [.int 0, .int 0, .int 0, .ref z0, .ref z1, .ref z2, .int 0, .int 0])), (z0, .inl (dN, 16, .inl (fun _ => 0))), (z1, .inl (dN, 16, .inl (fun _ => 0))), (z2, .inl (dN, 16, .inl (fun _ => 0)))] H := hP
  have hD : va_D A [(h, .inr (1, [.int 0, .int 0, .int 0, .ref z0, .ref z1, .ref z2, .int 0, .int 0])), (z0, .inl (dN, 16, .inl (fun _ => 0))), (z1, .inl (dN, 16, .inl (fun _ => 0))), (z2, .inl (dN, 16, .inl (fun _ => 0)))] := hD
  obtain ⟨a, ha⟩ : ∃ a : Nat → Nat, a = fun k => [z0, z1, z2].getD k 0 := ⟨_, rfl⟩
  have hP : va_P (dC, dI) ls_C (ml_W h a dN 0 0 0 0 0 (fun _ => 0) (fun _ => 0) (fun _ => 0)) H := by rw [ha]; exact hP
  have hD : va_D A (ml_W h a dN 0 0 0 0 0 (fun _ => 0) (fun _ => 0) (fun _ => 0)) := by rw [ha]; exact hD
  have hfin : ml_R 0 0 0 0 0 (fun _ => 0) (fun _ => 0) (fun _ => 0) (fun _ => none) (fun _ => none) (fun _ => none) false 0 := ml_R_0
  exact W.vret hx hb hr (fun t ht hW => ⟨⟨(), rfl, trivial, _, _, _, _, _, _, _, _, _, _, by rw [ht]; exact hP, va_K.moved hW.alike hK, hD, hfin⟩, hS.F ht⟩) hS.2.2 dX1_init_28
set_option maxHeartbeats 4000000 in
set_option maxRecDepth 100000 in
/-- key(k) -/
theorem mt1_key {l : Launch} {dC : Nat → ClassId} {dI : Nat → Nat → Nat} {h : Nat} {a : Nat → Nat} {dB dZ dN : ClassId} {ky bk kp op cg : Int32} {vv bv kv : Nat → Int32} {k : Int32} : Met l yX1_key (ws_ yX1_key cX1_key 2 (some .boolean)) (ls_rm 0 0) (va_Pc [.ref h, .int k] (fun U => va_P (dC, dI) ls_C (ml_W h a dN ky bk kp op cg vv bv kv) U.heap ∧ va_K (dC, dI) ls_C (ls_T dB dZ dN) U)) (vp_Si (fun r => r = ls_kb k)) 0 0 (fun _ => False) := by
  refine Met.ofW (cc := cX1_key) (maxL := 2) (ret := (some .boolean)) (by decide) rfl ?_
  intro p e s m args below meth c s₁ B hml hv
  obtain ⟨rfl, hP, hK⟩ := hv
  have hx := B.exec
  have hb := B.bytes
  have hr := B.returns
  have hts := atoms_spec (ws := (ws_ yX1_key cX1_key 2 (some .boolean))) B.pre
  have hts : ∀ w ∈ lw_all, w.before _ s = true := fun w h => hts w (List.mem_cons_of_mem _ h)
  have hown : s.vm.findClass RX1 = some m.cls := findClass_of_methodNamed B.named
  have hlocks := B.notSynchronized
  have S : CallFix p m c cX1_key 2 s _ lw_all RX1 := ⟨hx, hb, hml, hown, hts⟩
  have hl := lv_entry ([.ref h, .int k]) (n := 2) (Nat.le_of_ble_eq_true rfl)
  rw [lg_entry_eq]
  generalize (lg_sl ([.ref h, .int k]) ++ List.replicate (2 - (lg_sl ([.ref h, .int k])).length) Slot.unset).toArray = ls at hl ⊢
  have hl : lv_has ls 2 [(0, .ref h), (1, .int k)] := hl
  rcases ls_kb_c k with ⟨h0, hk⟩ | ⟨j, hj, rfl, h1⟩
  · skip
    refine lv_iload_n hx hb dX1_key_0 rfl (lv_at hl 1 rfl) ?_
    refine lv_if_lt (tgt := 14) hx hb dX1_key_1 (by decide) (fun c1 => ?_) (fun c1 => ?_)
    · skip
      refine lv_iconst (v := 0) hx hb dX1_key_14 (by decide) ?_
      exact W.zret (v := 0) hx hb hr rfl (fun t ht hW => ⟨_, rfl, h0.symm, ht⟩) (fun q hq => by cases hq) dX1_key_15
    · skip
      refine lv_iload_n hx hb dX1_key_4 rfl (lv_at hl 1 rfl) ?_
      refine lv_bipush (v := nI 15) hx hb dX1_key_5 (by decide) ?_
      refine lv_icmp_gt (tgt := 14) hx hb dX1_key_7 (by decide) (fun c2 => ?_) (fun c2 => ?_)
      · skip
        refine lv_iconst (v := 0) hx hb dX1_key_14 (by decide) ?_
        exact W.zret (v := 0) hx hb hr rfl (fun t ht hW => ⟨_, rfl, h0.symm, ht⟩) (fun q hq => by cases hq) dX1_key_15
      · rcases hk with hk | hk
        · exact absurd hk c1
        · exact absurd (ls_15 hk) c2
  · skip
    refine lv_iload_n hx hb dX1_key_0 rfl (lv_at hl 1 rfl) ?_
    refine lv_if_lt (tgt := 14) hx hb dX1_key_1 (by decide) (fun c1 => ?_) (fun c1 => ?_)
    · exact absurd c1 (nI_pos (by omega))
    · skip
      refine lv_iload_n hx hb dX1_key_4 rfl (lv_at hl 1 rfl) ?_
      refine lv_bipush (v := nI 15) hx hb dX1_key_5 (by decide) ?_
      refine lv_icmp_gt (tgt := 14) hx hb dX1_key_7 (by decide) (fun c2 => ?_) (fun c2 => ?_)
      · exact absurd ((nI_ltI (by omega) (by omega)).mp c2) (by omega)
      · skip
        refine lv_iconst (v := 1) hx hb dX1_key_10 (by decide) ?_
        refine lv_goto (tgt := 15) hx hb dX1_key_11 (by decide) ?_
        exact W.zret (v := 1) hx hb hr rfl (fun t ht hW => ⟨_, rfl, h1.symm, ht⟩) (fun q hq => by cases hq) dX1_key_15
section
variable {p : Program} {l : Launch} {e : Env} {R : Room} {s : State} {m : MethodId} {args : Array Value} {below : List Frame} {meth : Method} {c : Code} {H : Heap} {locs : List Loc} {cells slots : Nat} {Q : State → Prop}
variable {cc : ByteArray} {nL pc : Nat} {ls : Array Slot} {rest st0 : List Value} {dC : Nat → ClassId} {dI : Nat → Nat → Nat} {A : Nat → Prop} {H0 : Heap} {dB dZ dN : ClassId}
variable {h : Nat} {a : Nat → Nat}
variable {vv bv kv : Nat → Int32} {ky bk kp op cg : Int32}
theorem ml_c_key (S : CallFix p m c cc nL s args lw_all RX1) (hK : va_K (dC, dI) ls_C (ls_T dB dZ dN) s) (hP : va_P (dC, dI) ls_C (ml_W h a dN ky bk kp op cg vv bv kv) H) (hsz : ls.size = nL) (hR : 1 ≤ R.frames ∧ 21 ≤ R.locals) (hf : cells ≤ R.cells ∧ slots ≤ R.slots) (hrm : (rest.map fun v => v.category).sum ≤ 8) (hd : decode cc pc = .ok (.invokevirtual 36, 3)) {k : Int32}
    (kk : ∀ r : Int32, r = ls_kb k → W p l e R s m args below meth c H locs cells slots Q (F0 m (pc + 3) ls (.int r :: rest))) : W p l e R s m args below meth c H locs cells slots Q (F0 m pc ls (.int k :: .ref h :: rest)) :=
  ls_rV (ci := 1) S hK hP (mt1_key ) (cwV 1 S.2.2.2.2 (lw_V q212 q214 qs7 q13 q215) rfl rfl rfl (by decide +kernel) ⟨hR.1, hR.2⟩) rfl rfl rfl hsz rfl hrm hd hf kk
end
set_option maxHeartbeats 4000000 in
set_option maxRecDepth 100000 in
/-- settle(): the state without the transaction becomes the current one -/
theorem mt1_settle {l : Launch} {dC : Nat → ClassId} {dI : Nat → Nat → Nat} {h : Nat} {a : Nat → Nat} {dB dZ dN : ClassId} {ky bk kp op cg : Int32} {vv bv kv : Nat → Int32} {sz : Nat} {cu ba sa : Nat → Option Int32} {o : Bool} {ch : Int32} (hQ : ml_R ky bk kp op cg vv bv kv cu ba sa o ch) : Met l yX1_settle (ws_ yX1_settle cX1_settle 2 none) (ls_rm 0 0) (va_Pc [.ref h] (fun U => U.heap.size = sz ∧ va_P (dC, dI) ls_C (ml_W h a dN ky bk kp op cg vv bv kv) U.heap ∧ va_K (dC, dI) ls_C (ls_T dB dZ dN) U ∧ va_D (fun _ => True) (ml_W h a dN ky bk kp op cg vv bv kv))) (va_Qv (fun (_ : Unit) => True) (fun _ t => ml_B dC dI h a dB dZ dN (va_A (ml_W h a dN ky bk kp op cg vv bv kv) sz) cu cu sa o ch t) (va_A (ml_W h a dN ky bk kp op cg vv bv kv) sz)) 0 0 (va_A (ml_W h a dN ky bk kp op cg vv bv kv) sz) := by
  refine Met.ofW (cc := cX1_settle) (maxL := 2) (ret := none) (by decide) rfl ?_
  intro p e s m args below meth c s₁ B hml hv
  obtain ⟨rfl, hsz, hP, hK, hD0⟩ := hv
  have hx := B.exec
  have hb := B.bytes
  have hr := B.returns
  have hts := atoms_spec (ws := (ws_ yX1_settle cX1_settle 2 none)) B.pre
  have hts : ∀ w ∈ lw_all, w.before _ s = true := fun w h => hts w (List.mem_cons_of_mem _ h)
  have hown : s.vm.findClass RX1 = some m.cls := findClass_of_methodNamed B.named
  have hlocks := B.notSynchronized
  have S : CallFix p m c cX1_settle 2 s _ lw_all RX1 := ⟨hx, hb, hml, hown, hts⟩
  subst hsz
  have hD := hD0.self (sz := s.heap.size)
  generalize hAe : va_A (ml_W h a dN ky bk kp op cg vv bv kv) s.heap.size = A at hD ⊢
  have hA : ∀ q : Nat, s.heap.size ≤ q → A q := fun q h => by rw [← hAe]; exact Or.inr h
  have hS : va_S A s.heap s.heap [] := va_S.rf
  have hl := lv_entry ([.ref h]) (n := 2) (Nat.le_of_ble_eq_true rfl)
  rw [lg_entry_eq]
  generalize (lg_sl ([.ref h]) ++ List.replicate (2 - (lg_sl ([.ref h])).length) Slot.unset).toArray = ls at hl ⊢
  have hl : lv_has ls 2 [(0, .ref h)] := hl
  have loop : ∀ (f i : Nat) (f1 : Nat → Int32) (H : Heap) (locs : List Loc) (ls : Array Slot), i ≤ 16 → 17 ≤ i + f → (∀ j, j < i → f1 j = vv j) → va_P (dC, dI) ls_C (ml_W h a dN ky ky kp op cg vv f1 kv) H → va_D A (ml_W h a dN ky ky kp op cg vv f1 kv) → va_S A s.heap H locs → lv_has ls 2 [(0, .ref h), (1, .int (nI i))] → W p l e (headSpec (ws_ yX1_settle cX1_settle 2 none) (ls_rm 0 0)).room s m ([.ref h] : List Value).toArray below meth c H locs 0 0 (MQ below (va_Qv (fun (_ : Unit) => True) (fun _ t => ml_B dC dI h a dB dZ dN A cu cu sa o ch t) A) ([.ref h] : List Value).toArray s 0 0 A) (F0 m 10 ls []) := by
    intro f
    induction f with
    | zero => intro i f1 H locs ls h1 h2; omega
    | succ f ih =>
      intro i f1 H locs ls h1 h2 hv hP hD hS hl
      refine lv_iload_n hx hb dX1_settle_10 rfl (lv_at hl 1 rfl) ?_
      refine lv_bipush (v := nI 16) hx hb dX1_settle_11 (by decide) ?_
      refine ls_ige (tgt := 34) hx hb (by omega) (by omega) dX1_settle_13 (by decide) (fun c1 => ?_) (fun c1 => ?_)
      · skip
        exact W.vret hx hb hr (fun t ht hW => ⟨⟨(), rfl, trivial, _, _, _, _, _, _, _, _, by rw [ht]; exact hP, va_K.moved hW.alike hK, hD, ml_settle hQ (fun j hj => hv j (by omega))⟩, hS.F ht⟩) hS.2.2 dX1_settle_34
      · skip
        refine lv_aload_n hx hb dX1_settle_16 rfl (lv_at hl 0 rfl) ?_
        refine ml_g4 S hK hP dX1_settle_17 ?_
        refine lv_iload_n hx hb dX1_settle_20 rfl (lv_at hl 1 rfl) ?_
        refine lv_aload_n hx hb dX1_settle_21 rfl (lv_at hl 0 rfl) ?_
        refine ml_g3 S hK hP dX1_settle_22 ?_
        refine lv_iload_n hx hb dX1_settle_25 rfl (lv_at hl 1 rfl) ?_
        refine ml_l0 S hK hP c1 dX1_settle_26 ?_
        refine ml_s1 S hK hP hD hS c1 dX1_settle_27 (fun H locs hP hD hS => ?_)
        refine lv_iinc (v := nI (i + 1)) (lv' := [(1, .int (nI (i + 1))), (0, .ref h)]) hx hb dX1_settle_28 hl (k := 1) rfl (ls_inc i) (by decide) rfl (fun ls hl => ?_)
        refine lv_goto (tgt := 10) hx hb dX1_settle_31 (by decide) ?_
        refine ih (i + 1) _ _ _ ls (by omega) (by omega) (fun j hj => ?_) hP hD hS (lv_sub hl [1, 0] rfl)
        by_cases e0 : j = i
        · rw [e0, pk_us]
        · rw [pk_un e0]; exact hv j (by omega)
  refine lv_aload_n hx hb dX1_settle_0 rfl (lv_at hl 0 rfl) ?_
  refine lv_aload_n hx hb dX1_settle_1 rfl (lv_at hl 0 rfl) ?_
  refine ml_g0 S hK hP dX1_settle_2 ?_
  refine ml_p1 S hK hP hD hS dX1_settle_5 (fun H locs hP hD hS => ?_)
  refine lv_iconst (v := nI 0) hx hb dX1_settle_8 (by decide) ?_
  refine lv_istore_n (lv' := [(1, .int (nI 0)), (0, .ref h)]) hx hb dX1_settle_9 rfl hl (by decide) rfl (fun ls hl => ?_)
  exact loop 17 0 _ _ _ ls (by omega) (by omega) (fun j hj => by omega) hP hD hS (lv_sub hl [1, 0] rfl)
set_option maxHeartbeats 4000000 in
set_option maxRecDepth 100000 in
/-- back(): the current state becomes the one without the transaction -/
theorem mt1_back {l : Launch} {dC : Nat → ClassId} {dI : Nat → Nat → Nat} {h : Nat} {a : Nat → Nat} {dB dZ dN : ClassId} {ky bk kp op cg : Int32} {vv bv kv : Nat → Int32} {sz : Nat} {cu ba sa : Nat → Option Int32} {o : Bool} {ch : Int32} (hQ : ml_R ky bk kp op cg vv bv kv cu ba sa o ch) : Met l yX1_back (ws_ yX1_back cX1_back 2 none) (ls_rm 0 0) (va_Pc [.ref h] (fun U => U.heap.size = sz ∧ va_P (dC, dI) ls_C (ml_W h a dN ky bk kp op cg vv bv kv) U.heap ∧ va_K (dC, dI) ls_C (ls_T dB dZ dN) U ∧ va_D (fun _ => True) (ml_W h a dN ky bk kp op cg vv bv kv))) (va_Qv (fun (_ : Unit) => True) (fun _ t => ml_B dC dI h a dB dZ dN (va_A (ml_W h a dN ky bk kp op cg vv bv kv) sz) ba ba sa o ch t) (va_A (ml_W h a dN ky bk kp op cg vv bv kv) sz)) 0 0 (va_A (ml_W h a dN ky bk kp op cg vv bv kv) sz) := by
  refine Met.ofW (cc := cX1_back) (maxL := 2) (ret := none) (by decide) rfl ?_
  intro p e s m args below meth c s₁ B hml hv
  obtain ⟨rfl, hsz, hP, hK, hD0⟩ := hv
  have hx := B.exec
  have hb := B.bytes
  have hr := B.returns
  have hts := atoms_spec (ws := (ws_ yX1_back cX1_back 2 none)) B.pre
  have hts : ∀ w ∈ lw_all, w.before _ s = true := fun w h => hts w (List.mem_cons_of_mem _ h)
  have hown : s.vm.findClass RX1 = some m.cls := findClass_of_methodNamed B.named
  have hlocks := B.notSynchronized
  have S : CallFix p m c cX1_back 2 s _ lw_all RX1 := ⟨hx, hb, hml, hown, hts⟩
  subst hsz
  have hD := hD0.self (sz := s.heap.size)
  generalize hAe : va_A (ml_W h a dN ky bk kp op cg vv bv kv) s.heap.size = A at hD ⊢
  have hA : ∀ q : Nat, s.heap.size ≤ q → A q := fun q h => by rw [← hAe]; exact Or.inr h
  have hS : va_S A s.heap s.heap [] := va_S.rf
  have hl := lv_entry ([.ref h]) (n := 2) (Nat.le_of_ble_eq_true rfl)
  rw [lg_entry_eq]
  generalize (lg_sl ([.ref h]) ++ List.replicate (2 - (lg_sl ([.ref h])).length) Slot.unset).toArray = ls at hl ⊢
  have hl : lv_has ls 2 [(0, .ref h)] := hl
  have loop : ∀ (f i : Nat) (f1 : Nat → Int32) (H : Heap) (locs : List Loc) (ls : Array Slot), i ≤ 16 → 17 ≤ i + f → (∀ j, j < i → f1 j = bv j) → va_P (dC, dI) ls_C (ml_W h a dN bk bk kp op cg f1 bv kv) H → va_D A (ml_W h a dN bk bk kp op cg f1 bv kv) → va_S A s.heap H locs → lv_has ls 2 [(0, .ref h), (1, .int (nI i))] → W p l e (headSpec (ws_ yX1_back cX1_back 2 none) (ls_rm 0 0)).room s m ([.ref h] : List Value).toArray below meth c H locs 0 0 (MQ below (va_Qv (fun (_ : Unit) => True) (fun _ t => ml_B dC dI h a dB dZ dN A ba ba sa o ch t) A) ([.ref h] : List Value).toArray s 0 0 A) (F0 m 10 ls []) := by
    intro f
    induction f with
    | zero => intro i f1 H locs ls h1 h2; omega
    | succ f ih =>
      intro i f1 H locs ls h1 h2 hv hP hD hS hl
      refine lv_iload_n hx hb dX1_back_10 rfl (lv_at hl 1 rfl) ?_
      refine lv_bipush (v := nI 16) hx hb dX1_back_11 (by decide) ?_
      refine ls_ige (tgt := 34) hx hb (by omega) (by omega) dX1_back_13 (by decide) (fun c1 => ?_) (fun c1 => ?_)
      · skip
        exact W.vret hx hb hr (fun t ht hW => ⟨⟨(), rfl, trivial, _, _, _, _, _, _, _, _, by rw [ht]; exact hP, va_K.moved hW.alike hK, hD, ml_back hQ (fun j hj => hv j (by omega))⟩, hS.F ht⟩) hS.2.2 dX1_back_34
      · skip
        refine lv_aload_n hx hb dX1_back_16 rfl (lv_at hl 0 rfl) ?_
        refine ml_g3 S hK hP dX1_back_17 ?_
        refine lv_iload_n hx hb dX1_back_20 rfl (lv_at hl 1 rfl) ?_
        refine lv_aload_n hx hb dX1_back_21 rfl (lv_at hl 0 rfl) ?_
        refine ml_g4 S hK hP dX1_back_22 ?_
        refine lv_iload_n hx hb dX1_back_25 rfl (lv_at hl 1 rfl) ?_
        refine ml_l1 S hK hP c1 dX1_back_26 ?_
        refine ml_s0 S hK hP hD hS c1 dX1_back_27 (fun H locs hP hD hS => ?_)
        refine lv_iinc (v := nI (i + 1)) (lv' := [(1, .int (nI (i + 1))), (0, .ref h)]) hx hb dX1_back_28 hl (k := 1) rfl (ls_inc i) (by decide) rfl (fun ls hl => ?_)
        refine lv_goto (tgt := 10) hx hb dX1_back_31 (by decide) ?_
        refine ih (i + 1) _ _ _ ls (by omega) (by omega) (fun j hj => ?_) hP hD hS (lv_sub hl [1, 0] rfl)
        by_cases e0 : j = i
        · rw [e0, pk_us]
        · rw [pk_un e0]; exact hv j (by omega)
  refine lv_aload_n hx hb dX1_back_0 rfl (lv_at hl 0 rfl) ?_
  refine lv_aload_n hx hb dX1_back_1 rfl (lv_at hl 0 rfl) ?_
  refine ml_g1 S hK hP dX1_back_2 ?_
  refine ml_p0 S hK hP hD hS dX1_back_5 (fun H locs hP hD hS => ?_)
  refine lv_iconst (v := nI 0) hx hb dX1_back_8 (by decide) ?_
  refine lv_istore_n (lv' := [(1, .int (nI 0)), (0, .ref h)]) hx hb dX1_back_9 rfl hl (by decide) rfl (fun ls hl => ?_)
  exact loop 17 0 _ _ _ ls (by omega) (by omega) (fun j hj => by omega) hP hD hS (lv_sub hl [1, 0] rfl)
set_option maxHeartbeats 4000000 in
set_option maxRecDepth 100000 in
/-- sync() -/
theorem mt1_sync {l : Launch} {dC : Nat → ClassId} {dI : Nat → Nat → Nat} {h : Nat} {a : Nat → Nat} {dB dZ dN : ClassId} {ky bk kp op cg : Int32} {vv bv kv : Nat → Int32} {sz : Nat} {cu ba sa : Nat → Option Int32} {o : Bool} {ch : Int32} (hQ : ml_R ky bk kp op cg vv bv kv cu ba sa o ch) : Met l yX1_sync (ws_ yX1_sync cX1_sync 2 none) (ls_rm 0 0) (va_Pc [.ref h] (fun U => U.heap.size = sz ∧ va_P (dC, dI) ls_C (ml_W h a dN ky bk kp op cg vv bv kv) U.heap ∧ va_K (dC, dI) ls_C (ls_T dB dZ dN) U ∧ va_D (fun _ => True) (ml_W h a dN ky bk kp op cg vv bv kv))) (va_Qv (fun (_ : Unit) => True) (fun _ t => ml_B dC dI h a dB dZ dN (va_A (ml_W h a dN ky bk kp op cg vv bv kv) sz) cu ba ba o ch t) (va_A (ml_W h a dN ky bk kp op cg vv bv kv) sz)) 0 0 (va_A (ml_W h a dN ky bk kp op cg vv bv kv) sz) := by
  refine Met.ofW (cc := cX1_sync) (maxL := 2) (ret := none) (by decide) rfl ?_
  intro p e s m args below meth c s₁ B hml hv
  obtain ⟨rfl, hsz, hP, hK, hD0⟩ := hv
  have hx := B.exec
  have hb := B.bytes
  have hr := B.returns
  have hts := atoms_spec (ws := (ws_ yX1_sync cX1_sync 2 none)) B.pre
  have hts : ∀ w ∈ lw_all, w.before _ s = true := fun w h => hts w (List.mem_cons_of_mem _ h)
  have hown : s.vm.findClass RX1 = some m.cls := findClass_of_methodNamed B.named
  have hlocks := B.notSynchronized
  have S : CallFix p m c cX1_sync 2 s _ lw_all RX1 := ⟨hx, hb, hml, hown, hts⟩
  subst hsz
  have hD := hD0.self (sz := s.heap.size)
  generalize hAe : va_A (ml_W h a dN ky bk kp op cg vv bv kv) s.heap.size = A at hD ⊢
  have hA : ∀ q : Nat, s.heap.size ≤ q → A q := fun q h => by rw [← hAe]; exact Or.inr h
  have hS : va_S A s.heap s.heap [] := va_S.rf
  have hl := lv_entry ([.ref h]) (n := 2) (Nat.le_of_ble_eq_true rfl)
  rw [lg_entry_eq]
  generalize (lg_sl ([.ref h]) ++ List.replicate (2 - (lg_sl ([.ref h])).length) Slot.unset).toArray = ls at hl ⊢
  have hl : lv_has ls 2 [(0, .ref h)] := hl
  have loop : ∀ (f i : Nat) (f1 : Nat → Int32) (H : Heap) (locs : List Loc) (ls : Array Slot), i ≤ 16 → 17 ≤ i + f → (∀ j, j < i → f1 j = bv j) → va_P (dC, dI) ls_C (ml_W h a dN ky bk bk op cg vv bv f1) H → va_D A (ml_W h a dN ky bk bk op cg vv bv f1) → va_S A s.heap H locs → lv_has ls 2 [(0, .ref h), (1, .int (nI i))] → W p l e (headSpec (ws_ yX1_sync cX1_sync 2 none) (ls_rm 0 0)).room s m ([.ref h] : List Value).toArray below meth c H locs 0 0 (MQ below (va_Qv (fun (_ : Unit) => True) (fun _ t => ml_B dC dI h a dB dZ dN A cu ba ba o ch t) A) ([.ref h] : List Value).toArray s 0 0 A) (F0 m 10 ls []) := by
    intro f
    induction f with
    | zero => intro i f1 H locs ls h1 h2; omega
    | succ f ih =>
      intro i f1 H locs ls h1 h2 hv hP hD hS hl
      refine lv_iload_n hx hb dX1_sync_10 rfl (lv_at hl 1 rfl) ?_
      refine lv_bipush (v := nI 16) hx hb dX1_sync_11 (by decide) ?_
      refine ls_ige (tgt := 34) hx hb (by omega) (by omega) dX1_sync_13 (by decide) (fun c1 => ?_) (fun c1 => ?_)
      · skip
        exact W.vret hx hb hr (fun t ht hW => ⟨⟨(), rfl, trivial, _, _, _, _, _, _, _, _, by rw [ht]; exact hP, va_K.moved hW.alike hK, hD, ml_sync hQ (fun j hj => hv j (by omega))⟩, hS.F ht⟩) hS.2.2 dX1_sync_34
      · skip
        refine lv_aload_n hx hb dX1_sync_16 rfl (lv_at hl 0 rfl) ?_
        refine ml_g5 S hK hP dX1_sync_17 ?_
        refine lv_iload_n hx hb dX1_sync_20 rfl (lv_at hl 1 rfl) ?_
        refine lv_aload_n hx hb dX1_sync_21 rfl (lv_at hl 0 rfl) ?_
        refine ml_g4 S hK hP dX1_sync_22 ?_
        refine lv_iload_n hx hb dX1_sync_25 rfl (lv_at hl 1 rfl) ?_
        refine ml_l1 S hK hP c1 dX1_sync_26 ?_
        refine ml_s2 S hK hP hD hS c1 dX1_sync_27 (fun H locs hP hD hS => ?_)
        refine lv_iinc (v := nI (i + 1)) (lv' := [(1, .int (nI (i + 1))), (0, .ref h)]) hx hb dX1_sync_28 hl (k := 1) rfl (ls_inc i) (by decide) rfl (fun ls hl => ?_)
        refine lv_goto (tgt := 10) hx hb dX1_sync_31 (by decide) ?_
        refine ih (i + 1) _ _ _ ls (by omega) (by omega) (fun j hj => ?_) hP hD hS (lv_sub hl [1, 0] rfl)
        by_cases e0 : j = i
        · rw [e0, pk_us]
        · rw [pk_un e0]; exact hv j (by omega)
  refine lv_aload_n hx hb dX1_sync_0 rfl (lv_at hl 0 rfl) ?_
  refine lv_aload_n hx hb dX1_sync_1 rfl (lv_at hl 0 rfl) ?_
  refine ml_g1 S hK hP dX1_sync_2 ?_
  refine ml_p2 S hK hP hD hS dX1_sync_5 (fun H locs hP hD hS => ?_)
  refine lv_iconst (v := nI 0) hx hb dX1_sync_8 (by decide) ?_
  refine lv_istore_n (lv' := [(1, .int (nI 0)), (0, .ref h)]) hx hb dX1_sync_9 rfl hl (by decide) rfl (fun ls hl => ?_)
  exact loop 17 0 _ _ _ ls (by omega) (by omega) (fun j hj => by omega) hP hD hS (lv_sub hl [1, 0] rfl)
section
variable {p : Program} {l : Launch} {e : Env} {R : Room} {s : State} {m : MethodId} {args : Array Value} {below : List Frame} {meth : Method} {c : Code} {H : Heap} {locs : List Loc} {cells slots : Nat} {Q : State → Prop}
variable {cc : ByteArray} {nL pc : Nat} {ls : Array Slot} {rest st0 : List Value} {dC : Nat → ClassId} {dI : Nat → Nat → Nat} {A : Nat → Prop} {H0 : Heap} {dB dZ dN : ClassId}
variable {h : Nat} {a : Nat → Nat}
variable {vv bv kv : Nat → Int32} {ky bk kp op cg : Int32}
theorem ml_c_settle (S : CallFix p m c cc nL s args lw_all RX1) (hK : va_K (dC, dI) ls_C (ls_T dB dZ dN) s) (hP : va_P (dC, dI) ls_C (ml_W h a dN ky bk kp op cg vv bv kv) H) (hD : va_D A (ml_W h a dN ky bk kp op cg vv bv kv)) (hS : va_S A H0 H locs) (hA : ∀ q, H0.size ≤ q → A q) (hsz : ls.size = nL) (hR : 1 ≤ R.frames ∧ 21 ≤ R.locals) (hf : cells ≤ R.cells ∧ slots ≤ R.slots) (hrm : (rest.map fun v => v.category).sum ≤ 8) (hd : decode cc pc = .ok (.invokevirtual 33, 3)) {cu ba sa : Nat → Option Int32} {o : Bool} {ch : Int32} (hQ : ml_R ky bk kp op cg vv bv kv cu ba sa o ch)
    (kk : ∀ (ky bk kp op cg : Int32) (vv bv kv : Nat → Int32) (H1 : Heap) (locs1 : List Loc), va_P (dC, dI) ls_C (ml_W h a dN ky bk kp op cg vv bv kv) H1 → va_D A (ml_W h a dN ky bk kp op cg vv bv kv) → va_S A H0 H1 locs1 → ml_R ky bk kp op cg vv bv kv cu cu sa o ch → W p l e R s m args below meth c H1 locs1 cells slots Q (F0 m (pc + 3) ls (rest))) : W p l e R s m args below meth c H locs cells slots Q (F0 m pc ls (.ref h :: rest)) :=
  ls_cV (ci := 1) S hK hP hD hS hA (mt1_settle hQ) (cwV 0 S.2.2.2.2 (lw_V q220 q222 qs9 q13 q223) rfl rfl rfl (by decide +kernel) ⟨hR.1, hR.2⟩) rfl rfl rfl hsz rfl hrm hd hf (fun _ t H1 locs1 ht hvm hp hB hS1 hF => by
    obtain ⟨z0, z1, z2, z3, z4, z5, z6, z7, hP1, -, hD1, hR1⟩ := hB
    rw [ht] at hP1
    exact kk z0 z1 z2 z3 z4 z5 z6 z7 H1 locs1 hP1 (hD1.weaken (fun _ z _ hz => hF z.1 hz)) hS1 hR1)
theorem ml_c_back (S : CallFix p m c cc nL s args lw_all RX1) (hK : va_K (dC, dI) ls_C (ls_T dB dZ dN) s) (hP : va_P (dC, dI) ls_C (ml_W h a dN ky bk kp op cg vv bv kv) H) (hD : va_D A (ml_W h a dN ky bk kp op cg vv bv kv)) (hS : va_S A H0 H locs) (hA : ∀ q, H0.size ≤ q → A q) (hsz : ls.size = nL) (hR : 1 ≤ R.frames ∧ 21 ≤ R.locals) (hf : cells ≤ R.cells ∧ slots ≤ R.slots) (hrm : (rest.map fun v => v.category).sum ≤ 8) (hd : decode cc pc = .ok (.invokevirtual 46, 3)) {cu ba sa : Nat → Option Int32} {o : Bool} {ch : Int32} (hQ : ml_R ky bk kp op cg vv bv kv cu ba sa o ch)
    (kk : ∀ (ky bk kp op cg : Int32) (vv bv kv : Nat → Int32) (H1 : Heap) (locs1 : List Loc), va_P (dC, dI) ls_C (ml_W h a dN ky bk kp op cg vv bv kv) H1 → va_D A (ml_W h a dN ky bk kp op cg vv bv kv) → va_S A H0 H1 locs1 → ml_R ky bk kp op cg vv bv kv ba ba sa o ch → W p l e R s m args below meth c H1 locs1 cells slots Q (F0 m (pc + 3) ls (rest))) : W p l e R s m args below meth c H locs cells slots Q (F0 m pc ls (.ref h :: rest)) :=
  ls_cV (ci := 1) S hK hP hD hS hA (mt1_back hQ) (cwV 0 S.2.2.2.2 (lw_V q240 q242 qs10 q13 q243) rfl rfl rfl (by decide +kernel) ⟨hR.1, hR.2⟩) rfl rfl rfl hsz rfl hrm hd hf (fun _ t H1 locs1 ht hvm hp hB hS1 hF => by
    obtain ⟨z0, z1, z2, z3, z4, z5, z6, z7, hP1, -, hD1, hR1⟩ := hB
    rw [ht] at hP1
    exact kk z0 z1 z2 z3 z4 z5 z6 z7 H1 locs1 hP1 (hD1.weaken (fun _ z _ hz => hF z.1 hz)) hS1 hR1)
end
set_option maxHeartbeats 4000000 in
set_option maxRecDepth 100000 in
/-- change() -/
theorem mt1_change {l : Launch} {dC : Nat → ClassId} {dI : Nat → Nat → Nat} {h : Nat} {a : Nat → Nat} {dB dZ dN : ClassId} {ky bk kp op cg : Int32} {vv bv kv : Nat → Int32} {sz : Nat} {cu ba sa : Nat → Option Int32} {o : Bool} {ch : Int32} (hQ : ml_R ky bk kp op cg vv bv kv cu ba sa o ch) : Met l yX1_change (ws_ yX1_change cX1_change 1 none) (ls_rm 1 21) (va_Pc [.ref h] (fun U => U.heap.size = sz ∧ va_P (dC, dI) ls_C (ml_W h a dN ky bk kp op cg vv bv kv) U.heap ∧ va_K (dC, dI) ls_C (ls_T dB dZ dN) U ∧ va_D (fun _ => True) (ml_W h a dN ky bk kp op cg vv bv kv))) (va_Qv (fun (_ : Unit) => True) (fun _ t => ml_B dC dI h a dB dZ dN (va_A (ml_W h a dN ky bk kp op cg vv bv kv) sz) cu (if o = true then ba else cu) sa o (if o = true then ch + 1 else ch) t) (va_A (ml_W h a dN ky bk kp op cg vv bv kv) sz)) 0 0 (va_A (ml_W h a dN ky bk kp op cg vv bv kv) sz) := by
  refine Met.ofW (cc := cX1_change) (maxL := 1) (ret := none) (by decide) rfl ?_
  intro p e s m args below meth c s₁ B hml hv
  obtain ⟨rfl, hsz, hP, hK, hD0⟩ := hv
  have hx := B.exec
  have hb := B.bytes
  have hr := B.returns
  have hts := atoms_spec (ws := (ws_ yX1_change cX1_change 1 none)) B.pre
  have hts : ∀ w ∈ lw_all, w.before _ s = true := fun w h => hts w (List.mem_cons_of_mem _ h)
  have hown : s.vm.findClass RX1 = some m.cls := findClass_of_methodNamed B.named
  have hlocks := B.notSynchronized
  have S : CallFix p m c cX1_change 1 s _ lw_all RX1 := ⟨hx, hb, hml, hown, hts⟩
  subst hsz
  have hD := hD0.self (sz := s.heap.size)
  generalize hAe : va_A (ml_W h a dN ky bk kp op cg vv bv kv) s.heap.size = A at hD ⊢
  have hA : ∀ q : Nat, s.heap.size ≤ q → A q := fun q h => by rw [← hAe]; exact Or.inr h
  have hS : va_S A s.heap s.heap [] := va_S.rf
  have hl := lv_entry ([.ref h]) (n := 1) (Nat.le_of_ble_eq_true rfl)
  rw [lg_entry_eq]
  generalize (lg_sl ([.ref h]) ++ List.replicate (1 - (lg_sl ([.ref h])).length) Slot.unset).toArray = ls at hl ⊢
  have hl : lv_has ls 1 [(0, .ref h)] := hl
  obtain ⟨h1, h2, h3, h4, h5, h6, ho1, ho0⟩ := id hQ
  refine lv_aload_n hx hb dX1_change_0 rfl (lv_at hl 0 rfl) ?_
  refine ml_g6 S hK hP dX1_change_1 ?_
  cases o with
  | true =>
    refine lv_if_eq (tgt := 20) hx hb dX1_change_4 (by decide) (fun c1 => ?_) (fun c1 => ?_)
    · exact absurd c1 (by rw [(ho1 rfl).1]; decide)
    · skip
      refine lv_aload_n hx hb dX1_change_7 rfl (lv_at hl 0 rfl) ?_
      refine lv_dup hx hb dX1_change_8 rfl ?_
      refine ml_g7 S hK hP dX1_change_9 ?_
      refine lv_iconst (v := 1) hx hb dX1_change_12 (by decide) ?_
      refine lv_iadd hx hb dX1_change_13 ?_
      refine ml_p7 S hK hP hD hS dX1_change_14 (fun H locs hP hD hS => ?_)
      refine lv_goto (tgt := 24) hx hb dX1_change_17 (by decide) ?_
      exact W.vret hx hb hr (fun t ht hW => ⟨⟨(), rfl, trivial, _, _, _, _, _, _, _, _, by rw [ht]; exact hP, va_K.moved hW.alike hK, hD, ⟨h1, h2, h3, h4, h5, h6, fun _ => ⟨(ho1 rfl).1, by rw [(ho1 rfl).2]; rfl⟩, fun z => (by cases z)⟩⟩, hS.F ht⟩) hS.2.2 dX1_change_24
  | false =>
    refine lv_if_eq (tgt := 20) hx hb dX1_change_4 (by decide) (fun c1 => ?_) (fun c1 => ?_)
    · skip
      refine lv_aload_n hx hb dX1_change_20 rfl (lv_at hl 0 rfl) ?_
      refine ml_c_settle S hK hP hD hS hA hl.1 ⟨Nat.le_of_ble_eq_true rfl, Nat.le_of_ble_eq_true rfl⟩ ⟨Nat.zero_le _, Nat.zero_le _⟩ (Nat.le_of_ble_eq_true rfl) dX1_change_21 hQ (fun ky bk kp op cg vv bv kv H locs hP hD hS hQ => ?_)
      exact W.vret hx hb hr (fun t ht hW => ⟨⟨(), rfl, trivial, _, _, _, _, _, _, _, _, by rw [ht]; exact hP, va_K.moved hW.alike hK, hD, hQ⟩, hS.F ht⟩) hS.2.2 dX1_change_24
    · exact absurd (ho0 rfl).1 c1
section
variable {p : Program} {l : Launch} {e : Env} {R : Room} {s : State} {m : MethodId} {args : Array Value} {below : List Frame} {meth : Method} {c : Code} {H : Heap} {locs : List Loc} {cells slots : Nat} {Q : State → Prop}
variable {cc : ByteArray} {nL pc : Nat} {ls : Array Slot} {rest st0 : List Value} {dC : Nat → ClassId} {dI : Nat → Nat → Nat} {A : Nat → Prop} {H0 : Heap} {dB dZ dN : ClassId}
variable {h : Nat} {a : Nat → Nat}
variable {vv bv kv : Nat → Int32} {ky bk kp op cg : Int32}
theorem ml_c_change (S : CallFix p m c cc nL s args lw_all RX1) (hK : va_K (dC, dI) ls_C (ls_T dB dZ dN) s) (hP : va_P (dC, dI) ls_C (ml_W h a dN ky bk kp op cg vv bv kv) H) (hD : va_D A (ml_W h a dN ky bk kp op cg vv bv kv)) (hS : va_S A H0 H locs) (hA : ∀ q, H0.size ≤ q → A q) (hsz : ls.size = nL) (hR : 2 ≤ R.frames ∧ 41 ≤ R.locals) (hf : cells ≤ R.cells ∧ slots ≤ R.slots) (hrm : (rest.map fun v => v.category).sum ≤ 8) (hd : decode cc pc = .ok (.invokevirtual 40, 3)) {cu ba sa : Nat → Option Int32} {o : Bool} {ch : Int32} (hQ : ml_R ky bk kp op cg vv bv kv cu ba sa o ch)
    (kk : ∀ (ky bk kp op cg : Int32) (vv bv kv : Nat → Int32) (H1 : Heap) (locs1 : List Loc), va_P (dC, dI) ls_C (ml_W h a dN ky bk kp op cg vv bv kv) H1 → va_D A (ml_W h a dN ky bk kp op cg vv bv kv) → va_S A H0 H1 locs1 → ml_R ky bk kp op cg vv bv kv cu (if o = true then ba else cu) sa o (if o = true then ch + 1 else ch) → W p l e R s m args below meth c H1 locs1 cells slots Q (F0 m (pc + 3) ls (rest))) : W p l e R s m args below meth c H locs cells slots Q (F0 m pc ls (.ref h :: rest)) :=
  ls_cV (ci := 1) S hK hP hD hS hA (mt1_change hQ) (cwV 0 S.2.2.2.2 (lw_V q216 q218 qs8 q13 q219) rfl rfl rfl (by decide +kernel) ⟨hR.1, hR.2⟩) rfl rfl rfl hsz rfl hrm hd hf (fun _ t H1 locs1 ht hvm hp hB hS1 hF => by
    obtain ⟨z0, z1, z2, z3, z4, z5, z6, z7, hP1, -, hD1, hR1⟩ := hB
    rw [ht] at hP1
    exact kk z0 z1 z2 z3 z4 z5 z6 z7 H1 locs1 hP1 (hD1.weaken (fun _ z _ hz => hF z.1 hz)) hS1 hR1)
end
set_option maxHeartbeats 4000000 in
set_option maxRecDepth 100000 in
/-- begin() -/
theorem mt1_begin {l : Launch} {dC : Nat → ClassId} {dI : Nat → Nat → Nat} {h : Nat} {a : Nat → Nat} {dB dZ dN : ClassId} {ky bk kp op cg : Int32} {vv bv kv : Nat → Int32} {sz : Nat} {cu ba sa : Nat → Option Int32} {o : Bool} {ch : Int32} (hQ : ml_R ky bk kp op cg vv bv kv cu ba sa o ch) : Met l yX1_begin (ws_ yX1_begin cX1_begin 1 (some .int)) (ls_rm 0 0) (va_Pc [.ref h] (fun U => U.heap.size = sz ∧ va_P (dC, dI) ls_C (ml_W h a dN ky bk kp op cg vv bv kv) U.heap ∧ va_K (dC, dI) ls_C (ls_T dB dZ dN) U ∧ va_D (fun _ => True) (ml_W h a dN ky bk kp op cg vv bv kv))) (va_Qi (fun (r : Int32) (_ : Unit) => r = if o = true then -2 else 0) (fun _ t => ml_B dC dI h a dB dZ dN (va_A (ml_W h a dN ky bk kp op cg vv bv kv) sz) cu ba sa true (if o = true then ch else 0) t) (va_A (ml_W h a dN ky bk kp op cg vv bv kv) sz)) 0 0 (va_A (ml_W h a dN ky bk kp op cg vv bv kv) sz) := by
  refine Met.ofW (cc := cX1_begin) (maxL := 1) (ret := (some .int)) (by decide) rfl ?_
  intro p e s m args below meth c s₁ B hml hv
  obtain ⟨rfl, hsz, hP, hK, hD0⟩ := hv
  have hx := B.exec
  have hb := B.bytes
  have hr := B.returns
  have hts := atoms_spec (ws := (ws_ yX1_begin cX1_begin 1 (some .int))) B.pre
  have hts : ∀ w ∈ lw_all, w.before _ s = true := fun w h => hts w (List.mem_cons_of_mem _ h)
  have hown : s.vm.findClass RX1 = some m.cls := findClass_of_methodNamed B.named
  have hlocks := B.notSynchronized
  have S : CallFix p m c cX1_begin 1 s _ lw_all RX1 := ⟨hx, hb, hml, hown, hts⟩
  subst hsz
  have hD := hD0.self (sz := s.heap.size)
  generalize hAe : va_A (ml_W h a dN ky bk kp op cg vv bv kv) s.heap.size = A at hD ⊢
  have hA : ∀ q : Nat, s.heap.size ≤ q → A q := fun q h => by rw [← hAe]; exact Or.inr h
  have hS : va_S A s.heap s.heap [] := va_S.rf
  have hl := lv_entry ([.ref h]) (n := 1) (Nat.le_of_ble_eq_true rfl)
  rw [lg_entry_eq]
  generalize (lg_sl ([.ref h]) ++ List.replicate (1 - (lg_sl ([.ref h])).length) Slot.unset).toArray = ls at hl ⊢
  have hl : lv_has ls 1 [(0, .ref h)] := hl
  obtain ⟨h1, h2, h3, h4, h5, h6, ho1, ho0⟩ := id hQ
  refine lv_aload_n hx hb dX1_begin_0 rfl (lv_at hl 0 rfl) ?_
  refine ml_g6 S hK hP dX1_begin_1 ?_
  cases o with
  | true =>
    refine lv_if_eq (tgt := 10) hx hb dX1_begin_4 (by decide) (fun c1 => ?_) (fun c1 => ?_)
    · exact absurd c1 (by rw [(ho1 rfl).1]; decide)
    · skip
      refine lv_bipush (v := (-2)) hx hb dX1_begin_7 (by decide) ?_
      exact W.iret (v := (-2)) hx hb hr (fun t ht hW => ⟨⟨(-2), (), rfl, rfl, _, _, _, _, _, _, _, _, by rw [ht]; exact hP, va_K.moved hW.alike hK, hD, hQ⟩, hS.F ht⟩) hS.2.2 dX1_begin_9
  | false =>
    refine lv_if_eq (tgt := 10) hx hb dX1_begin_4 (by decide) (fun c1 => ?_) (fun c1 => ?_)
    · skip
      refine lv_aload_n hx hb dX1_begin_10 rfl (lv_at hl 0 rfl) ?_
      refine lv_iconst (v := 1) hx hb dX1_begin_11 (by decide) ?_
      refine ml_p6 S hK hP hD hS rfl rfl dX1_begin_12 (fun H locs hP hD hS => ?_)
      refine lv_aload_n hx hb dX1_begin_15 rfl (lv_at hl 0 rfl) ?_
      refine lv_iconst (v := 0) hx hb dX1_begin_16 (by decide) ?_
      refine ml_p7 S hK hP hD hS dX1_begin_17 (fun H locs hP hD hS => ?_)
      refine lv_iconst (v := 0) hx hb dX1_begin_20 (by decide) ?_
      exact W.iret (v := 0) hx hb hr (fun t ht hW => ⟨⟨0, (), rfl, rfl, _, _, _, _, _, _, _, _, by rw [ht]; exact hP, va_K.moved hW.alike hK, hD, ⟨h1, h2, h3, h4, h5, h6, fun _ => ⟨rfl, rfl⟩, fun z => (by cases z)⟩⟩, hS.F ht⟩) hS.2.2 dX1_begin_21
    · exact absurd (ho0 rfl).1 c1
set_option maxHeartbeats 4000000 in
set_option maxRecDepth 100000 in
/-- commit() -/
theorem mt1_commit {l : Launch} {dC : Nat → ClassId} {dI : Nat → Nat → Nat} {h : Nat} {a : Nat → Nat} {dB dZ dN : ClassId} {ky bk kp op cg : Int32} {vv bv kv : Nat → Int32} {sz : Nat} {cu ba sa : Nat → Option Int32} {o : Bool} {ch : Int32} (hQ : ml_R ky bk kp op cg vv bv kv cu ba sa o ch) : Met l yX1_commit (ws_ yX1_commit cX1_commit 1 (some .int)) (ls_rm 1 21) (va_Pc [.ref h] (fun U => U.heap.size = sz ∧ va_P (dC, dI) ls_C (ml_W h a dN ky bk kp op cg vv bv kv) U.heap ∧ va_K (dC, dI) ls_C (ls_T dB dZ dN) U ∧ va_D (fun _ => True) (ml_W h a dN ky bk kp op cg vv bv kv))) (va_Qi (fun (r : Int32) (_ : Unit) => r = if o = true then 0 else -1) (fun _ t => ml_B dC dI h a dB dZ dN (va_A (ml_W h a dN ky bk kp op cg vv bv kv) sz) cu (if o = true then cu else ba) sa false 0 t) (va_A (ml_W h a dN ky bk kp op cg vv bv kv) sz)) 0 0 (va_A (ml_W h a dN ky bk kp op cg vv bv kv) sz) := by
  refine Met.ofW (cc := cX1_commit) (maxL := 1) (ret := (some .int)) (by decide) rfl ?_
  intro p e s m args below meth c s₁ B hml hv
  obtain ⟨rfl, hsz, hP, hK, hD0⟩ := hv
  have hx := B.exec
  have hb := B.bytes
  have hr := B.returns
  have hts := atoms_spec (ws := (ws_ yX1_commit cX1_commit 1 (some .int))) B.pre
  have hts : ∀ w ∈ lw_all, w.before _ s = true := fun w h => hts w (List.mem_cons_of_mem _ h)
  have hown : s.vm.findClass RX1 = some m.cls := findClass_of_methodNamed B.named
  have hlocks := B.notSynchronized
  have S : CallFix p m c cX1_commit 1 s _ lw_all RX1 := ⟨hx, hb, hml, hown, hts⟩
  subst hsz
  have hD := hD0.self (sz := s.heap.size)
  generalize hAe : va_A (ml_W h a dN ky bk kp op cg vv bv kv) s.heap.size = A at hD ⊢
  have hA : ∀ q : Nat, s.heap.size ≤ q → A q := fun q h => by rw [← hAe]; exact Or.inr h
  have hS : va_S A s.heap s.heap [] := va_S.rf
  have hl := lv_entry ([.ref h]) (n := 1) (Nat.le_of_ble_eq_true rfl)
  rw [lg_entry_eq]
  generalize (lg_sl ([.ref h]) ++ List.replicate (1 - (lg_sl ([.ref h])).length) Slot.unset).toArray = ls at hl ⊢
  have hl : lv_has ls 1 [(0, .ref h)] := hl
  obtain ⟨h1, h2, h3, h4, h5, h6, ho1, ho0⟩ := id hQ
  refine lv_aload_n hx hb dX1_commit_0 rfl (lv_at hl 0 rfl) ?_
  refine ml_g6 S hK hP dX1_commit_1 ?_
  cases o with
  | true =>
    refine lv_if_ne (tgt := 9) hx hb dX1_commit_4 (by decide) (fun c1 => ?_) (fun c1 => ?_)
    · skip
      refine lv_aload_n hx hb dX1_commit_9 rfl (lv_at hl 0 rfl) ?_
      refine lv_iconst (v := 0) hx hb dX1_commit_10 (by decide) ?_
      refine ml_p6 S hK hP hD hS rfl rfl dX1_commit_11 (fun H locs hP hD hS => ?_)
      refine lv_aload_n hx hb dX1_commit_14 rfl (lv_at hl 0 rfl) ?_
      refine ml_c_settle S hK hP hD hS hA hl.1 ⟨Nat.le_of_ble_eq_true rfl, Nat.le_of_ble_eq_true rfl⟩ ⟨Nat.zero_le _, Nat.zero_le _⟩ (Nat.le_of_ble_eq_true rfl) dX1_commit_15 (ml_shut hQ) (fun ky bk kp op cg vv bv kv H locs hP hD hS hQ => ?_)
      refine lv_iconst (v := 0) hx hb dX1_commit_18 (by decide) ?_
      exact W.iret (v := 0) hx hb hr (fun t ht hW => ⟨⟨0, (), rfl, rfl, _, _, _, _, _, _, _, _, by rw [ht]; exact hP, va_K.moved hW.alike hK, hD, hQ⟩, hS.F ht⟩) hS.2.2 dX1_commit_19
    · exact absurd c1 (by rw [(ho1 rfl).1]; decide)
  | false =>
    refine lv_if_ne (tgt := 9) hx hb dX1_commit_4 (by decide) (fun c1 => ?_) (fun c1 => ?_)
    · exact absurd (ho0 rfl).1 c1
    · skip
      refine lv_iconst (v := (-1)) hx hb dX1_commit_7 (by decide) ?_
      exact W.iret (v := (-1)) hx hb hr (fun t ht hW => ⟨⟨(-1), (), rfl, rfl, _, _, _, _, _, _, _, _, by rw [ht]; exact hP, va_K.moved hW.alike hK, hD, ⟨h1, h2, h3, h4, h5, h6, fun z => (by cases z), fun _ => ⟨(ho0 rfl).1, rfl⟩⟩⟩, hS.F ht⟩) hS.2.2 dX1_commit_8
set_option maxHeartbeats 4000000 in
set_option maxRecDepth 100000 in
/-- abort() -/
theorem mt1_abort {l : Launch} {dC : Nat → ClassId} {dI : Nat → Nat → Nat} {h : Nat} {a : Nat → Nat} {dB dZ dN : ClassId} {ky bk kp op cg : Int32} {vv bv kv : Nat → Int32} {sz : Nat} {cu ba sa : Nat → Option Int32} {o : Bool} {ch : Int32} (hQ : ml_R ky bk kp op cg vv bv kv cu ba sa o ch) : Met l yX1_abort (ws_ yX1_abort cX1_abort 1 (some .int)) (ls_rm 1 21) (va_Pc [.ref h] (fun U => U.heap.size = sz ∧ va_P (dC, dI) ls_C (ml_W h a dN ky bk kp op cg vv bv kv) U.heap ∧ va_K (dC, dI) ls_C (ls_T dB dZ dN) U ∧ va_D (fun _ => True) (ml_W h a dN ky bk kp op cg vv bv kv))) (va_Qi (fun (r : Int32) (_ : Unit) => r = if o = true then 0 else -1) (fun _ t => ml_B dC dI h a dB dZ dN (va_A (ml_W h a dN ky bk kp op cg vv bv kv) sz) (if o = true then ba else cu) ba sa false 0 t) (va_A (ml_W h a dN ky bk kp op cg vv bv kv) sz)) 0 0 (va_A (ml_W h a dN ky bk kp op cg vv bv kv) sz) := by
  refine Met.ofW (cc := cX1_abort) (maxL := 1) (ret := (some .int)) (by decide) rfl ?_
  intro p e s m args below meth c s₁ B hml hv
  obtain ⟨rfl, hsz, hP, hK, hD0⟩ := hv
  have hx := B.exec
  have hb := B.bytes
  have hr := B.returns
  have hts := atoms_spec (ws := (ws_ yX1_abort cX1_abort 1 (some .int))) B.pre
  have hts : ∀ w ∈ lw_all, w.before _ s = true := fun w h => hts w (List.mem_cons_of_mem _ h)
  have hown : s.vm.findClass RX1 = some m.cls := findClass_of_methodNamed B.named
  have hlocks := B.notSynchronized
  have S : CallFix p m c cX1_abort 1 s _ lw_all RX1 := ⟨hx, hb, hml, hown, hts⟩
  subst hsz
  have hD := hD0.self (sz := s.heap.size)
  generalize hAe : va_A (ml_W h a dN ky bk kp op cg vv bv kv) s.heap.size = A at hD ⊢
  have hA : ∀ q : Nat, s.heap.size ≤ q → A q := fun q h => by rw [← hAe]; exact Or.inr h
  have hS : va_S A s.heap s.heap [] := va_S.rf
  have hl := lv_entry ([.ref h]) (n := 1) (Nat.le_of_ble_eq_true rfl)
  rw [lg_entry_eq]
  generalize (lg_sl ([.ref h]) ++ List.replicate (1 - (lg_sl ([.ref h])).length) Slot.unset).toArray = ls at hl ⊢
  have hl : lv_has ls 1 [(0, .ref h)] := hl
  obtain ⟨h1, h2, h3, h4, h5, h6, ho1, ho0⟩ := id hQ
  refine lv_aload_n hx hb dX1_abort_0 rfl (lv_at hl 0 rfl) ?_
  refine ml_g6 S hK hP dX1_abort_1 ?_
  cases o with
  | true =>
    refine lv_if_ne (tgt := 9) hx hb dX1_abort_4 (by decide) (fun c1 => ?_) (fun c1 => ?_)
    · skip
      refine lv_aload_n hx hb dX1_abort_9 rfl (lv_at hl 0 rfl) ?_
      refine lv_iconst (v := 0) hx hb dX1_abort_10 (by decide) ?_
      refine ml_p6 S hK hP hD hS rfl rfl dX1_abort_11 (fun H locs hP hD hS => ?_)
      refine lv_aload_n hx hb dX1_abort_14 rfl (lv_at hl 0 rfl) ?_
      refine ml_c_back S hK hP hD hS hA hl.1 ⟨Nat.le_of_ble_eq_true rfl, Nat.le_of_ble_eq_true rfl⟩ ⟨Nat.zero_le _, Nat.zero_le _⟩ (Nat.le_of_ble_eq_true rfl) dX1_abort_15 (ml_shut hQ) (fun ky bk kp op cg vv bv kv H locs hP hD hS hQ => ?_)
      refine lv_iconst (v := 0) hx hb dX1_abort_18 (by decide) ?_
      exact W.iret (v := 0) hx hb hr (fun t ht hW => ⟨⟨0, (), rfl, rfl, _, _, _, _, _, _, _, _, by rw [ht]; exact hP, va_K.moved hW.alike hK, hD, hQ⟩, hS.F ht⟩) hS.2.2 dX1_abort_19
    · exact absurd c1 (by rw [(ho1 rfl).1]; decide)
  | false =>
    refine lv_if_ne (tgt := 9) hx hb dX1_abort_4 (by decide) (fun c1 => ?_) (fun c1 => ?_)
    · exact absurd (ho0 rfl).1 c1
    · skip
      refine lv_iconst (v := (-1)) hx hb dX1_abort_7 (by decide) ?_
      exact W.iret (v := (-1)) hx hb hr (fun t ht hW => ⟨⟨(-1), (), rfl, rfl, _, _, _, _, _, _, _, _, by rw [ht]; exact hP, va_K.moved hW.alike hK, hD, ⟨h1, h2, h3, h4, h5, h6, fun z => (by cases z), fun _ => ⟨(ho0 rfl).1, rfl⟩⟩⟩, hS.F ht⟩) hS.2.2 dX1_abort_8
set_option maxHeartbeats 4000000 in
set_option maxRecDepth 100000 in
/-- clean() -/
theorem mt1_clean {l : Launch} {dC : Nat → ClassId} {dI : Nat → Nat → Nat} {h : Nat} {a : Nat → Nat} {dB dZ dN : ClassId} {ky bk kp op cg : Int32} {vv bv kv : Nat → Int32} {sz : Nat} {cu ba sa : Nat → Option Int32} {o : Bool} {ch : Int32} (hQ : ml_R ky bk kp op cg vv bv kv cu ba sa o ch) : Met l yX1_clean (ws_ yX1_clean cX1_clean 1 none) (ls_rm 0 0) (va_Pc [.ref h] (fun U => U.heap.size = sz ∧ va_P (dC, dI) ls_C (ml_W h a dN ky bk kp op cg vv bv kv) U.heap ∧ va_K (dC, dI) ls_C (ls_T dB dZ dN) U ∧ va_D (fun _ => True) (ml_W h a dN ky bk kp op cg vv bv kv))) (va_Qv (fun (_ : Unit) => True) (fun _ t => ml_B dC dI h a dB dZ dN (va_A (ml_W h a dN ky bk kp op cg vv bv kv) sz) cu ba sa o ch t) (va_A (ml_W h a dN ky bk kp op cg vv bv kv) sz)) 0 0 (va_A (ml_W h a dN ky bk kp op cg vv bv kv) sz) := by
  refine Met.ofW (cc := cX1_clean) (maxL := 1) (ret := none) (by decide) rfl ?_
  intro p e s m args below meth c s₁ B hml hv
  obtain ⟨rfl, hsz, hP, hK, hD0⟩ := hv
  have hx := B.exec
  have hb := B.bytes
  have hr := B.returns
  have hts := atoms_spec (ws := (ws_ yX1_clean cX1_clean 1 none)) B.pre
  have hts : ∀ w ∈ lw_all, w.before _ s = true := fun w h => hts w (List.mem_cons_of_mem _ h)
  have hown : s.vm.findClass RX1 = some m.cls := findClass_of_methodNamed B.named
  have hlocks := B.notSynchronized
  have S : CallFix p m c cX1_clean 1 s _ lw_all RX1 := ⟨hx, hb, hml, hown, hts⟩
  subst hsz
  have hD := hD0.self (sz := s.heap.size)
  generalize hAe : va_A (ml_W h a dN ky bk kp op cg vv bv kv) s.heap.size = A at hD ⊢
  have hA : ∀ q : Nat, s.heap.size ≤ q → A q := fun q h => by rw [← hAe]; exact Or.inr h
  have hS : va_S A s.heap s.heap [] := va_S.rf
  have hl := lv_entry ([.ref h]) (n := 1) (Nat.le_of_ble_eq_true rfl)
  rw [lg_entry_eq]
  generalize (lg_sl ([.ref h]) ++ List.replicate (1 - (lg_sl ([.ref h])).length) Slot.unset).toArray = ls at hl ⊢
  have hl : lv_has ls 1 [(0, .ref h)] := hl
  exact W.vret hx hb hr (fun t ht hW => ⟨⟨(), rfl, trivial, _, _, _, _, _, _, _, _, by rw [ht]; exact hP, va_K.moved hW.alike hK, hD, hQ⟩, hS.F ht⟩) hS.2.2 dX1_clean_0
set_option maxHeartbeats 4000000 in
set_option maxRecDepth 100000 in
/-- crash() -/
theorem mt1_crash {l : Launch} {dC : Nat → ClassId} {dI : Nat → Nat → Nat} {h : Nat} {a : Nat → Nat} {dB dZ dN : ClassId} {ky bk kp op cg : Int32} {vv bv kv : Nat → Int32} {sz : Nat} {cu ba sa : Nat → Option Int32} {o : Bool} {ch : Int32} (hQ : ml_R ky bk kp op cg vv bv kv cu ba sa o ch) : Met l yX1_crash (ws_ yX1_crash cX1_crash 2 none) (ls_rm 1 21) (va_Pc [.ref h] (fun U => U.heap.size = sz ∧ va_P (dC, dI) ls_C (ml_W h a dN ky bk kp op cg vv bv kv) U.heap ∧ va_K (dC, dI) ls_C (ls_T dB dZ dN) U ∧ va_D (fun _ => True) (ml_W h a dN ky bk kp op cg vv bv kv))) (va_Qv (fun (_ : Unit) => True) (fun _ t => ml_B dC dI h a dB dZ dN (va_A (ml_W h a dN ky bk kp op cg vv bv kv) sz) sa sa sa false 0 t) (va_A (ml_W h a dN ky bk kp op cg vv bv kv) sz)) 0 0 (va_A (ml_W h a dN ky bk kp op cg vv bv kv) sz) := by
  refine Met.ofW (cc := cX1_crash) (maxL := 2) (ret := none) (by decide) rfl ?_
  intro p e s m args below meth c s₁ B hml hv
  obtain ⟨rfl, hsz, hP, hK, hD0⟩ := hv
  have hx := B.exec
  have hb := B.bytes
  have hr := B.returns
  have hts := atoms_spec (ws := (ws_ yX1_crash cX1_crash 2 none)) B.pre
  have hts : ∀ w ∈ lw_all, w.before _ s = true := fun w h => hts w (List.mem_cons_of_mem _ h)
  have hown : s.vm.findClass RX1 = some m.cls := findClass_of_methodNamed B.named
  have hlocks := B.notSynchronized
  have S : CallFix p m c cX1_crash 2 s _ lw_all RX1 := ⟨hx, hb, hml, hown, hts⟩
  subst hsz
  have hD := hD0.self (sz := s.heap.size)
  generalize hAe : va_A (ml_W h a dN ky bk kp op cg vv bv kv) s.heap.size = A at hD ⊢
  have hA : ∀ q : Nat, s.heap.size ≤ q → A q := fun q h => by rw [← hAe]; exact Or.inr h
  have hS : va_S A s.heap s.heap [] := va_S.rf
  have hl := lv_entry ([.ref h]) (n := 2) (Nat.le_of_ble_eq_true rfl)
  rw [lg_entry_eq]
  generalize (lg_sl ([.ref h]) ++ List.replicate (2 - (lg_sl ([.ref h])).length) Slot.unset).toArray = ls at hl ⊢
  have hl : lv_has ls 2 [(0, .ref h)] := hl
  have loop : ∀ (f i : Nat) (f1 : Nat → Int32) (H : Heap) (locs : List Loc) (ls : Array Slot), i ≤ 16 → 17 ≤ i + f → (∀ j, j < i → f1 j = kv j) → va_P (dC, dI) ls_C (ml_W h a dN ky kp kp 0 cg vv f1 kv) H → va_D A (ml_W h a dN ky kp kp 0 cg vv f1 kv) → va_S A s.heap H locs → lv_has ls 2 [(0, .ref h), (1, .int (nI i))] → W p l e (headSpec (ws_ yX1_crash cX1_crash 2 none) (ls_rm 1 21)).room s m ([.ref h] : List Value).toArray below meth c H locs 0 0 (MQ below (va_Qv (fun (_ : Unit) => True) (fun _ t => ml_B dC dI h a dB dZ dN A sa sa sa false 0 t) A) ([.ref h] : List Value).toArray s 0 0 A) (F0 m 15 ls []) := by
    intro f
    induction f with
    | zero => intro i f1 H locs ls h1 h2; omega
    | succ f ih =>
      intro i f1 H locs ls h1 h2 hv hP hD hS hl
      refine lv_iload_n hx hb dX1_crash_15 rfl (lv_at hl 1 rfl) ?_
      refine lv_bipush (v := nI 16) hx hb dX1_crash_16 (by decide) ?_
      refine ls_ige (tgt := 39) hx hb (by omega) (by omega) dX1_crash_18 (by decide) (fun c1 => ?_) (fun c1 => ?_)
      · skip
        refine lv_aload_n hx hb dX1_crash_39 rfl (lv_at hl 0 rfl) ?_
        refine ml_c_back S hK hP hD hS hA hl.1 ⟨Nat.le_of_ble_eq_true rfl, Nat.le_of_ble_eq_true rfl⟩ ⟨Nat.zero_le _, Nat.zero_le _⟩ (Nat.le_of_ble_eq_true rfl) dX1_crash_40 (ml_unkeep hQ (fun j hj => hv j (by omega))) (fun ky bk kp op cg vv bv kv H locs hP hD hS hQ => ?_)
        exact W.vret hx hb hr (fun t ht hW => ⟨⟨(), rfl, trivial, _, _, _, _, _, _, _, _, by rw [ht]; exact hP, va_K.moved hW.alike hK, hD, hQ⟩, hS.F ht⟩) hS.2.2 dX1_crash_43
      · skip
        refine lv_aload_n hx hb dX1_crash_21 rfl (lv_at hl 0 rfl) ?_
        refine ml_g4 S hK hP dX1_crash_22 ?_
        refine lv_iload_n hx hb dX1_crash_25 rfl (lv_at hl 1 rfl) ?_
        refine lv_aload_n hx hb dX1_crash_26 rfl (lv_at hl 0 rfl) ?_
        refine ml_g5 S hK hP dX1_crash_27 ?_
        refine lv_iload_n hx hb dX1_crash_30 rfl (lv_at hl 1 rfl) ?_
        refine ml_l2 S hK hP c1 dX1_crash_31 ?_
        refine ml_s1 S hK hP hD hS c1 dX1_crash_32 (fun H locs hP hD hS => ?_)
        refine lv_iinc (v := nI (i + 1)) (lv' := [(1, .int (nI (i + 1))), (0, .ref h)]) hx hb dX1_crash_33 hl (k := 1) rfl (ls_inc i) (by decide) rfl (fun ls hl => ?_)
        refine lv_goto (tgt := 15) hx hb dX1_crash_36 (by decide) ?_
        refine ih (i + 1) _ _ _ ls (by omega) (by omega) (fun j hj => ?_) hP hD hS (lv_sub hl [1, 0] rfl)
        by_cases e0 : j = i
        · rw [e0, pk_us]
        · rw [pk_un e0]; exact hv j (by omega)
  refine lv_aload_n hx hb dX1_crash_0 rfl (lv_at hl 0 rfl) ?_
  refine lv_iconst (v := 0) hx hb dX1_crash_1 (by decide) ?_
  refine ml_p6 S hK hP hD hS rfl rfl dX1_crash_2 (fun H locs hP hD hS => ?_)
  refine lv_aload_n hx hb dX1_crash_5 rfl (lv_at hl 0 rfl) ?_
  refine lv_aload_n hx hb dX1_crash_6 rfl (lv_at hl 0 rfl) ?_
  refine ml_g2 S hK hP dX1_crash_7 ?_
  refine ml_p1 S hK hP hD hS dX1_crash_10 (fun H locs hP hD hS => ?_)
  refine lv_iconst (v := nI 0) hx hb dX1_crash_13 (by decide) ?_
  refine lv_istore_n (lv' := [(1, .int (nI 0)), (0, .ref h)]) hx hb dX1_crash_14 rfl hl (by decide) rfl (fun ls hl => ?_)
  exact loop 17 0 _ _ _ ls (by omega) (by omega) (fun j hj => by omega) hP hD hS (lv_sub hl [1, 0] rfl)
end
section
set_option maxRecDepth 100000
set_option maxHeartbeats 4000000 in
set_option maxRecDepth 100000 in
/-- has(k) -/
theorem mt1_has {l : Launch} {dC : Nat → ClassId} {dI : Nat → Nat → Nat} {h : Nat} {a : Nat → Nat} {dB dZ dN : ClassId} {ky bk kp op cg : Int32} {vv bv kv : Nat → Int32} {cu ba sa : Nat → Option Int32} {o : Bool} {ch : Int32} (hQ : ml_R ky bk kp op cg vv bv kv cu ba sa o ch) {k : Int32} : Met l yX1_has (ws_ yX1_has cX1_has 2 (some .boolean)) (ls_rm 1 21) (va_Pc [.ref h, .int k] (fun U => va_P (dC, dI) ls_C (ml_W h a dN ky bk kp op cg vv bv kv) U.heap ∧ va_K (dC, dI) ls_C (ls_T dB dZ dN) U)) (vp_Si (fun r => r = ls_has cu k)) 0 0 (fun _ => False) := by
  refine Met.ofW (cc := cX1_has) (maxL := 2) (ret := (some .boolean)) (by decide) rfl ?_
  intro p e s m args below meth c s₁ B hml hv
  obtain ⟨rfl, hP, hK⟩ := hv
  have hx := B.exec
  have hb := B.bytes
  have hr := B.returns
  have hts := atoms_spec (ws := (ws_ yX1_has cX1_has 2 (some .boolean))) B.pre
  have hts : ∀ w ∈ lw_all, w.before _ s = true := fun w h => hts w (List.mem_cons_of_mem _ h)
  have hown : s.vm.findClass RX1 = some m.cls := findClass_of_methodNamed B.named
  have hlocks := B.notSynchronized
  have S : CallFix p m c cX1_has 2 s _ lw_all RX1 := ⟨hx, hb, hml, hown, hts⟩
  have hl := lv_entry ([.ref h, .int k]) (n := 2) (Nat.le_of_ble_eq_true rfl)
  rw [lg_entry_eq]
  generalize (lg_sl ([.ref h, .int k]) ++ List.replicate (2 - (lg_sl ([.ref h, .int k])).length) Slot.unset).toArray = ls at hl ⊢
  have hl : lv_has ls 2 [(0, .ref h), (1, .int k)] := hl
  obtain ⟨h1, h2, h3, h4, h5, h6, ho1, ho0⟩ := id hQ
  refine lv_aload_n hx hb dX1_has_0 rfl (lv_at hl 0 rfl) ?_
  refine lv_iload_n hx hb dX1_has_1 rfl (lv_at hl 1 rfl) ?_
  refine ml_c_key S hK hP hl.1 ⟨Nat.le_of_ble_eq_true rfl, Nat.le_of_ble_eq_true rfl⟩ ⟨Nat.zero_le _, Nat.zero_le _⟩ (Nat.le_of_ble_eq_true rfl) dX1_has_2 (fun r9 hr9 => ?_)
  subst hr9
  rcases ls_kb_c k with ⟨h0, -⟩ | ⟨j, hj, rfl, hk1⟩
  · skip
    refine lv_if_eq (tgt := 24) hx hb dX1_has_5 (by decide) (fun c1 => ?_) (fun c1 => ?_)
    · skip
      refine lv_iconst (v := 0) hx hb dX1_has_24 (by decide) ?_
      exact W.zret (v := 0) hx hb hr rfl (fun t ht hW => ⟨_, rfl, (ls_has_0 h0).symm, ht⟩) (fun q hq => by cases hq) dX1_has_25
    · exact absurd h0 c1
  · skip
    refine lv_if_eq (tgt := 24) hx hb dX1_has_5 (by decide) (fun c1 => ?_) (fun c1 => ?_)
    · exact absurd c1 (by rw [hk1]; decide)
    · skip
      refine lv_aload_n hx hb dX1_has_8 rfl (lv_at hl 0 rfl) ?_
      refine ml_g0 S hK hP dX1_has_9 ?_
      refine lv_iload_n hx hb dX1_has_12 rfl (lv_at hl 1 rfl) ?_
      refine lv_ishr hx hb dX1_has_13 ?_
      refine lv_iconst (v := 1) hx hb dX1_has_14 (by decide) ?_
      refine lv_iand hx hb dX1_has_15 ?_
      rw [show ((ky >>> ((nI j) &&& 31)) &&& 1 : Int32) = if bt ky j = true then 1 else 0 from ls_bit ky hj]
      refine lv_iconst (v := 1) hx hb dX1_has_16 (by decide) ?_
      by_cases hbt : bt ky j = true
      · rw [if_pos hbt]
        refine lv_icmp_ne (tgt := 24) hx hb dX1_has_17 (by decide) (fun c2 => ?_) (fun c2 => ?_)
        · exact absurd rfl c2
        · skip
          refine lv_iconst (v := 1) hx hb dX1_has_20 (by decide) ?_
          refine lv_goto (tgt := 25) hx hb dX1_has_21 (by decide) ?_
          exact W.zret (v := 1) hx hb hr rfl (fun t ht hW => ⟨_, rfl, (ml_has_t hj (h1 j hj) hbt).symm, ht⟩) (fun q hq => by cases hq) dX1_has_25
      · rw [if_neg hbt]
        refine lv_icmp_ne (tgt := 24) hx hb dX1_has_17 (by decide) (fun c2 => ?_) (fun c2 => ?_)
        · skip
          refine lv_iconst (v := 0) hx hb dX1_has_24 (by decide) ?_
          exact W.zret (v := 0) hx hb hr rfl (fun t ht hW => ⟨_, rfl, (ml_has_f hj (h1 j hj) hbt).symm, ht⟩) (fun q hq => by cases hq) dX1_has_25
        · exact absurd c2 (by decide)
section
variable {p : Program} {l : Launch} {e : Env} {R : Room} {s : State} {m : MethodId} {args : Array Value} {below : List Frame} {meth : Method} {c : Code} {H : Heap} {locs : List Loc} {cells slots : Nat} {Q : State → Prop}
variable {cc : ByteArray} {nL pc : Nat} {ls : Array Slot} {rest st0 : List Value} {dC : Nat → ClassId} {dI : Nat → Nat → Nat} {A : Nat → Prop} {H0 : Heap} {dB dZ dN : ClassId}
variable {h : Nat} {a : Nat → Nat}
variable {vv bv kv : Nat → Int32} {ky bk kp op cg : Int32}
theorem ml_c_has (S : CallFix p m c cc nL s args lw_all RX1) (hK : va_K (dC, dI) ls_C (ls_T dB dZ dN) s) (hP : va_P (dC, dI) ls_C (ml_W h a dN ky bk kp op cg vv bv kv) H) (hsz : ls.size = nL) (hR : 2 ≤ R.frames ∧ 42 ≤ R.locals) (hf : cells ≤ R.cells ∧ slots ≤ R.slots) (hrm : (rest.map fun v => v.category).sum ≤ 8) (hd : decode cc pc = .ok (.invokevirtual 43, 3)) {cu ba sa : Nat → Option Int32} {o : Bool} {ch : Int32} (hQ : ml_R ky bk kp op cg vv bv kv cu ba sa o ch) {k : Int32}
    (kk : ∀ r : Int32, r = ls_has cu k → W p l e R s m args below meth c H locs cells slots Q (F0 m (pc + 3) ls (.int r :: rest))) : W p l e R s m args below meth c H locs cells slots Q (F0 m pc ls (.int k :: .ref h :: rest)) :=
  ls_rV (ci := 1) S hK hP (mt1_has hQ) (cwV 1 S.2.2.2.2 (lw_V q228 q229 q230 q13 q231) rfl rfl rfl (by decide +kernel) ⟨hR.1, hR.2⟩) rfl rfl rfl hsz rfl hrm hd hf kk
end
set_option maxHeartbeats 4000000 in
set_option maxRecDepth 100000 in
/-- get(k) -/
theorem mt1_get {l : Launch} {dC : Nat → ClassId} {dI : Nat → Nat → Nat} {h : Nat} {a : Nat → Nat} {dB dZ dN : ClassId} {ky bk kp op cg : Int32} {vv bv kv : Nat → Int32} {cu ba sa : Nat → Option Int32} {o : Bool} {ch : Int32} (hQ : ml_R ky bk kp op cg vv bv kv cu ba sa o ch) {k : Int32} : Met l yX1_get (ws_ yX1_get cX1_get 2 (some .int)) (ls_rm 2 42) (va_Pc [.ref h, .int k] (fun U => va_P (dC, dI) ls_C (ml_W h a dN ky bk kp op cg vv bv kv) U.heap ∧ va_K (dC, dI) ls_C (ls_T dB dZ dN) U)) (vp_Si (fun r => r = ls_get cu k)) 0 0 (fun _ => False) := by
  refine Met.ofW (cc := cX1_get) (maxL := 2) (ret := (some .int)) (by decide) rfl ?_
  intro p e s m args below meth c s₁ B hml hv
  obtain ⟨rfl, hP, hK⟩ := hv
  have hx := B.exec
  have hb := B.bytes
  have hr := B.returns
  have hts := atoms_spec (ws := (ws_ yX1_get cX1_get 2 (some .int))) B.pre
  have hts : ∀ w ∈ lw_all, w.before _ s = true := fun w h => hts w (List.mem_cons_of_mem _ h)
  have hown : s.vm.findClass RX1 = some m.cls := findClass_of_methodNamed B.named
  have hlocks := B.notSynchronized
  have S : CallFix p m c cX1_get 2 s _ lw_all RX1 := ⟨hx, hb, hml, hown, hts⟩
  have hl := lv_entry ([.ref h, .int k]) (n := 2) (Nat.le_of_ble_eq_true rfl)
  rw [lg_entry_eq]
  generalize (lg_sl ([.ref h, .int k]) ++ List.replicate (2 - (lg_sl ([.ref h, .int k])).length) Slot.unset).toArray = ls at hl ⊢
  have hl : lv_has ls 2 [(0, .ref h), (1, .int k)] := hl
  refine lv_aload_n hx hb dX1_get_0 rfl (lv_at hl 0 rfl) ?_
  refine lv_iload_n hx hb dX1_get_1 rfl (lv_at hl 1 rfl) ?_
  refine ml_c_has S hK hP hl.1 ⟨Nat.le_of_ble_eq_true rfl, Nat.le_of_ble_eq_true rfl⟩ ⟨Nat.zero_le _, Nat.zero_le _⟩ (Nat.le_of_ble_eq_true rfl) dX1_get_2 hQ (fun r9 hr9 => ?_)
  subst hr9
  refine lv_if_eq (tgt := 17) hx hb dX1_get_5 (by decide) (fun c1 => ?_) (fun c1 => ?_)
  · skip
    refine lv_iconst (v := 0) hx hb dX1_get_17 (by decide) ?_
    exact W.iret (v := 0) hx hb hr (fun t ht hW => ⟨_, rfl, (ls_get_0 c1).symm, ht⟩) (fun q hq => by cases hq) dX1_get_18
  · skip
    obtain ⟨j, v, hj, rfl, hv, -⟩ := ls_has_ne c1
    obtain ⟨h1, h2, h3, h4, h5, h6, ho1, ho0⟩ := id hQ
    have hbt : bt ky j = true := by
      by_cases hb0 : bt ky j = true
      · exact hb0
      · rw [← h1 j hj, ml_v_f hb0] at hv; cases hv
    have hv2 : cu j = some (vv j) := by rw [← h1 j hj, ml_v_t hbt]
    refine lv_aload_n hx hb dX1_get_8 rfl (lv_at hl 0 rfl) ?_
    refine ml_g3 S hK hP dX1_get_9 ?_
    refine lv_iload_n hx hb dX1_get_12 rfl (lv_at hl 1 rfl) ?_
    refine ml_l0 S hK hP hj dX1_get_13 ?_
    refine lv_goto (tgt := 18) hx hb dX1_get_14 (by decide) ?_
    exact W.iret (v := vv j) hx hb hr (fun t ht hW => ⟨_, rfl, (ls_get_1 hj hv2).symm, ht⟩) (fun q hq => by cases hq) dX1_get_18
set_option maxHeartbeats 4000000 in
set_option maxRecDepth 100000 in
/-- next(k) -/
theorem mt1_next {l : Launch} {dC : Nat → ClassId} {dI : Nat → Nat → Nat} {h : Nat} {a : Nat → Nat} {dB dZ dN : ClassId} {ky bk kp op cg : Int32} {vv bv kv : Nat → Int32} {cu ba sa : Nat → Option Int32} {o : Bool} {ch : Int32} (hQ : ml_R ky bk kp op cg vv bv kv cu ba sa o ch) {k : Int32} : Met l yX1_next (ws_ yX1_next cX1_next 3 (some .int)) (ls_rm 0 0) (va_Pc [.ref h, .int k] (fun U => va_P (dC, dI) ls_C (ml_W h a dN ky bk kp op cg vv bv kv) U.heap ∧ va_K (dC, dI) ls_C (ls_T dB dZ dN) U)) (vp_Si (fun r => ls_nx cu k r)) 0 0 (fun _ => False) := by
  refine Met.ofW (cc := cX1_next) (maxL := 3) (ret := (some .int)) (by decide) rfl ?_
  intro p e s m args below meth c s₁ B hml hv
  obtain ⟨rfl, hP, hK⟩ := hv
  have hx := B.exec
  have hb := B.bytes
  have hr := B.returns
  have hts := atoms_spec (ws := (ws_ yX1_next cX1_next 3 (some .int))) B.pre
  have hts : ∀ w ∈ lw_all, w.before _ s = true := fun w h => hts w (List.mem_cons_of_mem _ h)
  have hown : s.vm.findClass RX1 = some m.cls := findClass_of_methodNamed B.named
  have hlocks := B.notSynchronized
  have S : CallFix p m c cX1_next 3 s _ lw_all RX1 := ⟨hx, hb, hml, hown, hts⟩
  have hl := lv_entry ([.ref h, .int k]) (n := 3) (Nat.le_of_ble_eq_true rfl)
  rw [lg_entry_eq]
  generalize (lg_sl ([.ref h, .int k]) ++ List.replicate (3 - (lg_sl ([.ref h, .int k])).length) Slot.unset).toArray = ls at hl ⊢
  have hl : lv_has ls 3 [(0, .ref h), (1, .int k)] := hl
  obtain ⟨h1, h2, h3, h4, h5, h6, ho1, ho0⟩ := id hQ
  have loop : ∀ (f i : Nat) (ls : Array Slot), i ≤ 16 → 17 ≤ i + f → (∀ z, z < i → k ≤ nI z → cu z = none) → lv_has ls 3 [(0, .ref h), (1, .int k), (2, .int (nI i))] → W p l e (headSpec (ws_ yX1_next cX1_next 3 (some .int)) (ls_rm 0 0)).room s m ([.ref h, .int k] : List Value).toArray below meth c s.heap [] 0 0 (MQ below (vp_Si (fun r => ls_nx cu k r)) ([.ref h, .int k] : List Value).toArray s 0 0 (fun _ => False)) (F0 m 2 ls []) := by
    intro f
    induction f with
    | zero => intro i ls g1 g2; omega
    | succ f ih =>
      intro i ls g1 g2 hv hl
      refine lv_iload_n hx hb dX1_next_2 rfl (lv_at hl 2 rfl) ?_
      refine lv_bipush (v := nI 16) hx hb dX1_next_3 (by decide) ?_
      refine ls_ige (tgt := 33) hx hb (by omega) (by omega) dX1_next_5 (by decide) (fun c1 => ?_) (fun c1 => ?_)
      · skip
        refine lv_iconst (v := (-1)) hx hb dX1_next_33 (by decide) ?_
        exact W.iret (v := (-1)) hx hb hr (fun t ht hW => ⟨_, rfl, Or.inl ⟨rfl, fun z hz hk => hv z (by omega) hk⟩, ht⟩) (fun q hq => by cases hq) dX1_next_34
      · skip
        have hskip : (k ≤ nI i → cu i = none) → W p l e (headSpec (ws_ yX1_next cX1_next 3 (some .int)) (ls_rm 0 0)).room s m ([.ref h, .int k] : List Value).toArray below meth c s.heap [] 0 0 (MQ below (vp_Si (fun r => ls_nx cu k r)) ([.ref h, .int k] : List Value).toArray s 0 0 (fun _ => False)) (F0 m 27 ls []) := by
          intro hci
          refine lv_iinc (v := nI (i + 1)) (lv' := [(2, .int (nI (i + 1))), (0, .ref h), (1, .int k)]) hx hb dX1_next_27 hl (k := 2) rfl (ls_inc i) (by decide) rfl (fun ls hl => ?_)
          refine lv_goto (tgt := 2) hx hb dX1_next_30 (by decide) ?_
          refine ih (i + 1) ls (by omega) (by omega) (fun z hz hk => ?_) (lv_sub hl [1, 2, 0] rfl)
          by_cases e0 : z = i
          · rw [e0] at hk ⊢; exact hci hk
          · exact hv z (by omega) hk
        refine lv_iload_n hx hb dX1_next_8 rfl (lv_at hl 2 rfl) ?_
        refine lv_iload_n hx hb dX1_next_9 rfl (lv_at hl 1 rfl) ?_
        refine lv_icmp_lt (tgt := 27) hx hb dX1_next_10 (by decide) (fun c2 => ?_) (fun c2 => ?_)
        · exact hskip (fun z => absurd c2 (Int32.not_lt.mpr z))
        · skip
          refine lv_aload_n hx hb dX1_next_13 rfl (lv_at hl 0 rfl) ?_
          refine ml_g0 S hK hP dX1_next_14 ?_
          refine lv_iload_n hx hb dX1_next_17 rfl (lv_at hl 2 rfl) ?_
          refine lv_ishr hx hb dX1_next_18 ?_
          refine lv_iconst (v := 1) hx hb dX1_next_19 (by decide) ?_
          refine lv_iand hx hb dX1_next_20 ?_
          rw [show ((ky >>> ((nI i) &&& 31)) &&& 1 : Int32) = if bt ky i = true then 1 else 0 from ls_bit ky c1]
          refine lv_iconst (v := 1) hx hb dX1_next_21 (by decide) ?_
          by_cases hbt : bt ky i = true
          · rw [if_pos hbt]
            refine lv_icmp_ne (tgt := 27) hx hb dX1_next_22 (by decide) (fun c3 => ?_) (fun c3 => ?_)
            · exact absurd rfl c3
            · skip
              refine lv_iload_n hx hb dX1_next_25 rfl (lv_at hl 2 rfl) ?_
              exact W.iret (v := nI i) hx hb hr (fun t ht hW => ⟨_, rfl, Or.inr ⟨i, c1, rfl, Int32.not_lt.mp c2, fun z => (by rw [← h1 i c1, ml_v_t hbt] at z; cases z), hv⟩, ht⟩) (fun q hq => by cases hq) dX1_next_26
          · rw [if_neg hbt]
            refine lv_icmp_ne (tgt := 27) hx hb dX1_next_22 (by decide) (fun c3 => ?_) (fun c3 => ?_)
            · exact hskip (fun _ => by rw [← h1 i c1, ml_v_f hbt])
            · exact absurd c3 (by decide)
  refine lv_iconst (v := nI 0) hx hb dX1_next_0 (by decide) ?_
  refine lv_istore_n (lv' := [(2, .int (nI 0)), (0, .ref h), (1, .int k)]) hx hb dX1_next_1 rfl hl (by decide) rfl (fun ls hl => ?_)
  exact loop 17 0 ls (by omega) (by omega) (fun z hz => by omega) (lv_sub hl [1, 2, 0] rfl)
set_option maxHeartbeats 4000000 in
set_option maxRecDepth 100000 in
/-- count() -/
theorem mt1_count {l : Launch} {dC : Nat → ClassId} {dI : Nat → Nat → Nat} {h : Nat} {a : Nat → Nat} {dB dZ dN : ClassId} {ky bk kp op cg : Int32} {vv bv kv : Nat → Int32} {cu ba sa : Nat → Option Int32} {o : Bool} {ch : Int32} (hQ : ml_R ky bk kp op cg vv bv kv cu ba sa o ch) : Met l yX1_count (ws_ yX1_count cX1_count 3 (some .int)) (ls_rm 0 0) (va_Pc [.ref h] (fun U => va_P (dC, dI) ls_C (ml_W h a dN ky bk kp op cg vv bv kv) U.heap ∧ va_K (dC, dI) ls_C (ls_T dB dZ dN) U)) (vp_Si (fun r => r = nI (ls_ct cu 16))) 0 0 (fun _ => False) := by
  refine Met.ofW (cc := cX1_count) (maxL := 3) (ret := (some .int)) (by decide) rfl ?_
  intro p e s m args below meth c s₁ B hml hv
  obtain ⟨rfl, hP, hK⟩ := hv
  have hx := B.exec
  have hb := B.bytes
  have hr := B.returns
  have hts := atoms_spec (ws := (ws_ yX1_count cX1_count 3 (some .int))) B.pre
  have hts : ∀ w ∈ lw_all, w.before _ s = true := fun w h => hts w (List.mem_cons_of_mem _ h)
  have hown : s.vm.findClass RX1 = some m.cls := findClass_of_methodNamed B.named
  have hlocks := B.notSynchronized
  have S : CallFix p m c cX1_count 3 s _ lw_all RX1 := ⟨hx, hb, hml, hown, hts⟩
  have hl := lv_entry ([.ref h]) (n := 3) (Nat.le_of_ble_eq_true rfl)
  rw [lg_entry_eq]
  generalize (lg_sl ([.ref h]) ++ List.replicate (3 - (lg_sl ([.ref h])).length) Slot.unset).toArray = ls at hl ⊢
  have hl : lv_has ls 3 [(0, .ref h)] := hl
  obtain ⟨h1, h2, h3, h4, h5, h6, ho1, ho0⟩ := id hQ
  have loop : ∀ (f i : Nat) (ls : Array Slot), i ≤ 16 → 17 ≤ i + f → lv_has ls 3 [(0, .ref h), (1, .int (nI (ls_ct cu i))), (2, .int (nI i))] → W p l e (headSpec (ws_ yX1_count cX1_count 3 (some .int)) (ls_rm 0 0)).room s m ([.ref h] : List Value).toArray below meth c s.heap [] 0 0 (MQ below (vp_Si (fun r => r = nI (ls_ct cu 16))) ([.ref h] : List Value).toArray s 0 0 (fun _ => False)) (F0 m 4 ls []) := by
    intro f
    induction f with
    | zero => intro i ls g1 g2; omega
    | succ f ih =>
      intro i ls g1 g2 hl
      refine lv_iload_n hx hb dX1_count_4 rfl (lv_at hl 2 rfl) ?_
      refine lv_bipush (v := nI 16) hx hb dX1_count_5 (by decide) ?_
      refine ls_ige (tgt := 27) hx hb (by omega) (by omega) dX1_count_7 (by decide) (fun c1 => ?_) (fun c1 => ?_)
      · skip
        refine lv_iload_n hx hb dX1_count_27 rfl (lv_at hl 1 rfl) ?_
        exact W.iret (v := nI (ls_ct cu i)) hx hb hr (fun t ht hW => ⟨_, rfl, by rw [show i = 16 by omega], ht⟩) (fun q hq => by cases hq) dX1_count_28
      · skip
        refine lv_iload_n hx hb dX1_count_10 rfl (lv_at hl 1 rfl) ?_
        refine lv_aload_n hx hb dX1_count_11 rfl (lv_at hl 0 rfl) ?_
        refine ml_g0 S hK hP dX1_count_12 ?_
        refine lv_iload_n hx hb dX1_count_15 rfl (lv_at hl 2 rfl) ?_
        refine lv_ishr hx hb dX1_count_16 ?_
        refine lv_iconst (v := 1) hx hb dX1_count_17 (by decide) ?_
        refine lv_iand hx hb dX1_count_18 ?_
        refine lv_iadd hx hb dX1_count_19 ?_
        rw [show ((nI (ls_ct cu i)) + ((ky >>> ((nI i) &&& 31)) &&& 1) : Int32) = nI (ls_ct cu (i + 1)) from ml_ct c1 (h1 i c1)]
        refine lv_istore_n (lv' := [(1, .int (nI (ls_ct cu (i + 1)))), (0, .ref h), (2, .int (nI i))]) hx hb dX1_count_20 rfl hl (by decide) rfl (fun ls hl => ?_)
        refine lv_iinc (v := nI (i + 1)) (lv' := [(2, .int (nI (i + 1))), (1, .int (nI (ls_ct cu (i + 1)))), (0, .ref h)]) hx hb dX1_count_21 hl (k := 2) rfl (ls_inc i) (by decide) rfl (fun ls hl => ?_)
        refine lv_goto (tgt := 4) hx hb dX1_count_24 (by decide) ?_
        exact ih (i + 1) ls (by omega) (by omega) (lv_sub hl [2, 1, 0] rfl)
  refine lv_iconst (v := nI (ls_ct cu 0)) hx hb dX1_count_0 rfl ?_
  refine lv_istore_n (lv' := [(1, .int (nI (ls_ct cu 0))), (0, .ref h)]) hx hb dX1_count_1 rfl hl (by decide) rfl (fun ls hl => ?_)
  refine lv_iconst (v := nI 0) hx hb dX1_count_2 (by decide) ?_
  refine lv_istore_n (lv' := [(2, .int (nI 0)), (1, .int (nI (ls_ct cu 0))), (0, .ref h)]) hx hb dX1_count_3 rfl hl (by decide) rfl (fun ls hl => ?_)
  exact loop 17 0 ls (by omega) (by omega) (lv_sub hl [2, 1, 0] rfl)
set_option maxHeartbeats 4000000 in
set_option maxRecDepth 100000 in
/-- safeKeys() -/
theorem mt1_safeKeys {l : Launch} {dC : Nat → ClassId} {dI : Nat → Nat → Nat} {h : Nat} {a : Nat → Nat} {dB dZ dN : ClassId} {ky bk kp op cg : Int32} {vv bv kv : Nat → Int32} {cu ba sa : Nat → Option Int32} {o : Bool} {ch : Int32} (hQ : ml_R ky bk kp op cg vv bv kv cu ba sa o ch) : Met l yX1_safeKeys (ws_ yX1_safeKeys cX1_safeKeys 1 (some .int)) (ls_rm 0 0) (va_Pc [.ref h] (fun U => va_P (dC, dI) ls_C (ml_W h a dN ky bk kp op cg vv bv kv) U.heap ∧ va_K (dC, dI) ls_C (ls_T dB dZ dN) U)) (vp_Si (fun r => ls_mk (fun j => (sa j).isSome) r)) 0 0 (fun _ => False) := by
  refine Met.ofW (cc := cX1_safeKeys) (maxL := 1) (ret := (some .int)) (by decide) rfl ?_
  intro p e s m args below meth c s₁ B hml hv
  obtain ⟨rfl, hP, hK⟩ := hv
  have hx := B.exec
  have hb := B.bytes
  have hr := B.returns
  have hts := atoms_spec (ws := (ws_ yX1_safeKeys cX1_safeKeys 1 (some .int))) B.pre
  have hts : ∀ w ∈ lw_all, w.before _ s = true := fun w h => hts w (List.mem_cons_of_mem _ h)
  have hown : s.vm.findClass RX1 = some m.cls := findClass_of_methodNamed B.named
  have hlocks := B.notSynchronized
  have S : CallFix p m c cX1_safeKeys 1 s _ lw_all RX1 := ⟨hx, hb, hml, hown, hts⟩
  have hl := lv_entry ([.ref h]) (n := 1) (Nat.le_of_ble_eq_true rfl)
  rw [lg_entry_eq]
  generalize (lg_sl ([.ref h]) ++ List.replicate (1 - (lg_sl ([.ref h])).length) Slot.unset).toArray = ls at hl ⊢
  have hl : lv_has ls 1 [(0, .ref h)] := hl
  obtain ⟨h1, h2, h3, h4, h5, h6, ho1, ho0⟩ := id hQ
  refine lv_aload_n hx hb dX1_safeKeys_0 rfl (lv_at hl 0 rfl) ?_
  refine ml_g2 S hK hP dX1_safeKeys_1 ?_
  exact W.iret (v := kp) hx hb hr (fun t ht hW => ⟨_, rfl, ml_mk h3 h6, ht⟩) (fun q hq => by cases hq) dX1_safeKeys_4
set_option maxHeartbeats 4000000 in
set_option maxRecDepth 100000 in
/-- safeValue(k) -/
theorem mt1_safeValue {l : Launch} {dC : Nat → ClassId} {dI : Nat → Nat → Nat} {h : Nat} {a : Nat → Nat} {dB dZ dN : ClassId} {ky bk kp op cg : Int32} {vv bv kv : Nat → Int32} {cu ba sa : Nat → Option Int32} {o : Bool} {ch : Int32} (hQ : ml_R ky bk kp op cg vv bv kv cu ba sa o ch) {k : Int32} : Met l yX1_safeValue (ws_ yX1_safeValue cX1_safeValue 2 (some .int)) (ls_rm 1 21) (va_Pc [.ref h, .int k] (fun U => va_P (dC, dI) ls_C (ml_W h a dN ky bk kp op cg vv bv kv) U.heap ∧ va_K (dC, dI) ls_C (ls_T dB dZ dN) U)) (vp_Si (fun r => r = ls_get sa k)) 0 0 (fun _ => False) := by
  refine Met.ofW (cc := cX1_safeValue) (maxL := 2) (ret := (some .int)) (by decide) rfl ?_
  intro p e s m args below meth c s₁ B hml hv
  obtain ⟨rfl, hP, hK⟩ := hv
  have hx := B.exec
  have hb := B.bytes
  have hr := B.returns
  have hts := atoms_spec (ws := (ws_ yX1_safeValue cX1_safeValue 2 (some .int))) B.pre
  have hts : ∀ w ∈ lw_all, w.before _ s = true := fun w h => hts w (List.mem_cons_of_mem _ h)
  have hown : s.vm.findClass RX1 = some m.cls := findClass_of_methodNamed B.named
  have hlocks := B.notSynchronized
  have S : CallFix p m c cX1_safeValue 2 s _ lw_all RX1 := ⟨hx, hb, hml, hown, hts⟩
  have hl := lv_entry ([.ref h, .int k]) (n := 2) (Nat.le_of_ble_eq_true rfl)
  rw [lg_entry_eq]
  generalize (lg_sl ([.ref h, .int k]) ++ List.replicate (2 - (lg_sl ([.ref h, .int k])).length) Slot.unset).toArray = ls at hl ⊢
  have hl : lv_has ls 2 [(0, .ref h), (1, .int k)] := hl
  obtain ⟨h1, h2, h3, h4, h5, h6, ho1, ho0⟩ := id hQ
  refine lv_aload_n hx hb dX1_safeValue_0 rfl (lv_at hl 0 rfl) ?_
  refine lv_iload_n hx hb dX1_safeValue_1 rfl (lv_at hl 1 rfl) ?_
  refine ml_c_key S hK hP hl.1 ⟨Nat.le_of_ble_eq_true rfl, Nat.le_of_ble_eq_true rfl⟩ ⟨Nat.zero_le _, Nat.zero_le _⟩ (Nat.le_of_ble_eq_true rfl) dX1_safeValue_2 (fun r9 hr9 => ?_)
  subst hr9
  rcases ls_kb_c k with ⟨h0, -⟩ | ⟨j, hj, rfl, hk1⟩
  · skip
    refine lv_if_eq (tgt := 29) hx hb dX1_safeValue_5 (by decide) (fun c1 => ?_) (fun c1 => ?_)
    · skip
      refine lv_iconst (v := 0) hx hb dX1_safeValue_29 (by decide) ?_
      exact W.iret (v := 0) hx hb hr (fun t ht hW => ⟨_, rfl, (ls_get_k h0).symm, ht⟩) (fun q hq => by cases hq) dX1_safeValue_30
    · exact absurd h0 c1
  · skip
    refine lv_if_eq (tgt := 29) hx hb dX1_safeValue_5 (by decide) (fun c1 => ?_) (fun c1 => ?_)
    · exact absurd c1 (by rw [hk1]; decide)
    · skip
      refine lv_aload_n hx hb dX1_safeValue_8 rfl (lv_at hl 0 rfl) ?_
      refine ml_g2 S hK hP dX1_safeValue_9 ?_
      refine lv_iload_n hx hb dX1_safeValue_12 rfl (lv_at hl 1 rfl) ?_
      refine lv_ishr hx hb dX1_safeValue_13 ?_
      refine lv_iconst (v := 1) hx hb dX1_safeValue_14 (by decide) ?_
      refine lv_iand hx hb dX1_safeValue_15 ?_
      rw [show ((kp >>> ((nI j) &&& 31)) &&& 1 : Int32) = if bt kp j = true then 1 else 0 from ls_bit kp hj]
      refine lv_iconst (v := 1) hx hb dX1_safeValue_16 (by decide) ?_
      by_cases hbt : bt kp j = true
      · rw [if_pos hbt]
        refine lv_icmp_ne (tgt := 29) hx hb dX1_safeValue_17 (by decide) (fun c2 => ?_) (fun c2 => ?_)
        · exact absurd rfl c2
        · skip
          refine lv_aload_n hx hb dX1_safeValue_20 rfl (lv_at hl 0 rfl) ?_
          refine ml_g5 S hK hP dX1_safeValue_21 ?_
          refine lv_iload_n hx hb dX1_safeValue_24 rfl (lv_at hl 1 rfl) ?_
          refine ml_l2 S hK hP hj dX1_safeValue_25 ?_
          refine lv_goto (tgt := 30) hx hb dX1_safeValue_26 (by decide) ?_
          exact W.iret (v := kv j) hx hb hr (fun t ht hW => ⟨_, rfl, (ls_get_1 hj (by rw [← h3 j hj, ml_v_t hbt])).symm, ht⟩) (fun q hq => by cases hq) dX1_safeValue_30
      · rw [if_neg hbt]
        refine lv_icmp_ne (tgt := 29) hx hb dX1_safeValue_17 (by decide) (fun c2 => ?_) (fun c2 => ?_)
        · skip
          refine lv_iconst (v := 0) hx hb dX1_safeValue_29 (by decide) ?_
          exact W.iret (v := 0) hx hb hr (fun t ht hW => ⟨_, rfl, (ls_get_n hj (by rw [← h3 j hj, ml_v_f hbt])).symm, ht⟩) (fun q hq => by cases hq) dX1_safeValue_30
        · exact absurd c2 (by decide)
set_option maxHeartbeats 4000000 in
set_option maxRecDepth 100000 in
/-- the keys whose state is not the safe one -/
theorem mt1_uns {l : Launch} {dC : Nat → ClassId} {dI : Nat → Nat → Nat} {h : Nat} {a : Nat → Nat} {dB dZ dN : ClassId} {ky bk kp op cg : Int32} {vv bv kv : Nat → Int32} {cu ba sa : Nat → Option Int32} {o : Bool} {ch : Int32} (hQ : ml_R ky bk kp op cg vv bv kv cu ba sa o ch) : Met l yX1_unsafe (ws_ yX1_unsafe cX1_unsafe 4 (some .int)) (ls_rm 0 0) (va_Pc [.ref h] (fun U => va_P (dC, dI) ls_C (ml_W h a dN ky bk kp op cg vv bv kv) U.heap ∧ va_K (dC, dI) ls_C (ls_T dB dZ dN) U)) (vp_Si (fun r => ls_mk (fun j => decide (¬ cu j = sa j)) r)) 0 0 (fun _ => False) := by
  refine Met.ofW (cc := cX1_unsafe) (maxL := 4) (ret := (some .int)) (by decide) rfl ?_
  intro p e s m args below meth c s₁ B hml hv
  obtain ⟨rfl, hP, hK⟩ := hv
  have hx := B.exec
  have hb := B.bytes
  have hr := B.returns
  have hts := atoms_spec (ws := (ws_ yX1_unsafe cX1_unsafe 4 (some .int))) B.pre
  have hts : ∀ w ∈ lw_all, w.before _ s = true := fun w h => hts w (List.mem_cons_of_mem _ h)
  have hown : s.vm.findClass RX1 = some m.cls := findClass_of_methodNamed B.named
  have hlocks := B.notSynchronized
  have S : CallFix p m c cX1_unsafe 4 s _ lw_all RX1 := ⟨hx, hb, hml, hown, hts⟩
  have hl := lv_entry ([.ref h]) (n := 4) (Nat.le_of_ble_eq_true rfl)
  rw [lg_entry_eq]
  generalize (lg_sl ([.ref h]) ++ List.replicate (4 - (lg_sl ([.ref h])).length) Slot.unset).toArray = ls at hl ⊢
  have hl : lv_has ls 4 [(0, .ref h)] := hl
  obtain ⟨h1, h2, h3, h4, h5, h6, ho1, ho0⟩ := id hQ
  have loop : ∀ (f i : Nat) (r0 : Int32) (ls : Array Slot), i ≤ 16 → 17 ≤ i + f → ml_mu (fun j => decide (¬ cu j = sa j)) ky kp i r0 → lv_has ls 4 [(0, .ref h), (1, .int r0), (2, .int (nI i))] → W p l e (headSpec (ws_ yX1_unsafe cX1_unsafe 4 (some .int)) (ls_rm 0 0)).room s m ([.ref h] : List Value).toArray below meth c s.heap [] 0 0 (MQ below (vp_Si (fun r => ls_mk (fun j => decide (¬ cu j = sa j)) r)) ([.ref h] : List Value).toArray s 0 0 (fun _ => False)) (F0 m 12 ls []) := by
    intro f
    induction f with
    | zero => intro i r0 ls g1 g2; omega
    | succ f ih =>
      intro i r0 ls g1 g2 hm hl
      refine lv_iload_n hx hb dX1_unsafe_12 rfl (lv_at hl 2 rfl) ?_
      refine lv_bipush (v := nI 16) hx hb dX1_unsafe_13 (by decide) ?_
      refine ls_ige (tgt := 83) hx hb (by omega) (by omega) dX1_unsafe_15 (by decide) (fun c1 => ?_) (fun c1 => ?_)
      · skip
        refine lv_iload_n hx hb dX1_unsafe_83 rfl (lv_at hl 1 rfl) ?_
        exact W.iret (v := r0) hx hb hr (fun t ht hW => ⟨_, rfl, by rw [show i = 16 by omega] at hm; exact ml_mu_e hm h4 h6, ht⟩) (fun q hq => by cases hq) dX1_unsafe_84
      · skip
        have hskip : ∀ ls : Array Slot, lv_has ls 4 [(0, .ref h), (1, .int r0), (2, .int (nI i))] → decide (¬ cu i = sa i) = (bt ky i ^^ bt kp i) → W p l e (headSpec (ws_ yX1_unsafe cX1_unsafe 4 (some .int)) (ls_rm 0 0)).room s m ([.ref h] : List Value).toArray below meth c s.heap [] 0 0 (MQ below (vp_Si (fun r => ls_mk (fun j => decide (¬ cu j = sa j)) r)) ([.ref h] : List Value).toArray s 0 0 (fun _ => False)) (F0 m 75 ls []) := by
          intro ls hl hfi
          refine lv_iload_n hx hb dX1_unsafe_75 rfl (lv_at hl 1 rfl) ?_
          refine lv_istore_n (lv' := [(1, .int r0), (0, .ref h), (2, .int (nI i))]) hx hb dX1_unsafe_76 rfl hl (by decide) rfl (fun ls hl => ?_)
          refine lv_iinc (v := nI (i + 1)) (lv' := [(2, .int (nI (i + 1))), (1, .int r0), (0, .ref h)]) hx hb dX1_unsafe_77 hl (k := 2) rfl (ls_inc i) (by decide) rfl (fun ls hl => ?_)
          refine lv_goto (tgt := 12) hx hb dX1_unsafe_80 (by decide) ?_
          exact ih (i + 1) r0 ls (by omega) (by omega) (ml_mu_s hm hfi) (lv_sub hl [2, 1, 0] rfl)
        have hno : decide (¬ cu i = sa i) = (bt ky i ^^ bt kp i) → W p l e (headSpec (ws_ yX1_unsafe cX1_unsafe 4 (some .int)) (ls_rm 0 0)).room s m ([.ref h] : List Value).toArray below meth c s.heap [] 0 0 (MQ below (vp_Si (fun r => ls_mk (fun j => decide (¬ cu j = sa j)) r)) ([.ref h] : List Value).toArray s 0 0 (fun _ => False)) (F0 m 46 ls []) := by
          intro hfi
          refine lv_iconst (v := 0) hx hb dX1_unsafe_46 (by decide) ?_
          refine lv_istore_n (lv' := [(3, .int 0), (0, .ref h), (1, .int r0), (2, .int (nI i))]) hx hb dX1_unsafe_47 rfl hl (by decide) rfl (fun ls hl => ?_)
          refine lv_iload_n hx hb dX1_unsafe_48 rfl (lv_at hl 0 rfl) ?_
          refine lv_if_eq (tgt := 75) hx hb dX1_unsafe_49 (by decide) (fun c4 => ?_) (fun c4 => ?_)
          · exact hskip ls (lv_sub hl [1, 2, 3] rfl) hfi
          · exact absurd rfl c4
        have hcu := h1 i c1
        have hsa := h3 i c1
        refine lv_aload_n hx hb dX1_unsafe_18 rfl (lv_at hl 0 rfl) ?_
        refine ml_g0 S hK hP dX1_unsafe_19 ?_
        refine lv_iload_n hx hb dX1_unsafe_22 rfl (lv_at hl 2 rfl) ?_
        refine lv_ishr hx hb dX1_unsafe_23 ?_
        refine lv_iconst (v := 1) hx hb dX1_unsafe_24 (by decide) ?_
        refine lv_iand hx hb dX1_unsafe_25 ?_
        rw [show ((ky >>> ((nI i) &&& 31)) &&& 1 : Int32) = if bt ky i = true then 1 else 0 from ls_bit ky c1]
        refine lv_iconst (v := 1) hx hb dX1_unsafe_26 (by decide) ?_
        by_cases b1 : bt ky i = true
        · rw [if_pos b1]
          refine lv_icmp_ne (tgt := 46) hx hb dX1_unsafe_27 (by decide) (fun c2 => ?_) (fun c2 => ?_)
          · exact absurd rfl c2
          · skip
            refine lv_aload_n hx hb dX1_unsafe_30 rfl (lv_at hl 0 rfl) ?_
            refine ml_g2 S hK hP dX1_unsafe_31 ?_
            refine lv_iload_n hx hb dX1_unsafe_34 rfl (lv_at hl 2 rfl) ?_
            refine lv_ishr hx hb dX1_unsafe_35 ?_
            refine lv_iconst (v := 1) hx hb dX1_unsafe_36 (by decide) ?_
            refine lv_iand hx hb dX1_unsafe_37 ?_
            rw [show ((kp >>> ((nI i) &&& 31)) &&& 1 : Int32) = if bt kp i = true then 1 else 0 from ls_bit kp c1]
            refine lv_iconst (v := 1) hx hb dX1_unsafe_38 (by decide) ?_
            by_cases b2 : bt kp i = true
            · rw [if_pos b2]
              refine lv_icmp_ne (tgt := 46) hx hb dX1_unsafe_39 (by decide) (fun c3 => ?_) (fun c3 => ?_)
              · exact absurd rfl c3
              · skip
                rw [ml_v_t b1] at hcu
                rw [ml_v_t b2] at hsa
                refine lv_iconst (v := 1) hx hb dX1_unsafe_42 (by decide) ?_
                refine lv_goto (tgt := 47) hx hb dX1_unsafe_43 (by decide) ?_
                refine lv_istore_n (lv' := [(3, .int 1), (0, .ref h), (1, .int r0), (2, .int (nI i))]) hx hb dX1_unsafe_47 rfl hl (by decide) rfl (fun ls hl => ?_)
                refine lv_iload_n hx hb dX1_unsafe_48 rfl (lv_at hl 0 rfl) ?_
                refine lv_if_eq (tgt := 75) hx hb dX1_unsafe_49 (by decide) (fun c4 => ?_) (fun c4 => ?_)
                · exact absurd c4 (by decide)
                · skip
                  refine lv_aload_n hx hb dX1_unsafe_52 rfl (lv_at hl 1 rfl) ?_
                  refine ml_g3 S hK hP dX1_unsafe_53 ?_
                  refine lv_iload_n hx hb dX1_unsafe_56 rfl (lv_at hl 3 rfl) ?_
                  refine ml_l0 S hK hP c1 dX1_unsafe_57 ?_
                  refine lv_aload_n hx hb dX1_unsafe_58 rfl (lv_at hl 1 rfl) ?_
                  refine ml_g5 S hK hP dX1_unsafe_59 ?_
                  refine lv_iload_n hx hb dX1_unsafe_62 rfl (lv_at hl 3 rfl) ?_
                  refine ml_l2 S hK hP c1 dX1_unsafe_63 ?_
                  refine lv_icmp_eq (tgt := 75) hx hb dX1_unsafe_64 (by decide) (fun c5 => ?_) (fun c5 => ?_)
                  · exact hskip ls (lv_sub hl [1, 2, 3] rfl) (by rw [← hcu, ← hsa, c5, b1, b2]; simp)
                  · skip
                    refine lv_iload_n hx hb dX1_unsafe_67 rfl (lv_at hl 2 rfl) ?_
                    refine lv_iconst (v := 1) hx hb dX1_unsafe_68 (by decide) ?_
                    refine lv_iload_n hx hb dX1_unsafe_69 rfl (lv_at hl 3 rfl) ?_
                    refine lv_ishl hx hb dX1_unsafe_70 ?_
                    refine lv_ior hx hb dX1_unsafe_71 ?_
                    refine lv_goto (tgt := 76) hx hb dX1_unsafe_72 (by decide) ?_
                    refine lv_istore_n (lv' := [(1, .int (r0 ||| (1 <<< ((nI i) &&& 31)))), (3, .int 1), (0, .ref h), (2, .int (nI i))]) hx hb dX1_unsafe_76 rfl hl (by decide) rfl (fun ls hl => ?_)
                    refine lv_iinc (v := nI (i + 1)) (lv' := [(2, .int (nI (i + 1))), (1, .int (r0 ||| (1 <<< ((nI i) &&& 31)))), (3, .int 1), (0, .ref h)]) hx hb dX1_unsafe_77 hl (k := 3) rfl (ls_inc i) (by decide) rfl (fun ls hl => ?_)
                    refine lv_goto (tgt := 12) hx hb dX1_unsafe_80 (by decide) ?_
                    exact ih (i + 1) _ ls (by omega) (by omega) (ml_mu_t hm c1 (by show decide (¬ cu i = sa i) = true; rw [← hcu, ← hsa]; simp [c5])) (lv_sub hl [3, 1, 0] rfl)
            · rw [if_neg b2]
              refine lv_icmp_ne (tgt := 46) hx hb dX1_unsafe_39 (by decide) (fun c3 => ?_) (fun c3 => ?_)
              · exact hno (by rw [← hcu, ← hsa, ml_v_t b1, ml_v_f b2, b1]; simp at b2; simp [b2])
              · exact absurd c3 (by decide)
        · rw [if_neg b1]
          refine lv_icmp_ne (tgt := 46) hx hb dX1_unsafe_27 (by decide) (fun c2 => ?_) (fun c2 => ?_)
          · refine hno ?_
            rw [← hcu, ← hsa, ml_v_f b1]
            simp at b1
            by_cases b2 : bt kp i = true
            · rw [ml_v_t b2]; simp [b1, b2]
            · rw [ml_v_f b2]; simp at b2; simp [b1, b2]
          · exact absurd c2 (by decide)
  refine lv_aload_n hx hb dX1_unsafe_0 rfl (lv_at hl 0 rfl) ?_
  refine ml_g0 S hK hP dX1_unsafe_1 ?_
  refine lv_aload_n hx hb dX1_unsafe_4 rfl (lv_at hl 0 rfl) ?_
  refine ml_g2 S hK hP dX1_unsafe_5 ?_
  refine lv_ixor hx hb dX1_unsafe_8 ?_
  refine lv_istore_n (lv' := [(1, .int (ky ^^^ kp)), (0, .ref h)]) hx hb dX1_unsafe_9 rfl hl (by decide) rfl (fun ls hl => ?_)
  refine lv_iconst (v := nI 0) hx hb dX1_unsafe_10 (by decide) ?_
  refine lv_istore_n (lv' := [(2, .int (nI 0)), (1, .int (ky ^^^ kp)), (0, .ref h)]) hx hb dX1_unsafe_11 rfl hl (by decide) rfl (fun ls hl => ?_)
  exact loop 17 0 _ ls (by omega) (by omega) ml_mu_0 (lv_sub hl [2, 1, 0] rfl)
set_option maxHeartbeats 4000000 in
set_option maxRecDepth 100000 in
/-- pending() -/
theorem mt1_pending {l : Launch} {dC : Nat → ClassId} {dI : Nat → Nat → Nat} {h : Nat} {a : Nat → Nat} {dB dZ dN : ClassId} {ky bk kp op cg : Int32} {vv bv kv : Nat → Int32} {cu ba sa : Nat → Option Int32} {o : Bool} {ch : Int32} (hQ : ml_R ky bk kp op cg vv bv kv cu ba sa o ch) : Met l yX1_pending (ws_ yX1_pending cX1_pending 1 (some .int)) (ls_rm 0 0) (va_Pc [.ref h] (fun U => va_P (dC, dI) ls_C (ml_W h a dN ky bk kp op cg vv bv kv) U.heap ∧ va_K (dC, dI) ls_C (ls_T dB dZ dN) U)) (vp_Si (fun r => r = ch)) 0 0 (fun _ => False) := by
  refine Met.ofW (cc := cX1_pending) (maxL := 1) (ret := (some .int)) (by decide) rfl ?_
  intro p e s m args below meth c s₁ B hml hv
  obtain ⟨rfl, hP, hK⟩ := hv
  have hx := B.exec
  have hb := B.bytes
  have hr := B.returns
  have hts := atoms_spec (ws := (ws_ yX1_pending cX1_pending 1 (some .int))) B.pre
  have hts : ∀ w ∈ lw_all, w.before _ s = true := fun w h => hts w (List.mem_cons_of_mem _ h)
  have hown : s.vm.findClass RX1 = some m.cls := findClass_of_methodNamed B.named
  have hlocks := B.notSynchronized
  have S : CallFix p m c cX1_pending 1 s _ lw_all RX1 := ⟨hx, hb, hml, hown, hts⟩
  have hl := lv_entry ([.ref h]) (n := 1) (Nat.le_of_ble_eq_true rfl)
  rw [lg_entry_eq]
  generalize (lg_sl ([.ref h]) ++ List.replicate (1 - (lg_sl ([.ref h])).length) Slot.unset).toArray = ls at hl ⊢
  have hl : lv_has ls 1 [(0, .ref h)] := hl
  obtain ⟨h1, h2, h3, h4, h5, h6, ho1, ho0⟩ := id hQ
  refine lv_aload_n hx hb dX1_pending_0 rfl (lv_at hl 0 rfl) ?_
  refine ml_g6 S hK hP dX1_pending_1 ?_
  cases o with
  | true =>
    refine lv_if_eq (tgt := 14) hx hb dX1_pending_4 (by decide) (fun c1 => ?_) (fun c1 => ?_)
    · exact absurd c1 (by rw [(ho1 rfl).1]; decide)
    · skip
      refine lv_aload_n hx hb dX1_pending_7 rfl (lv_at hl 0 rfl) ?_
      refine ml_g7 S hK hP dX1_pending_8 ?_
      refine lv_goto (tgt := 15) hx hb dX1_pending_11 (by decide) ?_
      exact W.iret (v := cg) hx hb hr (fun t ht hW => ⟨_, rfl, (ho1 rfl).2, ht⟩) (fun q hq => by cases hq) dX1_pending_15
  | false =>
    refine lv_if_eq (tgt := 14) hx hb dX1_pending_4 (by decide) (fun c1 => ?_) (fun c1 => ?_)
    · skip
      refine lv_iconst (v := 0) hx hb dX1_pending_14 (by decide) ?_
      exact W.iret (v := 0) hx hb hr (fun t ht hW => ⟨_, rfl, (ho0 rfl).2.symm, ht⟩) (fun q hq => by cases hq) dX1_pending_15
    · exact absurd (ho0 rfl).1 c1
set_option maxHeartbeats 4000000 in
set_option maxRecDepth 100000 in
/-- put(k, v) -/
theorem mt1_put {l : Launch} {dC : Nat → ClassId} {dI : Nat → Nat → Nat} {h : Nat} {a : Nat → Nat} {dB dZ dN : ClassId} {ky bk kp op cg : Int32} {vv bv kv : Nat → Int32} {sz : Nat} {cu ba sa : Nat → Option Int32} {o : Bool} {ch : Int32} (hQ : ml_R ky bk kp op cg vv bv kv cu ba sa o ch) {k v : Int32} : Met l yX1_put (ws_ yX1_put cX1_put 3 (some .boolean)) (ls_rm 2 41) (va_Pc [.ref h, .int k, .int v] (fun U => U.heap.size = sz ∧ va_P (dC, dI) ls_C (ml_W h a dN ky bk kp op cg vv bv kv) U.heap ∧ va_K (dC, dI) ls_C (ls_T dB dZ dN) U ∧ va_D (fun _ => True) (ml_W h a dN ky bk kp op cg vv bv kv))) (va_Qi (fun (r : Int32) (_ : Unit) => r = ls_kb k) (fun _ t => ml_B dC dI h a dB dZ dN (va_A (ml_W h a dN ky bk kp op cg vv bv kv) sz) (ls_cC (ls_kb k) cu k (some v)) (ls_cB (ls_kb k) o cu ba k (some v)) sa o (ls_cN (ls_kb k) o ch) t) (va_A (ml_W h a dN ky bk kp op cg vv bv kv) sz)) 0 0 (va_A (ml_W h a dN ky bk kp op cg vv bv kv) sz) := by
  refine Met.ofW (cc := cX1_put) (maxL := 3) (ret := (some .boolean)) (by decide) rfl ?_
  intro p e s m args below meth c s₁ B hml hv
  obtain ⟨rfl, hsz, hP, hK, hD0⟩ := hv
  have hx := B.exec
  have hb := B.bytes
  have hr := B.returns
  have hts := atoms_spec (ws := (ws_ yX1_put cX1_put 3 (some .boolean))) B.pre
  have hts : ∀ w ∈ lw_all, w.before _ s = true := fun w h => hts w (List.mem_cons_of_mem _ h)
  have hown : s.vm.findClass RX1 = some m.cls := findClass_of_methodNamed B.named
  have hlocks := B.notSynchronized
  have S : CallFix p m c cX1_put 3 s _ lw_all RX1 := ⟨hx, hb, hml, hown, hts⟩
  subst hsz
  have hD := hD0.self (sz := s.heap.size)
  generalize hAe : va_A (ml_W h a dN ky bk kp op cg vv bv kv) s.heap.size = A at hD ⊢
  have hA : ∀ q : Nat, s.heap.size ≤ q → A q := fun q h => by rw [← hAe]; exact Or.inr h
  have hS : va_S A s.heap s.heap [] := va_S.rf
  have hl := lv_entry ([.ref h, .int k, .int v]) (n := 3) (Nat.le_of_ble_eq_true rfl)
  rw [lg_entry_eq]
  generalize (lg_sl ([.ref h, .int k, .int v]) ++ List.replicate (3 - (lg_sl ([.ref h, .int k, .int v])).length) Slot.unset).toArray = ls at hl ⊢
  have hl : lv_has ls 3 [(0, .ref h), (1, .int k), (2, .int v)] := hl
  refine lv_aload_n hx hb dX1_put_0 rfl (lv_at hl 0 rfl) ?_
  refine lv_iload_n hx hb dX1_put_1 rfl (lv_at hl 1 rfl) ?_
  refine ml_c_key S hK hP hl.1 ⟨Nat.le_of_ble_eq_true rfl, Nat.le_of_ble_eq_true rfl⟩ ⟨Nat.zero_le _, Nat.zero_le _⟩ (Nat.le_of_ble_eq_true rfl) dX1_put_2 (fun r9 hr9 => ?_)
  subst hr9
  rcases ls_kb_c k with ⟨h0, -⟩ | ⟨j, hj, rfl, h1⟩
  · rw [ls_cC_0 h0, ls_cB_0 h0, ls_cN_0 h0]
    refine lv_if_ne (tgt := 10) hx hb dX1_put_5 (by decide) (fun c1 => ?_) (fun c1 => ?_)
    · exact absurd h0 c1
    · skip
      refine lv_iconst (v := 0) hx hb dX1_put_8 (by decide) ?_
      exact W.zret (v := 0) hx hb hr rfl (fun t ht hW => ⟨⟨0, (), rfl, h0.symm, _, _, _, _, _, _, _, _, by rw [ht]; exact hP, va_K.moved hW.alike hK, hD, hQ⟩, hS.F ht⟩) hS.2.2 dX1_put_9
  · have h2 : ¬ ls_kb (nI j) = 0 := by rw [h1]; decide
    rw [ls_cC_1 h2 hj, ls_cB_1 h2 hj, ls_cN_1 h2]
    refine lv_if_ne (tgt := 10) hx hb dX1_put_5 (by decide) (fun c1 => ?_) (fun c1 => ?_)
    · skip
      refine lv_aload_n hx hb dX1_put_10 rfl (lv_at hl 0 rfl) ?_
      refine lv_aload_n hx hb dX1_put_11 rfl (lv_at hl 0 rfl) ?_
      refine ml_g0 S hK hP dX1_put_12 ?_
      refine lv_iconst (v := 1) hx hb dX1_put_15 (by decide) ?_
      refine lv_iload_n hx hb dX1_put_16 rfl (lv_at hl 1 rfl) ?_
      refine lv_ishl hx hb dX1_put_17 ?_
      refine lv_ior hx hb dX1_put_18 ?_
      refine ml_p0 S hK hP hD hS dX1_put_19 (fun H locs hP hD hS => ?_)
      refine lv_aload_n hx hb dX1_put_22 rfl (lv_at hl 0 rfl) ?_
      refine ml_g3 S hK hP dX1_put_23 ?_
      refine lv_iload_n hx hb dX1_put_26 rfl (lv_at hl 1 rfl) ?_
      refine lv_iload_n hx hb dX1_put_27 rfl (lv_at hl 2 rfl) ?_
      refine ml_s0 S hK hP hD hS hj dX1_put_28 (fun H locs hP hD hS => ?_)
      refine lv_aload_n hx hb dX1_put_29 rfl (lv_at hl 0 rfl) ?_
      refine ml_c_change S hK hP hD hS hA hl.1 ⟨Nat.le_of_ble_eq_true rfl, Nat.le_of_ble_eq_true rfl⟩ ⟨Nat.zero_le _, Nat.zero_le _⟩ (Nat.le_of_ble_eq_true rfl) dX1_put_30 (ml_put hj hQ) (fun ky bk kp op cg vv bv kv H locs hP hD hS hQ => ?_)
      refine lv_iconst (v := 1) hx hb dX1_put_33 (by decide) ?_
      exact W.zret (v := 1) hx hb hr rfl (fun t ht hW => ⟨⟨1, (), rfl, h1.symm, _, _, _, _, _, _, _, _, by rw [ht]; exact hP, va_K.moved hW.alike hK, hD, hQ⟩, hS.F ht⟩) hS.2.2 dX1_put_34
    · exact absurd c1 h2
set_option maxHeartbeats 4000000 in
set_option maxRecDepth 100000 in
/-- remove(k) -/
theorem mt1_remove {l : Launch} {dC : Nat → ClassId} {dI : Nat → Nat → Nat} {h : Nat} {a : Nat → Nat} {dB dZ dN : ClassId} {ky bk kp op cg : Int32} {vv bv kv : Nat → Int32} {sz : Nat} {cu ba sa : Nat → Option Int32} {o : Bool} {ch : Int32} (hQ : ml_R ky bk kp op cg vv bv kv cu ba sa o ch) {k : Int32} : Met l yX1_remove (ws_ yX1_remove cX1_remove 2 (some .boolean)) (ls_rm 2 42) (va_Pc [.ref h, .int k] (fun U => U.heap.size = sz ∧ va_P (dC, dI) ls_C (ml_W h a dN ky bk kp op cg vv bv kv) U.heap ∧ va_K (dC, dI) ls_C (ls_T dB dZ dN) U ∧ va_D (fun _ => True) (ml_W h a dN ky bk kp op cg vv bv kv))) (va_Qi (fun (r : Int32) (_ : Unit) => r = ls_has cu k) (fun _ t => ml_B dC dI h a dB dZ dN (va_A (ml_W h a dN ky bk kp op cg vv bv kv) sz) (ls_cC (ls_has cu k) cu k none) (ls_cB (ls_has cu k) o cu ba k none) sa o (ls_cN (ls_has cu k) o ch) t) (va_A (ml_W h a dN ky bk kp op cg vv bv kv) sz)) 0 0 (va_A (ml_W h a dN ky bk kp op cg vv bv kv) sz) := by
  refine Met.ofW (cc := cX1_remove) (maxL := 2) (ret := (some .boolean)) (by decide) rfl ?_
  intro p e s m args below meth c s₁ B hml hv
  obtain ⟨rfl, hsz, hP, hK, hD0⟩ := hv
  have hx := B.exec
  have hb := B.bytes
  have hr := B.returns
  have hts := atoms_spec (ws := (ws_ yX1_remove cX1_remove 2 (some .boolean))) B.pre
  have hts : ∀ w ∈ lw_all, w.before _ s = true := fun w h => hts w (List.mem_cons_of_mem _ h)
  have hown : s.vm.findClass RX1 = some m.cls := findClass_of_methodNamed B.named
  have hlocks := B.notSynchronized
  have S : CallFix p m c cX1_remove 2 s _ lw_all RX1 := ⟨hx, hb, hml, hown, hts⟩
  subst hsz
  have hD := hD0.self (sz := s.heap.size)
  generalize hAe : va_A (ml_W h a dN ky bk kp op cg vv bv kv) s.heap.size = A at hD ⊢
  have hA : ∀ q : Nat, s.heap.size ≤ q → A q := fun q h => by rw [← hAe]; exact Or.inr h
  have hS : va_S A s.heap s.heap [] := va_S.rf
  have hl := lv_entry ([.ref h, .int k]) (n := 2) (Nat.le_of_ble_eq_true rfl)
  rw [lg_entry_eq]
  generalize (lg_sl ([.ref h, .int k]) ++ List.replicate (2 - (lg_sl ([.ref h, .int k])).length) Slot.unset).toArray = ls at hl ⊢
  have hl : lv_has ls 2 [(0, .ref h), (1, .int k)] := hl
  refine lv_aload_n hx hb dX1_remove_0 rfl (lv_at hl 0 rfl) ?_
  refine lv_iload_n hx hb dX1_remove_1 rfl (lv_at hl 1 rfl) ?_
  refine ml_c_has S hK hP hl.1 ⟨Nat.le_of_ble_eq_true rfl, Nat.le_of_ble_eq_true rfl⟩ ⟨Nat.zero_le _, Nat.zero_le _⟩ (Nat.le_of_ble_eq_true rfl) dX1_remove_2 hQ (fun r9 hr9 => ?_)
  subst hr9
  refine lv_if_ne (tgt := 10) hx hb dX1_remove_5 (by decide) (fun c1 => ?_) (fun c1 => ?_)
  · obtain ⟨j, v, hj, rfl, hv, h1⟩ := ls_has_ne c1
    rw [ls_cC_1 c1 hj, ls_cB_1 c1 hj, ls_cN_1 c1]
    refine lv_aload_n hx hb dX1_remove_10 rfl (lv_at hl 0 rfl) ?_
    refine lv_aload_n hx hb dX1_remove_11 rfl (lv_at hl 0 rfl) ?_
    refine ml_g0 S hK hP dX1_remove_12 ?_
    refine lv_iconst (v := 1) hx hb dX1_remove_15 (by decide) ?_
    refine lv_iload_n hx hb dX1_remove_16 rfl (lv_at hl 1 rfl) ?_
    refine lv_ishl hx hb dX1_remove_17 ?_
    refine lv_iconst (v := (-1)) hx hb dX1_remove_18 (by decide) ?_
    refine lv_ixor hx hb dX1_remove_19 ?_
    refine lv_iand hx hb dX1_remove_20 ?_
    refine ml_p0 S hK hP hD hS dX1_remove_21 (fun H locs hP hD hS => ?_)
    refine lv_aload_n hx hb dX1_remove_24 rfl (lv_at hl 0 rfl) ?_
    refine ml_c_change S hK hP hD hS hA hl.1 ⟨Nat.le_of_ble_eq_true rfl, Nat.le_of_ble_eq_true rfl⟩ ⟨Nat.zero_le _, Nat.zero_le _⟩ (Nat.le_of_ble_eq_true rfl) dX1_remove_25 (ml_rem hj hQ) (fun ky bk kp op cg vv bv kv H locs hP hD hS hQ => ?_)
    refine lv_iconst (v := 1) hx hb dX1_remove_28 (by decide) ?_
    exact W.zret (v := 1) hx hb hr rfl (fun t ht hW => ⟨⟨1, (), rfl, h1.symm, _, _, _, _, _, _, _, _, by rw [ht]; exact hP, va_K.moved hW.alike hK, hD, hQ⟩, hS.F ht⟩) hS.2.2 dX1_remove_29
  · rw [ls_cC_0 c1, ls_cB_0 c1, ls_cN_0 c1]
    refine lv_iconst (v := 0) hx hb dX1_remove_8 (by decide) ?_
    exact W.zret (v := 0) hx hb hr rfl (fun t ht hW => ⟨⟨0, (), rfl, c1.symm, _, _, _, _, _, _, _, _, by rw [ht]; exact hP, va_K.moved hW.alike hK, hD, hQ⟩, hS.F ht⟩) hS.2.2 dX1_remove_9
end
section
set_option maxRecDepth 100000
/-! THE CLAIM OUT OF ONE WALK OF THE LAW'S BODY. Your part is whole_start (and what it stands on); all else here is the same for every law, but numbers. -/
def R_law : String := "LogStoreLaw"
def lw_P (b : Addr) (xs : List Int32) (args : Array Value) (s : State) : Prop := args = #[.ref b] ∧ s.IntsAt b xs ∧ xs.length ≤ 192 ∧ (Jvm.Cond.and given_1 narrow_1).before args s = true
def lw_Q (_ : Array Value) (s : State) (o : Outcome) (t : State) : Prop := o = .returned (some (.int 1)) ∧ Framed s o t [] 600000 7290000
def lw_Z (below : List Frame) (a : Array Value) (s : State) : State → Prop := fun t => ∃ o, t.status = .running ∧ Ended t below o ∧ lw_Q a s o t
/-- the law's own end, with 1 on the stack, nothing written that was there before, its room as the claim has it -/
theorem lw_ret {p : Program} {l : Launch} {e : Env} {s : State} {m : MethodId} {below : List Frame} {meth : Method} {c : Code} {b : Nat} (hx : p.tables.exec = Jvm.exec) (hb : c.code = code) (hr : meth.sig.returnType = ret) (hlocks : meth.locks = false) {pc : Nat} {H : Heap} {ls : Array Slot} (hdg : decode code pc = .ok (.ireturn, 1)) : W p l e room_1 s m #[Value.ref b] below meth c H [] 600000 7290000 (lw_Z below #[Value.ref b] s) (F0 m pc ls [.int 1]) := by
  intro T hT X
  obtain ⟨fs, hret, hrun, hended, hW, hframe⟩ := X.leave (v := some (.int 1)) (hlocks := hlocks) (fun h => by rw [hr] at h; cases h)
  have hmeth' : T.vm.method? m = some meth := X.method'
  refine ⟨T.setFrames fs, ?_, .returned (some (.int 1)), hrun, hended, rfl, ⟨_, rfl⟩, hW, hframe⟩
  jvm_step X.here [X.here.top, hx, hb, hdg, hmeth', hr, ret, narrow_b1]
  (try refine ⟨rfl, ?_⟩); (try refine ⟨rfl, ?_⟩)
  first | (intro acts; rw [hret _ acts rfl rfl rfl]) | rw [hret _ _ rfl rfl rfl]
  exact Steps.refl _
/-- what holds at the law's entry: the machine, the code, the tables' words (any of lw_tbl by 'hts w (by decide +kernel)'), the script of L ints xs at the cell b, what the Statement gives of the start (any of its parts by flat_of_before) -/
def lw_At (p : Program) (s : State) (m : MethodId) (meth : Method) (c : Code) (b L : Nat) (xs : Nat → Int32) : Prop :=
  p.tables.exec = Jvm.exec ∧ c.code = code ∧ meth.sig.returnType = ret ∧ c.maxLocals = 4 ∧ s.vm.findClass R_law = some m.cls ∧ (∀ w ∈ lw_tbl, w.before #[Value.ref b] s = true) ∧ va_X b L xs s s.heap ∧ b < s.heap.size ∧ meth.locks = false ∧ (Jvm.Cond.and given_1 narrow_1).before #[Value.ref b] s = true
section
variable {p : Program} {l : Launch} {e : Env} {R : Room} {s : State} {m : MethodId} {args : Array Value} {below : List Frame} {meth : Method} {c : Code} {H : Heap} {locs : List Loc} {cells slots : Nat} {Q : State → Prop}
variable {cc : ByteArray} {nL pc : Nat} {ls : Array Slot} {rest st0 : List Value} {dC : Nat → ClassId} {dI : Nat → Nat → Nat} {A : Nat → Prop} {H0 H1 : Heap} {dB dZ dN : ClassId} {h g : Nat} {a a1 : Nat → Nat}
variable {K X V E : Nat → Int32} {en se op os oc : Int32} {la ks kl ko nk nr nv ne : Nat → Int32}
variable {ky bk kp op1 cg : Int32} {vv bv kv : Nat → Int32}
theorem lw_sld (hx : p.tables.exec = Jvm.exec) (hb : c.code = cc) {b L : Nat} {xs : Nat → Int32} (hX : va_X b L xs s H0) (hbl : b < H0.size) (hbA : ¬ A b) (hS : va_S A H0 H locs) {i : Nat} (hi : i < L) (hL : L < 2 ^ 31) (hd : decode cc pc = .ok (.iaload, 1))
    (kk : W p l e R s m args below meth c H locs cells slots Q (F0 m (pc + 1) ls (.int (xs i) :: rest))) : W p l e R s m args below meth c H locs cells slots Q (F0 m pc ls (.int (nI i) :: .ref b :: rest)) :=
  va_sld hx hb hX hbl hbA hS (vp_in_nI hi hL) hd (by rw [nI_clamp (Nat.lt_trans hi hL)]; exact kk)
theorem lw_jX {K' X' V' E' : Nat → Int32} {en' se' op' os' oc' : Int32} {la' ks' kl' ko' nk' nr' nv' ne' : Nat → Int32} (hP : va_P (dC, dI) ls_C (ls_W h a dB dZ dN K X V E en se op os oc la ks kl ko nk nr nv ne ++ ml_W g a1 dN ky bk kp op1 cg vv bv kv) H) (hD : va_D A (ls_W h a dB dZ dN K X V E en se op os oc la ks kl ko nk nr nv ne ++ ml_W g a1 dN ky bk kp op1 cg vv bv kv)) (hk : ∀ q : Nat, q < H.size → ¬ va_A (ls_W h a dB dZ dN K X V E en se op os oc la ks kl ko nk nr nv ne) H.size q → H1[q]? = H[q]?) (hF : ∀ q, va_A (ls_W h a dB dZ dN K X V E en se op os oc la ks kl ko nk nr nv ne) H.size q → A q) (hP1 : va_P (dC, dI) ls_C (ls_W h a dB dZ dN K' X' V' E' en' se' op' os' oc' la' ks' kl' ko' nk' nr' nv' ne') H1) (hD1 : va_D (va_A (ls_W h a dB dZ dN K X V E en se op os oc la ks kl ko nk nr nv ne) H.size) (ls_W h a dB dZ dN K' X' V' E' en' se' op' os' oc' la' ks' kl' ko' nk' nr' nv' ne')) : va_P (dC, dI) ls_C (ls_W h a dB dZ dN K' X' V' E' en' se' op' os' oc' la' ks' kl' ko' nk' nr' nv' ne' ++ ml_W g a1 dN ky bk kp op1 cg vv bv kv) H1 ∧ va_D A (ls_W h a dB dZ dN K' X' V' E' en' se' op' os' oc' la' ks' kl' ko' nk' nr' nv' ne' ++ ml_W g a1 dN ky bk kp op1 cg vv bv kv) := by
  obtain ⟨p1, d1⟩ := va_join (wr := ml_W g a1 dN ky bk kp op1 cg vv bv kv) (w1 := ls_W h a dB dZ dN K' X' V' E' en' se' op' os' oc' la' ks' kl' ko' nk' nr' nv' ne') hP hD [0, 1, 2, 3, 4, 5, 6, 7, 8, 9, 10, 11, 12] [13, 14, 15, 16] rfl rfl (by decide) (by decide) hk hF hP1 hD1
  exact ⟨p1.sub [4, 5, 6, 7, 8, 9, 10, 11, 12, 13, 14, 15, 16, 0, 1, 2, 3] rfl, d1.sub [4, 5, 6, 7, 8, 9, 10, 11, 12, 13, 14, 15, 16, 0, 1, 2, 3] (by decide) rfl⟩
theorem lw_jM {ky' bk' kp' op1' cg' : Int32} {vv' bv' kv' : Nat → Int32} (hP : va_P (dC, dI) ls_C (ls_W h a dB dZ dN K X V E en se op os oc la ks kl ko nk nr nv ne ++ ml_W g a1 dN ky bk kp op1 cg vv bv kv) H) (hD : va_D A (ls_W h a dB dZ dN K X V E en se op os oc la ks kl ko nk nr nv ne ++ ml_W g a1 dN ky bk kp op1 cg vv bv kv)) (hk : ∀ q : Nat, q < H.size → ¬ va_A (ml_W g a1 dN ky bk kp op1 cg vv bv kv) H.size q → H1[q]? = H[q]?) (hF : ∀ q, va_A (ml_W g a1 dN ky bk kp op1 cg vv bv kv) H.size q → A q) (hP1 : va_P (dC, dI) ls_C (ml_W g a1 dN ky' bk' kp' op1' cg' vv' bv' kv') H1) (hD1 : va_D (va_A (ml_W g a1 dN ky bk kp op1 cg vv bv kv) H.size) (ml_W g a1 dN ky' bk' kp' op1' cg' vv' bv' kv')) : va_P (dC, dI) ls_C (ls_W h a dB dZ dN K X V E en se op os oc la ks kl ko nk nr nv ne ++ ml_W g a1 dN ky' bk' kp' op1' cg' vv' bv' kv') H1 ∧ va_D A (ls_W h a dB dZ dN K X V E en se op os oc la ks kl ko nk nr nv ne ++ ml_W g a1 dN ky' bk' kp' op1' cg' vv' bv' kv') := by
  obtain ⟨p1, d1⟩ := va_join (wr := ls_W h a dB dZ dN K X V E en se op os oc la ks kl ko nk nr nv ne) (w1 := ml_W g a1 dN ky' bk' kp' op1' cg' vv' bv' kv') hP hD [13, 14, 15, 16] [0, 1, 2, 3, 4, 5, 6, 7, 8, 9, 10, 11, 12] rfl rfl (by decide) (by decide) hk hF hP1 hD1
  exact ⟨p1.sub [0, 1, 2, 3, 4, 5, 6, 7, 8, 9, 10, 11, 12, 13, 14, 15, 16] rfl, d1.sub [0, 1, 2, 3, 4, 5, 6, 7, 8, 9, 10, 11, 12, 13, 14, 15, 16] (by decide) rfl⟩
variable {y : MethodName} {bytes : ByteArray} {maxL n index : Nat} {ret : Option FieldType} {rm : Room} {As : List Value} {cu ba sa : Nat → Option Int32} {o : Bool} {ch : Int32}
theorem lw_cXi {r0 : Int32} (S : CallFix p m c cc nL s args lw_all R_law) (hK : va_K (dC, dI) ls_C (ls_T dB dZ dN) s) (hP : va_P (dC, dI) ls_C (ls_W h a dB dZ dN K X V E en se op os oc la ks kl ko nk nr nv ne ++ ml_W g a1 dN ky bk kp op1 cg vv bv kv) H) (hD : va_D A (ls_W h a dB dZ dN K X V E en se op os oc la ks kl ko nk nr nv ne ++ ml_W g a1 dN ky bk kp op1 cg vv bv kv)) (hS : va_S A H0 H locs) (hA : ∀ q, H0.size ≤ q → A q)
    (hM : Met l y (ws_ y bytes maxL ret) rm (va_Pc (.ref h :: As) (fun U => U.heap.size = H.size ∧ va_P (dC, dI) ls_C (ls_W h a dB dZ dN K X V E en se op os oc la ks kl ko nk nr nv ne) U.heap ∧ va_K (dC, dI) ls_C (ls_T dB dZ dN) U ∧ va_D (fun _ => True) (ls_W h a dB dZ dN K X V E en se op os oc la ks kl ko nk nr nv ne))) (va_Qi (fun (r : Int32) (_ : Unit) => r = r0) (fun _ t => ls_B dC dI h a dB dZ dN (va_A (ls_W h a dB dZ dN K X V E en se op os oc la ks kl ko nk nr nv ne) H.size) 96 cu ba sa o ch t) (va_A (ls_W h a dB dZ dN K X V E en se op os oc la ks kl ko nk nr nv ne) H.size)) 0 0 (va_A (ls_W h a dB dZ dN K X V E en se op os oc la ks kl ko nk nr nv ne) H.size)) (cw : CallW R s args R_law RX0 index y bytes maxL ret (ws_ y bytes maxL ret) rm 0 0 n)
    (hn : As.length = n) (hsz : ls.size = nL) (hst : st0 = As.reverse ++ .ref h :: rest) (hrm : (rest.map fun v => v.category).sum ≤ 8) (hd : decode cc pc = .ok (.invokevirtual index, 3)) (hf : cells ≤ R.cells ∧ slots ≤ R.slots)
    (kk : ∀ (K' X' V' E' : Nat → Int32) (en' se' op' os' oc' : Int32) (la' ks' kl' ko' nk' nr' nv' ne' : Nat → Int32) (H1 : Heap) (locs1 : List Loc), va_P (dC, dI) ls_C (ls_W h a dB dZ dN K' X' V' E' en' se' op' os' oc' la' ks' kl' ko' nk' nr' nv' ne' ++ ml_W g a1 dN ky bk kp op1 cg vv bv kv) H1 → va_D A (ls_W h a dB dZ dN K' X' V' E' en' se' op' os' oc' la' ks' kl' ko' nk' nr' nv' ne' ++ ml_W g a1 dN ky bk kp op1 cg vv bv kv) → va_S A H0 H1 locs1 → ls_R 96 K' X' V' E' la' en' se' op' os' oc' cu ba sa o ch → W p l e R s m args below meth c H1 locs1 cells slots Q (F0 m (pc + 3) ls (.int r0 :: rest))) : W p l e R s m args below meth c H locs cells slots Q (F0 m pc ls st0) := by
  have hPc := hP.sub (ws' := ls_W h a dB dZ dN K X V E en se op os oc la ks kl ko nk nr nv ne) [0, 1, 2, 3, 4, 5, 6, 7, 8, 9, 10, 11, 12] rfl
  have hDc := hD.sub (ws' := ls_W h a dB dZ dN K X V E en se op os oc la ks kl ko nk nr nv ne) [0, 1, 2, 3, 4, 5, 6, 7, 8, 9, 10, 11, 12] (by decide) rfl
  have hF := va_free (wc := ls_W h a dB dZ dN K X V E en se op os oc la ks kl ko nk nr nv ne) hD hS hA [0, 1, 2, 3, 4, 5, 6, 7, 8, 9, 10, 11, 12] rfl
  refine va_calli (va_runV (As := As) (rest := rest) S hM cw ⟨fun a U g mk q => by obtain ⟨q0, q1, qP, qK, qD⟩ := q; exact ⟨q0, q1, qP, va_K.moved (u := U) (U := U.calling g mk a) (Vm.Alike.refl U.vm) qK, qD⟩, va_recv hK hPc (ci := 0) (q0 := 0) rfl rfl, fun U hU hW => ⟨rfl, by rw [hU], by rw [hU]; exact hPc, va_K.moved hW.alike hK, hDc.weaken (fun _ _ _ _ => trivial)⟩⟩ rfl hn hsz hst (lv_room hrm) hd hf) hS (fun q _ hq => hF q hq) hF (fun r _ t H1 locs1 ht hvm hp hB hz hk hS1 => ?_)
  obtain ⟨z0, z1, z2, z3, z4, z5, z6, z7, z8, z9, z10, z11, z12, z13, z14, z15, z16, hP1, -, hD1, hR1⟩ := hB
  rw [ht] at hP1
  rw [hp]
  obtain ⟨hP2, hD2⟩ := lw_jX hP hD hk hF hP1 hD1
  exact kk z0 z1 z2 z3 z4 z5 z6 z7 z8 z9 z10 z11 z12 z13 z14 z15 z16 H1 locs1 hP2 hD2 hS1 hR1
theorem lw_cXv (S : CallFix p m c cc nL s args lw_all R_law) (hK : va_K (dC, dI) ls_C (ls_T dB dZ dN) s) (hP : va_P (dC, dI) ls_C (ls_W h a dB dZ dN K X V E en se op os oc la ks kl ko nk nr nv ne ++ ml_W g a1 dN ky bk kp op1 cg vv bv kv) H) (hD : va_D A (ls_W h a dB dZ dN K X V E en se op os oc la ks kl ko nk nr nv ne ++ ml_W g a1 dN ky bk kp op1 cg vv bv kv)) (hS : va_S A H0 H locs) (hA : ∀ q, H0.size ≤ q → A q)
    (hM : Met l y (ws_ y bytes maxL ret) rm (va_Pc (.ref h :: As) (fun U => U.heap.size = H.size ∧ va_P (dC, dI) ls_C (ls_W h a dB dZ dN K X V E en se op os oc la ks kl ko nk nr nv ne) U.heap ∧ va_K (dC, dI) ls_C (ls_T dB dZ dN) U ∧ va_D (fun _ => True) (ls_W h a dB dZ dN K X V E en se op os oc la ks kl ko nk nr nv ne))) (va_Qv (fun (_ : Unit) => True) (fun _ t => ls_B dC dI h a dB dZ dN (va_A (ls_W h a dB dZ dN K X V E en se op os oc la ks kl ko nk nr nv ne) H.size) 96 cu ba sa o ch t) (va_A (ls_W h a dB dZ dN K X V E en se op os oc la ks kl ko nk nr nv ne) H.size)) 0 0 (va_A (ls_W h a dB dZ dN K X V E en se op os oc la ks kl ko nk nr nv ne) H.size)) (cw : CallW R s args R_law RX0 index y bytes maxL ret (ws_ y bytes maxL ret) rm 0 0 n)
    (hn : As.length = n) (hsz : ls.size = nL) (hst : st0 = As.reverse ++ .ref h :: rest) (hrm : (rest.map fun v => v.category).sum ≤ 8) (hd : decode cc pc = .ok (.invokevirtual index, 3)) (hf : cells ≤ R.cells ∧ slots ≤ R.slots)
    (kk : ∀ (K' X' V' E' : Nat → Int32) (en' se' op' os' oc' : Int32) (la' ks' kl' ko' nk' nr' nv' ne' : Nat → Int32) (H1 : Heap) (locs1 : List Loc), va_P (dC, dI) ls_C (ls_W h a dB dZ dN K' X' V' E' en' se' op' os' oc' la' ks' kl' ko' nk' nr' nv' ne' ++ ml_W g a1 dN ky bk kp op1 cg vv bv kv) H1 → va_D A (ls_W h a dB dZ dN K' X' V' E' en' se' op' os' oc' la' ks' kl' ko' nk' nr' nv' ne' ++ ml_W g a1 dN ky bk kp op1 cg vv bv kv) → va_S A H0 H1 locs1 → ls_R 96 K' X' V' E' la' en' se' op' os' oc' cu ba sa o ch → W p l e R s m args below meth c H1 locs1 cells slots Q (F0 m (pc + 3) ls (rest))) : W p l e R s m args below meth c H locs cells slots Q (F0 m pc ls st0) := by
  have hPc := hP.sub (ws' := ls_W h a dB dZ dN K X V E en se op os oc la ks kl ko nk nr nv ne) [0, 1, 2, 3, 4, 5, 6, 7, 8, 9, 10, 11, 12] rfl
  have hDc := hD.sub (ws' := ls_W h a dB dZ dN K X V E en se op os oc la ks kl ko nk nr nv ne) [0, 1, 2, 3, 4, 5, 6, 7, 8, 9, 10, 11, 12] (by decide) rfl
  have hF := va_free (wc := ls_W h a dB dZ dN K X V E en se op os oc la ks kl ko nk nr nv ne) hD hS hA [0, 1, 2, 3, 4, 5, 6, 7, 8, 9, 10, 11, 12] rfl
  refine va_callv (va_runV (As := As) (rest := rest) S hM cw ⟨fun a U g mk q => by obtain ⟨q0, q1, qP, qK, qD⟩ := q; exact ⟨q0, q1, qP, va_K.moved (u := U) (U := U.calling g mk a) (Vm.Alike.refl U.vm) qK, qD⟩, va_recv hK hPc (ci := 0) (q0 := 0) rfl rfl, fun U hU hW => ⟨rfl, by rw [hU], by rw [hU]; exact hPc, va_K.moved hW.alike hK, hDc.weaken (fun _ _ _ _ => trivial)⟩⟩ rfl hn hsz hst (lv_room hrm) hd hf) hS (fun q _ hq => hF q hq) hF (fun _ t H1 locs1 ht hvm hp hB hz hk hS1 => ?_)
  obtain ⟨z0, z1, z2, z3, z4, z5, z6, z7, z8, z9, z10, z11, z12, z13, z14, z15, z16, hP1, -, hD1, hR1⟩ := hB
  rw [ht] at hP1
  obtain ⟨hP2, hD2⟩ := lw_jX hP hD hk hF hP1 hD1
  exact kk z0 z1 z2 z3 z4 z5 z6 z7 z8 z9 z10 z11 z12 z13 z14 z15 z16 H1 locs1 hP2 hD2 hS1 hR1
theorem lw_cMi {r0 : Int32} (S : CallFix p m c cc nL s args lw_all R_law) (hK : va_K (dC, dI) ls_C (ls_T dB dZ dN) s) (hP : va_P (dC, dI) ls_C (ls_W h a dB dZ dN K X V E en se op os oc la ks kl ko nk nr nv ne ++ ml_W g a1 dN ky bk kp op1 cg vv bv kv) H) (hD : va_D A (ls_W h a dB dZ dN K X V E en se op os oc la ks kl ko nk nr nv ne ++ ml_W g a1 dN ky bk kp op1 cg vv bv kv)) (hS : va_S A H0 H locs) (hA : ∀ q, H0.size ≤ q → A q)
    (hM : Met l y (ws_ y bytes maxL ret) rm (va_Pc (.ref g :: As) (fun U => U.heap.size = H.size ∧ va_P (dC, dI) ls_C (ml_W g a1 dN ky bk kp op1 cg vv bv kv) U.heap ∧ va_K (dC, dI) ls_C (ls_T dB dZ dN) U ∧ va_D (fun _ => True) (ml_W g a1 dN ky bk kp op1 cg vv bv kv))) (va_Qi (fun (r : Int32) (_ : Unit) => r = r0) (fun _ t => ml_B dC dI g a1 dB dZ dN (va_A (ml_W g a1 dN ky bk kp op1 cg vv bv kv) H.size) cu ba sa o ch t) (va_A (ml_W g a1 dN ky bk kp op1 cg vv bv kv) H.size)) 0 0 (va_A (ml_W g a1 dN ky bk kp op1 cg vv bv kv) H.size)) (cw : CallW R s args R_law RX1 index y bytes maxL ret (ws_ y bytes maxL ret) rm 0 0 n)
    (hn : As.length = n) (hsz : ls.size = nL) (hst : st0 = As.reverse ++ .ref g :: rest) (hrm : (rest.map fun v => v.category).sum ≤ 8) (hd : decode cc pc = .ok (.invokevirtual index, 3)) (hf : cells ≤ R.cells ∧ slots ≤ R.slots)
    (kk : ∀ (ky' bk' kp' op1' cg' : Int32) (vv' bv' kv' : Nat → Int32) (H1 : Heap) (locs1 : List Loc), va_P (dC, dI) ls_C (ls_W h a dB dZ dN K X V E en se op os oc la ks kl ko nk nr nv ne ++ ml_W g a1 dN ky' bk' kp' op1' cg' vv' bv' kv') H1 → va_D A (ls_W h a dB dZ dN K X V E en se op os oc la ks kl ko nk nr nv ne ++ ml_W g a1 dN ky' bk' kp' op1' cg' vv' bv' kv') → va_S A H0 H1 locs1 → ml_R ky' bk' kp' op1' cg' vv' bv' kv' cu ba sa o ch → W p l e R s m args below meth c H1 locs1 cells slots Q (F0 m (pc + 3) ls (.int r0 :: rest))) : W p l e R s m args below meth c H locs cells slots Q (F0 m pc ls st0) := by
  have hPc := hP.sub (ws' := ml_W g a1 dN ky bk kp op1 cg vv bv kv) [13, 14, 15, 16] rfl
  have hDc := hD.sub (ws' := ml_W g a1 dN ky bk kp op1 cg vv bv kv) [13, 14, 15, 16] (by decide) rfl
  have hF := va_free (wc := ml_W g a1 dN ky bk kp op1 cg vv bv kv) hD hS hA [13, 14, 15, 16] rfl
  refine va_calli (va_runV (As := As) (rest := rest) S hM cw ⟨fun a U g mk q => by obtain ⟨q0, q1, qP, qK, qD⟩ := q; exact ⟨q0, q1, qP, va_K.moved (u := U) (U := U.calling g mk a) (Vm.Alike.refl U.vm) qK, qD⟩, va_recv hK hPc (ci := 1) (q0 := 0) rfl rfl, fun U hU hW => ⟨rfl, by rw [hU], by rw [hU]; exact hPc, va_K.moved hW.alike hK, hDc.weaken (fun _ _ _ _ => trivial)⟩⟩ rfl hn hsz hst (lv_room hrm) hd hf) hS (fun q _ hq => hF q hq) hF (fun r _ t H1 locs1 ht hvm hp hB hz hk hS1 => ?_)
  obtain ⟨z0, z1, z2, z3, z4, z5, z6, z7, hP1, -, hD1, hR1⟩ := hB
  rw [ht] at hP1
  rw [hp]
  obtain ⟨hP2, hD2⟩ := lw_jM hP hD hk hF hP1 hD1
  exact kk z0 z1 z2 z3 z4 z5 z6 z7 H1 locs1 hP2 hD2 hS1 hR1
theorem lw_cMv (S : CallFix p m c cc nL s args lw_all R_law) (hK : va_K (dC, dI) ls_C (ls_T dB dZ dN) s) (hP : va_P (dC, dI) ls_C (ls_W h a dB dZ dN K X V E en se op os oc la ks kl ko nk nr nv ne ++ ml_W g a1 dN ky bk kp op1 cg vv bv kv) H) (hD : va_D A (ls_W h a dB dZ dN K X V E en se op os oc la ks kl ko nk nr nv ne ++ ml_W g a1 dN ky bk kp op1 cg vv bv kv)) (hS : va_S A H0 H locs) (hA : ∀ q, H0.size ≤ q → A q)
    (hM : Met l y (ws_ y bytes maxL ret) rm (va_Pc (.ref g :: As) (fun U => U.heap.size = H.size ∧ va_P (dC, dI) ls_C (ml_W g a1 dN ky bk kp op1 cg vv bv kv) U.heap ∧ va_K (dC, dI) ls_C (ls_T dB dZ dN) U ∧ va_D (fun _ => True) (ml_W g a1 dN ky bk kp op1 cg vv bv kv))) (va_Qv (fun (_ : Unit) => True) (fun _ t => ml_B dC dI g a1 dB dZ dN (va_A (ml_W g a1 dN ky bk kp op1 cg vv bv kv) H.size) cu ba sa o ch t) (va_A (ml_W g a1 dN ky bk kp op1 cg vv bv kv) H.size)) 0 0 (va_A (ml_W g a1 dN ky bk kp op1 cg vv bv kv) H.size)) (cw : CallW R s args R_law RX1 index y bytes maxL ret (ws_ y bytes maxL ret) rm 0 0 n)
    (hn : As.length = n) (hsz : ls.size = nL) (hst : st0 = As.reverse ++ .ref g :: rest) (hrm : (rest.map fun v => v.category).sum ≤ 8) (hd : decode cc pc = .ok (.invokevirtual index, 3)) (hf : cells ≤ R.cells ∧ slots ≤ R.slots)
    (kk : ∀ (ky' bk' kp' op1' cg' : Int32) (vv' bv' kv' : Nat → Int32) (H1 : Heap) (locs1 : List Loc), va_P (dC, dI) ls_C (ls_W h a dB dZ dN K X V E en se op os oc la ks kl ko nk nr nv ne ++ ml_W g a1 dN ky' bk' kp' op1' cg' vv' bv' kv') H1 → va_D A (ls_W h a dB dZ dN K X V E en se op os oc la ks kl ko nk nr nv ne ++ ml_W g a1 dN ky' bk' kp' op1' cg' vv' bv' kv') → va_S A H0 H1 locs1 → ml_R ky' bk' kp' op1' cg' vv' bv' kv' cu ba sa o ch → W p l e R s m args below meth c H1 locs1 cells slots Q (F0 m (pc + 3) ls (rest))) : W p l e R s m args below meth c H locs cells slots Q (F0 m pc ls st0) := by
  have hPc := hP.sub (ws' := ml_W g a1 dN ky bk kp op1 cg vv bv kv) [13, 14, 15, 16] rfl
  have hDc := hD.sub (ws' := ml_W g a1 dN ky bk kp op1 cg vv bv kv) [13, 14, 15, 16] (by decide) rfl
  have hF := va_free (wc := ml_W g a1 dN ky bk kp op1 cg vv bv kv) hD hS hA [13, 14, 15, 16] rfl
  refine va_callv (va_runV (As := As) (rest := rest) S hM cw ⟨fun a U g mk q => by obtain ⟨q0, q1, qP, qK, qD⟩ := q; exact ⟨q0, q1, qP, va_K.moved (u := U) (U := U.calling g mk a) (Vm.Alike.refl U.vm) qK, qD⟩, va_recv hK hPc (ci := 1) (q0 := 0) rfl rfl, fun U hU hW => ⟨rfl, by rw [hU], by rw [hU]; exact hPc, va_K.moved hW.alike hK, hDc.weaken (fun _ _ _ _ => trivial)⟩⟩ rfl hn hsz hst (lv_room hrm) hd hf) hS (fun q _ hq => hF q hq) hF (fun _ t H1 locs1 ht hvm hp hB hz hk hS1 => ?_)
  obtain ⟨z0, z1, z2, z3, z4, z5, z6, z7, hP1, -, hD1, hR1⟩ := hB
  rw [ht] at hP1
  obtain ⟨hP2, hD2⟩ := lw_jM hP hD hk hF hP1 hD1
  exact kk z0 z1 z2 z3 z4 z5 z6 z7 H1 locs1 hP2 hD2 hS1 hR1
end
end
section
set_option maxRecDepth 100000
section
variable {p : Program} {l : Launch} {e : Env} {s : State} {m : MethodId} {below : List Frame} {meth : Method} {c : Code} {dC : Nat → ClassId} {dI : Nat → Nat → Nat} {dB dZ dN : ClassId} {h g b L i : Nat} {a a1 : Nat → Nat} {xs : Nat → Int32}
set_option maxHeartbeats 4000000 in
set_option maxRecDepth 100000 in
/-- the law's case 0: begin -/
theorem lc_begin (C0 : lw_At p s m meth c b L xs) (hL : L ≤ 192) (hi : i + 3 ≤ L) (hK : va_K (dC, dI) ls_C (ls_T dB dZ dN) s) {K X V E : Nat → Int32} {en se op os oc : Int32} {la ks kl ko nk nr nv ne : Nat → Int32} {ky bk kp op1 cg : Int32} {vv bv kv : Nat → Int32} {cu ba sa : Nat → Option Int32} {o : Bool} {ch : Int32} {H : Heap} {locs : List Loc} {ls : Array Slot} (hQ : ls_R 96 K X V E la en se op os oc cu ba sa o ch) (hM : ml_R ky bk kp op1 cg vv bv kv cu ba sa o ch) (hP : va_P (dC, dI) ls_C (ls_W h a dB dZ dN K X V E en se op os oc la ks kl ko nk nr nv ne ++ ml_W g a1 dN ky bk kp op1 cg vv bv kv) H) (hD : va_D (fun q : Nat => s.heap.size ≤ q) (ls_W h a dB dZ dN K X V E en se op os oc la ks kl ko nk nr nv ne ++ ml_W g a1 dN ky bk kp op1 cg vv bv kv)) (hS : va_S (fun q : Nat => s.heap.size ≤ q) s.heap H locs) (hl : lv_has ls 4 [(0, .ref b), (1, .ref h), (2, .ref g), (3, .int (nI i))])
    (kk : ∀ (K X V E : Nat → Int32) (en se op os oc : Int32) (la ks kl ko nk nr nv ne : Nat → Int32) (ky bk kp op1 cg : Int32) (vv bv kv : Nat → Int32) (cu ba sa : Nat → Option Int32) (o : Bool) (ch : Int32) (H : Heap) (locs : List Loc), ls_R 96 K X V E la en se op os oc cu ba sa o ch → ml_R ky bk kp op1 cg vv bv kv cu ba sa o ch → va_P (dC, dI) ls_C (ls_W h a dB dZ dN K X V E en se op os oc la ks kl ko nk nr nv ne ++ ml_W g a1 dN ky bk kp op1 cg vv bv kv) H → va_D (fun q : Nat => s.heap.size ≤ q) (ls_W h a dB dZ dN K X V E en se op os oc la ks kl ko nk nr nv ne ++ ml_W g a1 dN ky bk kp op1 cg vv bv kv) → va_S (fun q : Nat => s.heap.size ≤ q) s.heap H locs → W p l e room_1 s m #[Value.ref b] below meth c H locs 600000 7290000 (lw_Z below #[Value.ref b] s) (F0 m 384 ls [])) : W p l e room_1 s m #[Value.ref b] below meth c H locs 600000 7290000 (lw_Z below #[Value.ref b] s) (F0 m 112 ls []) := by
  obtain ⟨hx, hb, hr, hml, hown, hts0, hX, hbl, hlocks, hgv⟩ := id C0
  have hts : ∀ w ∈ lw_all, w.before #[Value.ref b] s = true := fun w hw => hts0 w (lw_all_tbl hw)
  have S : CallFix p m c cL_law 4 s #[Value.ref b] lw_all R_law := ⟨hx, hb, hml, hown, hts⟩
  have hA : ∀ q : Nat, s.heap.size ≤ q → (fun q : Nat => s.heap.size ≤ q) q := fun _ hq => hq
  refine lv_aload_n hx hb dL_law_112 rfl (lv_at hl 1 rfl) ?_
  refine lw_cXi S hK hP hD hS hA (mt_begin hQ) (cwV 0 hts (lw_V q77 q78 q79 q12 q80) rfl rfl rfl (by decide +kernel) ⟨Nat.le_of_ble_eq_true rfl, Nat.le_of_ble_eq_true rfl⟩) rfl hl.1 rfl (Nat.le_of_ble_eq_true rfl) dL_law_113 ⟨Nat.le_refl _, Nat.le_refl _⟩ (fun K X V E en se op os oc la ks kl ko nk nr nv ne H locs hP hD hS hQ => ?_)
  refine lv_aload_n hx hb dL_law_116 rfl (lv_at hl 2 rfl) ?_
  refine lw_cMi S hK hP hD hS hA (mt1_begin hM) (cwV 0 hts (lw_V q204 q205 q206 q13 q207) rfl rfl rfl (by decide +kernel) ⟨Nat.le_of_ble_eq_true rfl, Nat.le_of_ble_eq_true rfl⟩) rfl hl.1 rfl (Nat.le_of_ble_eq_true rfl) dL_law_117 ⟨Nat.le_refl _, Nat.le_refl _⟩ (fun ky bk kp op1 cg vv bv kv H locs hP hD hS hM => ?_)
  refine lv_icmp_eq (tgt := 384) hx hb dL_law_120 (by decide) (fun c1 => ?_) (fun c1 => ?_)
  · exact kk _ _ _ _ _ _ _ _ _ _ _ _ _ _ _ _ _ _ _ _ _ _ _ _ _ _ _ _ _ _ H locs hQ hM hP hD hS
  · exact absurd rfl c1
set_option maxHeartbeats 4000000 in
set_option maxRecDepth 100000 in
/-- the law's case 1: put -/
theorem lc_put (C0 : lw_At p s m meth c b L xs) (hL : L ≤ 192) (hi : i + 3 ≤ L) (hK : va_K (dC, dI) ls_C (ls_T dB dZ dN) s) {K X V E : Nat → Int32} {en se op os oc : Int32} {la ks kl ko nk nr nv ne : Nat → Int32} {ky bk kp op1 cg : Int32} {vv bv kv : Nat → Int32} {cu ba sa : Nat → Option Int32} {o : Bool} {ch : Int32} {H : Heap} {locs : List Loc} {ls : Array Slot} (hQ : ls_R 96 K X V E la en se op os oc cu ba sa o ch) (hM : ml_R ky bk kp op1 cg vv bv kv cu ba sa o ch) (hP : va_P (dC, dI) ls_C (ls_W h a dB dZ dN K X V E en se op os oc la ks kl ko nk nr nv ne ++ ml_W g a1 dN ky bk kp op1 cg vv bv kv) H) (hD : va_D (fun q : Nat => s.heap.size ≤ q) (ls_W h a dB dZ dN K X V E en se op os oc la ks kl ko nk nr nv ne ++ ml_W g a1 dN ky bk kp op1 cg vv bv kv)) (hS : va_S (fun q : Nat => s.heap.size ≤ q) s.heap H locs) (hl : lv_has ls 4 [(0, .ref b), (1, .ref h), (2, .ref g), (3, .int (nI i))])
    (kk : ∀ (K X V E : Nat → Int32) (en se op os oc : Int32) (la ks kl ko nk nr nv ne : Nat → Int32) (ky bk kp op1 cg : Int32) (vv bv kv : Nat → Int32) (cu ba sa : Nat → Option Int32) (o : Bool) (ch : Int32) (H : Heap) (locs : List Loc), ls_R 96 K X V E la en se op os oc cu ba sa o ch → ml_R ky bk kp op1 cg vv bv kv cu ba sa o ch → va_P (dC, dI) ls_C (ls_W h a dB dZ dN K X V E en se op os oc la ks kl ko nk nr nv ne ++ ml_W g a1 dN ky bk kp op1 cg vv bv kv) H → va_D (fun q : Nat => s.heap.size ≤ q) (ls_W h a dB dZ dN K X V E en se op os oc la ks kl ko nk nr nv ne ++ ml_W g a1 dN ky bk kp op1 cg vv bv kv) → va_S (fun q : Nat => s.heap.size ≤ q) s.heap H locs → W p l e room_1 s m #[Value.ref b] below meth c H locs 600000 7290000 (lw_Z below #[Value.ref b] s) (F0 m 384 ls [])) : W p l e room_1 s m #[Value.ref b] below meth c H locs 600000 7290000 (lw_Z below #[Value.ref b] s) (F0 m 125 ls []) := by
  obtain ⟨hx, hb, hr, hml, hown, hts0, hX, hbl, hlocks, hgv⟩ := id C0
  have hts : ∀ w ∈ lw_all, w.before #[Value.ref b] s = true := fun w hw => hts0 w (lw_all_tbl hw)
  have S : CallFix p m c cL_law 4 s #[Value.ref b] lw_all R_law := ⟨hx, hb, hml, hown, hts⟩
  have hA : ∀ q : Nat, s.heap.size ≤ q → (fun q : Nat => s.heap.size ≤ q) q := fun _ hq => hq
  refine lv_aload_n hx hb dL_law_125 rfl (lv_at hl 1 rfl) ?_
  refine lv_aload_n hx hb dL_law_126 rfl (lv_at hl 0 rfl) ?_
  refine lv_iload_n hx hb dL_law_127 rfl (lv_at hl 3 rfl) ?_
  refine lv_iconst (v := nI 1) hx hb dL_law_128 (by decide) ?_
  refine lv_iadd hx hb dL_law_129 ?_
  rw [show ((nI i) + (nI 1) : Int32) = nI (i + 1) from nI_add i 1]
  refine lw_sld hx hb hX hbl (Nat.not_le.mpr hbl) hS (show i + 1 < L by omega) (by omega) dL_law_130 ?_
  refine lv_aload_n hx hb dL_law_131 rfl (lv_at hl 0 rfl) ?_
  refine lv_iload_n hx hb dL_law_132 rfl (lv_at hl 3 rfl) ?_
  refine lv_iconst (v := nI 2) hx hb dL_law_133 (by decide) ?_
  refine lv_iadd hx hb dL_law_134 ?_
  rw [show ((nI i) + (nI 2) : Int32) = nI (i + 2) from nI_add i 2]
  refine lw_sld hx hb hX hbl (Nat.not_le.mpr hbl) hS (show i + 2 < L by omega) (by omega) dL_law_135 ?_
  refine lw_cXi S hK hP hD hS hA (mt_put (k := xs (i + 1)) (v := xs (i + 2)) hQ) (cwV 2 hts (lw_V q81 q82 q83 q12 q84) rfl rfl rfl (by decide +kernel) ⟨Nat.le_of_ble_eq_true rfl, Nat.le_of_ble_eq_true rfl⟩) rfl hl.1 rfl (Nat.le_of_ble_eq_true rfl) dL_law_136 ⟨Nat.le_refl _, Nat.le_refl _⟩ (fun K X V E en se op os oc la ks kl ko nk nr nv ne H locs hP hD hS hQ => ?_)
  refine lv_aload_n hx hb dL_law_139 rfl (lv_at hl 2 rfl) ?_
  refine lv_aload_n hx hb dL_law_140 rfl (lv_at hl 0 rfl) ?_
  refine lv_iload_n hx hb dL_law_141 rfl (lv_at hl 3 rfl) ?_
  refine lv_iconst (v := nI 1) hx hb dL_law_142 (by decide) ?_
  refine lv_iadd hx hb dL_law_143 ?_
  rw [show ((nI i) + (nI 1) : Int32) = nI (i + 1) from nI_add i 1]
  refine lw_sld hx hb hX hbl (Nat.not_le.mpr hbl) hS (show i + 1 < L by omega) (by omega) dL_law_144 ?_
  refine lv_aload_n hx hb dL_law_145 rfl (lv_at hl 0 rfl) ?_
  refine lv_iload_n hx hb dL_law_146 rfl (lv_at hl 3 rfl) ?_
  refine lv_iconst (v := nI 2) hx hb dL_law_147 (by decide) ?_
  refine lv_iadd hx hb dL_law_148 ?_
  rw [show ((nI i) + (nI 2) : Int32) = nI (i + 2) from nI_add i 2]
  refine lw_sld hx hb hX hbl (Nat.not_le.mpr hbl) hS (show i + 2 < L by omega) (by omega) dL_law_149 ?_
  refine lw_cMi S hK hP hD hS hA (mt1_put (k := xs (i + 1)) (v := xs (i + 2)) hM) (cwV 2 hts (lw_V q208 q209 q210 q13 q211) rfl rfl rfl (by decide +kernel) ⟨Nat.le_of_ble_eq_true rfl, Nat.le_of_ble_eq_true rfl⟩) rfl hl.1 rfl (Nat.le_of_ble_eq_true rfl) dL_law_150 ⟨Nat.le_refl _, Nat.le_refl _⟩ (fun ky bk kp op1 cg vv bv kv H locs hP hD hS hM => ?_)
  refine lv_icmp_eq (tgt := 384) hx hb dL_law_153 (by decide) (fun c1 => ?_) (fun c1 => ?_)
  · exact kk _ _ _ _ _ _ _ _ _ _ _ _ _ _ _ _ _ _ _ _ _ _ _ _ _ _ _ _ _ _ H locs hQ hM hP hD hS
  · exact absurd rfl c1
set_option maxHeartbeats 4000000 in
set_option maxRecDepth 100000 in
/-- the law's case 2: remove -/
theorem lc_remove (C0 : lw_At p s m meth c b L xs) (hL : L ≤ 192) (hi : i + 3 ≤ L) (hK : va_K (dC, dI) ls_C (ls_T dB dZ dN) s) {K X V E : Nat → Int32} {en se op os oc : Int32} {la ks kl ko nk nr nv ne : Nat → Int32} {ky bk kp op1 cg : Int32} {vv bv kv : Nat → Int32} {cu ba sa : Nat → Option Int32} {o : Bool} {ch : Int32} {H : Heap} {locs : List Loc} {ls : Array Slot} (hQ : ls_R 96 K X V E la en se op os oc cu ba sa o ch) (hM : ml_R ky bk kp op1 cg vv bv kv cu ba sa o ch) (hP : va_P (dC, dI) ls_C (ls_W h a dB dZ dN K X V E en se op os oc la ks kl ko nk nr nv ne ++ ml_W g a1 dN ky bk kp op1 cg vv bv kv) H) (hD : va_D (fun q : Nat => s.heap.size ≤ q) (ls_W h a dB dZ dN K X V E en se op os oc la ks kl ko nk nr nv ne ++ ml_W g a1 dN ky bk kp op1 cg vv bv kv)) (hS : va_S (fun q : Nat => s.heap.size ≤ q) s.heap H locs) (hl : lv_has ls 4 [(0, .ref b), (1, .ref h), (2, .ref g), (3, .int (nI i))])
    (kk : ∀ (K X V E : Nat → Int32) (en se op os oc : Int32) (la ks kl ko nk nr nv ne : Nat → Int32) (ky bk kp op1 cg : Int32) (vv bv kv : Nat → Int32) (cu ba sa : Nat → Option Int32) (o : Bool) (ch : Int32) (H : Heap) (locs : List Loc), ls_R 96 K X V E la en se op os oc cu ba sa o ch → ml_R ky bk kp op1 cg vv bv kv cu ba sa o ch → va_P (dC, dI) ls_C (ls_W h a dB dZ dN K X V E en se op os oc la ks kl ko nk nr nv ne ++ ml_W g a1 dN ky bk kp op1 cg vv bv kv) H → va_D (fun q : Nat => s.heap.size ≤ q) (ls_W h a dB dZ dN K X V E en se op os oc la ks kl ko nk nr nv ne ++ ml_W g a1 dN ky bk kp op1 cg vv bv kv) → va_S (fun q : Nat => s.heap.size ≤ q) s.heap H locs → W p l e room_1 s m #[Value.ref b] below meth c H locs 600000 7290000 (lw_Z below #[Value.ref b] s) (F0 m 384 ls [])) : W p l e room_1 s m #[Value.ref b] below meth c H locs 600000 7290000 (lw_Z below #[Value.ref b] s) (F0 m 158 ls []) := by
  obtain ⟨hx, hb, hr, hml, hown, hts0, hX, hbl, hlocks, hgv⟩ := id C0
  have hts : ∀ w ∈ lw_all, w.before #[Value.ref b] s = true := fun w hw => hts0 w (lw_all_tbl hw)
  have S : CallFix p m c cL_law 4 s #[Value.ref b] lw_all R_law := ⟨hx, hb, hml, hown, hts⟩
  have hA : ∀ q : Nat, s.heap.size ≤ q → (fun q : Nat => s.heap.size ≤ q) q := fun _ hq => hq
  refine lv_aload_n hx hb dL_law_158 rfl (lv_at hl 1 rfl) ?_
  refine lv_aload_n hx hb dL_law_159 rfl (lv_at hl 0 rfl) ?_
  refine lv_iload_n hx hb dL_law_160 rfl (lv_at hl 3 rfl) ?_
  refine lv_iconst (v := nI 1) hx hb dL_law_161 (by decide) ?_
  refine lv_iadd hx hb dL_law_162 ?_
  rw [show ((nI i) + (nI 1) : Int32) = nI (i + 1) from nI_add i 1]
  refine lw_sld hx hb hX hbl (Nat.not_le.mpr hbl) hS (show i + 1 < L by omega) (by omega) dL_law_163 ?_
  refine lw_cXi S hK hP hD hS hA (mt_remove (k := xs (i + 1)) hQ) (cwV 1 hts (lw_V q108 q109 q110 q12 q111) rfl rfl rfl (by decide +kernel) ⟨Nat.le_of_ble_eq_true rfl, Nat.le_of_ble_eq_true rfl⟩) rfl hl.1 rfl (Nat.le_of_ble_eq_true rfl) dL_law_164 ⟨Nat.le_refl _, Nat.le_refl _⟩ (fun K X V E en se op os oc la ks kl ko nk nr nv ne H locs hP hD hS hQ => ?_)
  refine lv_aload_n hx hb dL_law_167 rfl (lv_at hl 2 rfl) ?_
  refine lv_aload_n hx hb dL_law_168 rfl (lv_at hl 0 rfl) ?_
  refine lv_iload_n hx hb dL_law_169 rfl (lv_at hl 3 rfl) ?_
  refine lv_iconst (v := nI 1) hx hb dL_law_170 (by decide) ?_
  refine lv_iadd hx hb dL_law_171 ?_
  rw [show ((nI i) + (nI 1) : Int32) = nI (i + 1) from nI_add i 1]
  refine lw_sld hx hb hX hbl (Nat.not_le.mpr hbl) hS (show i + 1 < L by omega) (by omega) dL_law_172 ?_
  refine lw_cMi S hK hP hD hS hA (mt1_remove (k := xs (i + 1)) hM) (cwV 1 hts (lw_V q224 q225 q226 q13 q227) rfl rfl rfl (by decide +kernel) ⟨Nat.le_of_ble_eq_true rfl, Nat.le_of_ble_eq_true rfl⟩) rfl hl.1 rfl (Nat.le_of_ble_eq_true rfl) dL_law_173 ⟨Nat.le_refl _, Nat.le_refl _⟩ (fun ky bk kp op1 cg vv bv kv H locs hP hD hS hM => ?_)
  refine lv_icmp_eq (tgt := 384) hx hb dL_law_176 (by decide) (fun c1 => ?_) (fun c1 => ?_)
  · exact kk _ _ _ _ _ _ _ _ _ _ _ _ _ _ _ _ _ _ _ _ _ _ _ _ _ _ _ _ _ _ H locs hQ hM hP hD hS
  · exact absurd rfl c1
set_option maxHeartbeats 4000000 in
set_option maxRecDepth 100000 in
/-- the law's case 3: commit -/
theorem lc_commit (C0 : lw_At p s m meth c b L xs) (hL : L ≤ 192) (hi : i + 3 ≤ L) (hK : va_K (dC, dI) ls_C (ls_T dB dZ dN) s) {K X V E : Nat → Int32} {en se op os oc : Int32} {la ks kl ko nk nr nv ne : Nat → Int32} {ky bk kp op1 cg : Int32} {vv bv kv : Nat → Int32} {cu ba sa : Nat → Option Int32} {o : Bool} {ch : Int32} {H : Heap} {locs : List Loc} {ls : Array Slot} (hQ : ls_R 96 K X V E la en se op os oc cu ba sa o ch) (hM : ml_R ky bk kp op1 cg vv bv kv cu ba sa o ch) (hP : va_P (dC, dI) ls_C (ls_W h a dB dZ dN K X V E en se op os oc la ks kl ko nk nr nv ne ++ ml_W g a1 dN ky bk kp op1 cg vv bv kv) H) (hD : va_D (fun q : Nat => s.heap.size ≤ q) (ls_W h a dB dZ dN K X V E en se op os oc la ks kl ko nk nr nv ne ++ ml_W g a1 dN ky bk kp op1 cg vv bv kv)) (hS : va_S (fun q : Nat => s.heap.size ≤ q) s.heap H locs) (hl : lv_has ls 4 [(0, .ref b), (1, .ref h), (2, .ref g), (3, .int (nI i))])
    (kk : ∀ (K X V E : Nat → Int32) (en se op os oc : Int32) (la ks kl ko nk nr nv ne : Nat → Int32) (ky bk kp op1 cg : Int32) (vv bv kv : Nat → Int32) (cu ba sa : Nat → Option Int32) (o : Bool) (ch : Int32) (H : Heap) (locs : List Loc), ls_R 96 K X V E la en se op os oc cu ba sa o ch → ml_R ky bk kp op1 cg vv bv kv cu ba sa o ch → va_P (dC, dI) ls_C (ls_W h a dB dZ dN K X V E en se op os oc la ks kl ko nk nr nv ne ++ ml_W g a1 dN ky bk kp op1 cg vv bv kv) H → va_D (fun q : Nat => s.heap.size ≤ q) (ls_W h a dB dZ dN K X V E en se op os oc la ks kl ko nk nr nv ne ++ ml_W g a1 dN ky bk kp op1 cg vv bv kv) → va_S (fun q : Nat => s.heap.size ≤ q) s.heap H locs → W p l e room_1 s m #[Value.ref b] below meth c H locs 600000 7290000 (lw_Z below #[Value.ref b] s) (F0 m 384 ls [])) : W p l e room_1 s m #[Value.ref b] below meth c H locs 600000 7290000 (lw_Z below #[Value.ref b] s) (F0 m 181 ls []) := by
  obtain ⟨hx, hb, hr, hml, hown, hts0, hX, hbl, hlocks, hgv⟩ := id C0
  have hts : ∀ w ∈ lw_all, w.before #[Value.ref b] s = true := fun w hw => hts0 w (lw_all_tbl hw)
  have S : CallFix p m c cL_law 4 s #[Value.ref b] lw_all R_law := ⟨hx, hb, hml, hown, hts⟩
  have hA : ∀ q : Nat, s.heap.size ≤ q → (fun q : Nat => s.heap.size ≤ q) q := fun _ hq => hq
  refine lv_aload_n hx hb dL_law_181 rfl (lv_at hl 1 rfl) ?_
  refine lw_cXi S hK hP hD hS hA (mt_commit hQ) (cwV 0 hts (lw_V q116 q117 q118 q12 q119) rfl rfl rfl (by decide +kernel) ⟨Nat.le_of_ble_eq_true rfl, Nat.le_of_ble_eq_true rfl⟩) rfl hl.1 rfl (Nat.le_of_ble_eq_true rfl) dL_law_182 ⟨Nat.le_refl _, Nat.le_refl _⟩ (fun K X V E en se op os oc la ks kl ko nk nr nv ne H locs hP hD hS hQ => ?_)
  refine lv_aload_n hx hb dL_law_185 rfl (lv_at hl 2 rfl) ?_
  refine lw_cMi S hK hP hD hS hA (mt1_commit hM) (cwV 0 hts (lw_V q232 q233 q234 q13 q235) rfl rfl rfl (by decide +kernel) ⟨Nat.le_of_ble_eq_true rfl, Nat.le_of_ble_eq_true rfl⟩) rfl hl.1 rfl (Nat.le_of_ble_eq_true rfl) dL_law_186 ⟨Nat.le_refl _, Nat.le_refl _⟩ (fun ky bk kp op1 cg vv bv kv H locs hP hD hS hM => ?_)
  refine lv_icmp_eq (tgt := 384) hx hb dL_law_189 (by decide) (fun c1 => ?_) (fun c1 => ?_)
  · exact kk _ _ _ _ _ _ _ _ _ _ _ _ _ _ _ _ _ _ _ _ _ _ _ _ _ _ _ _ _ _ H locs hQ hM hP hD hS
  · exact absurd rfl c1
set_option maxHeartbeats 4000000 in
set_option maxRecDepth 100000 in
/-- the law's case 4: abort -/
theorem lc_abort (C0 : lw_At p s m meth c b L xs) (hL : L ≤ 192) (hi : i + 3 ≤ L) (hK : va_K (dC, dI) ls_C (ls_T dB dZ dN) s) {K X V E : Nat → Int32} {en se op os oc : Int32} {la ks kl ko nk nr nv ne : Nat → Int32} {ky bk kp op1 cg : Int32} {vv bv kv : Nat → Int32} {cu ba sa : Nat → Option Int32} {o : Bool} {ch : Int32} {H : Heap} {locs : List Loc} {ls : Array Slot} (hQ : ls_R 96 K X V E la en se op os oc cu ba sa o ch) (hM : ml_R ky bk kp op1 cg vv bv kv cu ba sa o ch) (hP : va_P (dC, dI) ls_C (ls_W h a dB dZ dN K X V E en se op os oc la ks kl ko nk nr nv ne ++ ml_W g a1 dN ky bk kp op1 cg vv bv kv) H) (hD : va_D (fun q : Nat => s.heap.size ≤ q) (ls_W h a dB dZ dN K X V E en se op os oc la ks kl ko nk nr nv ne ++ ml_W g a1 dN ky bk kp op1 cg vv bv kv)) (hS : va_S (fun q : Nat => s.heap.size ≤ q) s.heap H locs) (hl : lv_has ls 4 [(0, .ref b), (1, .ref h), (2, .ref g), (3, .int (nI i))])
    (kk : ∀ (K X V E : Nat → Int32) (en se op os oc : Int32) (la ks kl ko nk nr nv ne : Nat → Int32) (ky bk kp op1 cg : Int32) (vv bv kv : Nat → Int32) (cu ba sa : Nat → Option Int32) (o : Bool) (ch : Int32) (H : Heap) (locs : List Loc), ls_R 96 K X V E la en se op os oc cu ba sa o ch → ml_R ky bk kp op1 cg vv bv kv cu ba sa o ch → va_P (dC, dI) ls_C (ls_W h a dB dZ dN K X V E en se op os oc la ks kl ko nk nr nv ne ++ ml_W g a1 dN ky bk kp op1 cg vv bv kv) H → va_D (fun q : Nat => s.heap.size ≤ q) (ls_W h a dB dZ dN K X V E en se op os oc la ks kl ko nk nr nv ne ++ ml_W g a1 dN ky bk kp op1 cg vv bv kv) → va_S (fun q : Nat => s.heap.size ≤ q) s.heap H locs → W p l e room_1 s m #[Value.ref b] below meth c H locs 600000 7290000 (lw_Z below #[Value.ref b] s) (F0 m 384 ls [])) : W p l e room_1 s m #[Value.ref b] below meth c H locs 600000 7290000 (lw_Z below #[Value.ref b] s) (F0 m 194 ls []) := by
  obtain ⟨hx, hb, hr, hml, hown, hts0, hX, hbl, hlocks, hgv⟩ := id C0
  have hts : ∀ w ∈ lw_all, w.before #[Value.ref b] s = true := fun w hw => hts0 w (lw_all_tbl hw)
  have S : CallFix p m c cL_law 4 s #[Value.ref b] lw_all R_law := ⟨hx, hb, hml, hown, hts⟩
  have hA : ∀ q : Nat, s.heap.size ≤ q → (fun q : Nat => s.heap.size ≤ q) q := fun _ hq => hq
  refine lv_aload_n hx hb dL_law_194 rfl (lv_at hl 1 rfl) ?_
  refine lw_cXi S hK hP hD hS hA (mt_abort hQ) (cwV 0 hts (lw_V q120 q121 q122 q12 q123) rfl rfl rfl (by decide +kernel) ⟨Nat.le_of_ble_eq_true rfl, Nat.le_of_ble_eq_true rfl⟩) rfl hl.1 rfl (Nat.le_of_ble_eq_true rfl) dL_law_195 ⟨Nat.le_refl _, Nat.le_refl _⟩ (fun K X V E en se op os oc la ks kl ko nk nr nv ne H locs hP hD hS hQ => ?_)
  refine lv_aload_n hx hb dL_law_198 rfl (lv_at hl 2 rfl) ?_
  refine lw_cMi S hK hP hD hS hA (mt1_abort hM) (cwV 0 hts (lw_V q236 q237 q238 q13 q239) rfl rfl rfl (by decide +kernel) ⟨Nat.le_of_ble_eq_true rfl, Nat.le_of_ble_eq_true rfl⟩) rfl hl.1 rfl (Nat.le_of_ble_eq_true rfl) dL_law_199 ⟨Nat.le_refl _, Nat.le_refl _⟩ (fun ky bk kp op1 cg vv bv kv H locs hP hD hS hM => ?_)
  refine lv_icmp_eq (tgt := 384) hx hb dL_law_202 (by decide) (fun c1 => ?_) (fun c1 => ?_)
  · exact kk _ _ _ _ _ _ _ _ _ _ _ _ _ _ _ _ _ _ _ _ _ _ _ _ _ _ _ _ _ _ H locs hQ hM hP hD hS
  · exact absurd rfl c1
set_option maxHeartbeats 4000000 in
set_option maxRecDepth 100000 in
/-- the law's case 5: sync -/
theorem lc_sync (C0 : lw_At p s m meth c b L xs) (hL : L ≤ 192) (hi : i + 3 ≤ L) (hK : va_K (dC, dI) ls_C (ls_T dB dZ dN) s) {K X V E : Nat → Int32} {en se op os oc : Int32} {la ks kl ko nk nr nv ne : Nat → Int32} {ky bk kp op1 cg : Int32} {vv bv kv : Nat → Int32} {cu ba sa : Nat → Option Int32} {o : Bool} {ch : Int32} {H : Heap} {locs : List Loc} {ls : Array Slot} (hQ : ls_R 96 K X V E la en se op os oc cu ba sa o ch) (hM : ml_R ky bk kp op1 cg vv bv kv cu ba sa o ch) (hP : va_P (dC, dI) ls_C (ls_W h a dB dZ dN K X V E en se op os oc la ks kl ko nk nr nv ne ++ ml_W g a1 dN ky bk kp op1 cg vv bv kv) H) (hD : va_D (fun q : Nat => s.heap.size ≤ q) (ls_W h a dB dZ dN K X V E en se op os oc la ks kl ko nk nr nv ne ++ ml_W g a1 dN ky bk kp op1 cg vv bv kv)) (hS : va_S (fun q : Nat => s.heap.size ≤ q) s.heap H locs) (hl : lv_has ls 4 [(0, .ref b), (1, .ref h), (2, .ref g), (3, .int (nI i))])
    (kk : ∀ (K X V E : Nat → Int32) (en se op os oc : Int32) (la ks kl ko nk nr nv ne : Nat → Int32) (ky bk kp op1 cg : Int32) (vv bv kv : Nat → Int32) (cu ba sa : Nat → Option Int32) (o : Bool) (ch : Int32) (H : Heap) (locs : List Loc), ls_R 96 K X V E la en se op os oc cu ba sa o ch → ml_R ky bk kp op1 cg vv bv kv cu ba sa o ch → va_P (dC, dI) ls_C (ls_W h a dB dZ dN K X V E en se op os oc la ks kl ko nk nr nv ne ++ ml_W g a1 dN ky bk kp op1 cg vv bv kv) H → va_D (fun q : Nat => s.heap.size ≤ q) (ls_W h a dB dZ dN K X V E en se op os oc la ks kl ko nk nr nv ne ++ ml_W g a1 dN ky bk kp op1 cg vv bv kv) → va_S (fun q : Nat => s.heap.size ≤ q) s.heap H locs → W p l e room_1 s m #[Value.ref b] below meth c H locs 600000 7290000 (lw_Z below #[Value.ref b] s) (F0 m 384 ls [])) : W p l e room_1 s m #[Value.ref b] below meth c H locs 600000 7290000 (lw_Z below #[Value.ref b] s) (F0 m 207 ls []) := by
  obtain ⟨hx, hb, hr, hml, hown, hts0, hX, hbl, hlocks, hgv⟩ := id C0
  have hts : ∀ w ∈ lw_all, w.before #[Value.ref b] s = true := fun w hw => hts0 w (lw_all_tbl hw)
  have S : CallFix p m c cL_law 4 s #[Value.ref b] lw_all R_law := ⟨hx, hb, hml, hown, hts⟩
  have hA : ∀ q : Nat, s.heap.size ≤ q → (fun q : Nat => s.heap.size ≤ q) q := fun _ hq => hq
  refine lv_aload_n hx hb dL_law_207 rfl (lv_at hl 1 rfl) ?_
  refine lw_cXv S hK hP hD hS hA (mt_sync hQ) (cwV 0 hts (lw_V q128 q129 q130 q12 q131) rfl rfl rfl (by decide +kernel) ⟨Nat.le_of_ble_eq_true rfl, Nat.le_of_ble_eq_true rfl⟩) rfl hl.1 rfl (Nat.le_of_ble_eq_true rfl) dL_law_208 ⟨Nat.le_refl _, Nat.le_refl _⟩ (fun K X V E en se op os oc la ks kl ko nk nr nv ne H locs hP hD hS hQ => ?_)
  refine lv_aload_n hx hb dL_law_211 rfl (lv_at hl 2 rfl) ?_
  refine lw_cMv S hK hP hD hS hA (mt1_sync hM) (cwV 0 hts (lw_V q244 q245 q246 q13 q247) rfl rfl rfl (by decide +kernel) ⟨Nat.le_of_ble_eq_true rfl, Nat.le_of_ble_eq_true rfl⟩) rfl hl.1 rfl (Nat.le_of_ble_eq_true rfl) dL_law_212 ⟨Nat.le_refl _, Nat.le_refl _⟩ (fun ky bk kp op1 cg vv bv kv H locs hP hD hS hM => ?_)
  refine lv_goto (tgt := 384) hx hb dL_law_215 (by decide) ?_
  exact kk _ _ _ _ _ _ _ _ _ _ _ _ _ _ _ _ _ _ _ _ _ _ _ _ _ _ _ _ _ _ H locs hQ hM hP hD hS
set_option maxHeartbeats 4000000 in
set_option maxRecDepth 100000 in
/-- the law's case 6: clean -/
theorem lc_clean (C0 : lw_At p s m meth c b L xs) (hL : L ≤ 192) (hi : i + 3 ≤ L) (hK : va_K (dC, dI) ls_C (ls_T dB dZ dN) s) {K X V E : Nat → Int32} {en se op os oc : Int32} {la ks kl ko nk nr nv ne : Nat → Int32} {ky bk kp op1 cg : Int32} {vv bv kv : Nat → Int32} {cu ba sa : Nat → Option Int32} {o : Bool} {ch : Int32} {H : Heap} {locs : List Loc} {ls : Array Slot} (hQ : ls_R 96 K X V E la en se op os oc cu ba sa o ch) (hM : ml_R ky bk kp op1 cg vv bv kv cu ba sa o ch) (hP : va_P (dC, dI) ls_C (ls_W h a dB dZ dN K X V E en se op os oc la ks kl ko nk nr nv ne ++ ml_W g a1 dN ky bk kp op1 cg vv bv kv) H) (hD : va_D (fun q : Nat => s.heap.size ≤ q) (ls_W h a dB dZ dN K X V E en se op os oc la ks kl ko nk nr nv ne ++ ml_W g a1 dN ky bk kp op1 cg vv bv kv)) (hS : va_S (fun q : Nat => s.heap.size ≤ q) s.heap H locs) (hl : lv_has ls 4 [(0, .ref b), (1, .ref h), (2, .ref g), (3, .int (nI i))])
    (kk : ∀ (K X V E : Nat → Int32) (en se op os oc : Int32) (la ks kl ko nk nr nv ne : Nat → Int32) (ky bk kp op1 cg : Int32) (vv bv kv : Nat → Int32) (cu ba sa : Nat → Option Int32) (o : Bool) (ch : Int32) (H : Heap) (locs : List Loc), ls_R 96 K X V E la en se op os oc cu ba sa o ch → ml_R ky bk kp op1 cg vv bv kv cu ba sa o ch → va_P (dC, dI) ls_C (ls_W h a dB dZ dN K X V E en se op os oc la ks kl ko nk nr nv ne ++ ml_W g a1 dN ky bk kp op1 cg vv bv kv) H → va_D (fun q : Nat => s.heap.size ≤ q) (ls_W h a dB dZ dN K X V E en se op os oc la ks kl ko nk nr nv ne ++ ml_W g a1 dN ky bk kp op1 cg vv bv kv) → va_S (fun q : Nat => s.heap.size ≤ q) s.heap H locs → W p l e room_1 s m #[Value.ref b] below meth c H locs 600000 7290000 (lw_Z below #[Value.ref b] s) (F0 m 384 ls [])) : W p l e room_1 s m #[Value.ref b] below meth c H locs 600000 7290000 (lw_Z below #[Value.ref b] s) (F0 m 218 ls []) := by
  obtain ⟨hx, hb, hr, hml, hown, hts0, hX, hbl, hlocks, hgv⟩ := id C0
  have hts : ∀ w ∈ lw_all, w.before #[Value.ref b] s = true := fun w hw => hts0 w (lw_all_tbl hw)
  have S : CallFix p m c cL_law 4 s #[Value.ref b] lw_all R_law := ⟨hx, hb, hml, hown, hts⟩
  have hA : ∀ q : Nat, s.heap.size ≤ q → (fun q : Nat => s.heap.size ≤ q) q := fun _ hq => hq
  refine lv_aload_n hx hb dL_law_218 rfl (lv_at hl 1 rfl) ?_
  refine lw_cXv S hK hP hD hS hA (mt_clean hQ) (cwV 0 hts (lw_V q132 q133 q134 q12 q135) rfl rfl rfl (by decide +kernel) ⟨Nat.le_of_ble_eq_true rfl, Nat.le_of_ble_eq_true rfl⟩) rfl hl.1 rfl (Nat.le_of_ble_eq_true rfl) dL_law_219 ⟨Nat.le_refl _, Nat.le_refl _⟩ (fun K X V E en se op os oc la ks kl ko nk nr nv ne H locs hP hD hS hQ => ?_)
  refine lv_aload_n hx hb dL_law_222 rfl (lv_at hl 2 rfl) ?_
  refine lw_cMv S hK hP hD hS hA (mt1_clean hM) (cwV 0 hts (lw_V q248 q249 q250 q13 q251) rfl rfl rfl (by decide +kernel) ⟨Nat.le_of_ble_eq_true rfl, Nat.le_of_ble_eq_true rfl⟩) rfl hl.1 rfl (Nat.le_of_ble_eq_true rfl) dL_law_223 ⟨Nat.le_refl _, Nat.le_refl _⟩ (fun ky bk kp op1 cg vv bv kv H locs hP hD hS hM => ?_)
  refine lv_goto (tgt := 384) hx hb dL_law_226 (by decide) ?_
  exact kk _ _ _ _ _ _ _ _ _ _ _ _ _ _ _ _ _ _ _ _ _ _ _ _ _ _ _ _ _ _ H locs hQ hM hP hD hS
set_option maxHeartbeats 4000000 in
set_option maxRecDepth 100000 in
/-- the law's case 7: crash -/
theorem lc_crash (C0 : lw_At p s m meth c b L xs) (hL : L ≤ 192) (hi : i + 3 ≤ L) (hK : va_K (dC, dI) ls_C (ls_T dB dZ dN) s) {K X V E : Nat → Int32} {en se op os oc : Int32} {la ks kl ko nk nr nv ne : Nat → Int32} {ky bk kp op1 cg : Int32} {vv bv kv : Nat → Int32} {cu ba sa : Nat → Option Int32} {o : Bool} {ch : Int32} {H : Heap} {locs : List Loc} {ls : Array Slot} (hQ : ls_R 96 K X V E la en se op os oc cu ba sa o ch) (hM : ml_R ky bk kp op1 cg vv bv kv cu ba sa o ch) (hP : va_P (dC, dI) ls_C (ls_W h a dB dZ dN K X V E en se op os oc la ks kl ko nk nr nv ne ++ ml_W g a1 dN ky bk kp op1 cg vv bv kv) H) (hD : va_D (fun q : Nat => s.heap.size ≤ q) (ls_W h a dB dZ dN K X V E en se op os oc la ks kl ko nk nr nv ne ++ ml_W g a1 dN ky bk kp op1 cg vv bv kv)) (hS : va_S (fun q : Nat => s.heap.size ≤ q) s.heap H locs) (hl : lv_has ls 4 [(0, .ref b), (1, .ref h), (2, .ref g), (3, .int (nI i))])
    (kk : ∀ (K X V E : Nat → Int32) (en se op os oc : Int32) (la ks kl ko nk nr nv ne : Nat → Int32) (ky bk kp op1 cg : Int32) (vv bv kv : Nat → Int32) (cu ba sa : Nat → Option Int32) (o : Bool) (ch : Int32) (H : Heap) (locs : List Loc), ls_R 96 K X V E la en se op os oc cu ba sa o ch → ml_R ky bk kp op1 cg vv bv kv cu ba sa o ch → va_P (dC, dI) ls_C (ls_W h a dB dZ dN K X V E en se op os oc la ks kl ko nk nr nv ne ++ ml_W g a1 dN ky bk kp op1 cg vv bv kv) H → va_D (fun q : Nat => s.heap.size ≤ q) (ls_W h a dB dZ dN K X V E en se op os oc la ks kl ko nk nr nv ne ++ ml_W g a1 dN ky bk kp op1 cg vv bv kv) → va_S (fun q : Nat => s.heap.size ≤ q) s.heap H locs → W p l e room_1 s m #[Value.ref b] below meth c H locs 600000 7290000 (lw_Z below #[Value.ref b] s) (F0 m 384 ls [])) : W p l e room_1 s m #[Value.ref b] below meth c H locs 600000 7290000 (lw_Z below #[Value.ref b] s) (F0 m 229 ls []) := by
  obtain ⟨hx, hb, hr, hml, hown, hts0, hX, hbl, hlocks, hgv⟩ := id C0
  have hts : ∀ w ∈ lw_all, w.before #[Value.ref b] s = true := fun w hw => hts0 w (lw_all_tbl hw)
  have S : CallFix p m c cL_law 4 s #[Value.ref b] lw_all R_law := ⟨hx, hb, hml, hown, hts⟩
  have hA : ∀ q : Nat, s.heap.size ≤ q → (fun q : Nat => s.heap.size ≤ q) q := fun _ hq => hq
  refine lv_aload_n hx hb dL_law_229 rfl (lv_at hl 1 rfl) ?_
  refine lw_cXv S hK hP hD hS hA (mt_crash hQ) (cwV 0 hts (lw_V q136 q137 q138 q12 q139) rfl rfl rfl (by decide +kernel) ⟨Nat.le_of_ble_eq_true rfl, Nat.le_of_ble_eq_true rfl⟩) rfl hl.1 rfl (Nat.le_of_ble_eq_true rfl) dL_law_230 ⟨Nat.le_refl _, Nat.le_refl _⟩ (fun K X V E en se op os oc la ks kl ko nk nr nv ne H locs hP hD hS hQ => ?_)
  refine lv_aload_n hx hb dL_law_233 rfl (lv_at hl 2 rfl) ?_
  refine lw_cMv S hK hP hD hS hA (mt1_crash hM) (cwV 0 hts (lw_V q252 q253 q254 q13 q255) rfl rfl rfl (by decide +kernel) ⟨Nat.le_of_ble_eq_true rfl, Nat.le_of_ble_eq_true rfl⟩) rfl hl.1 rfl (Nat.le_of_ble_eq_true rfl) dL_law_234 ⟨Nat.le_refl _, Nat.le_refl _⟩ (fun ky bk kp op1 cg vv bv kv H locs hP hD hS hM => ?_)
  refine lv_goto (tgt := 384) hx hb dL_law_237 (by decide) ?_
  exact kk _ _ _ _ _ _ _ _ _ _ _ _ _ _ _ _ _ _ _ _ _ _ _ _ _ _ _ _ _ _ H locs hQ hM hP hD hS
set_option maxHeartbeats 4000000 in
set_option maxRecDepth 100000 in
/-- the law's case 8: has -/
theorem lc_has (C0 : lw_At p s m meth c b L xs) (hL : L ≤ 192) (hi : i + 3 ≤ L) (hK : va_K (dC, dI) ls_C (ls_T dB dZ dN) s) {K X V E : Nat → Int32} {en se op os oc : Int32} {la ks kl ko nk nr nv ne : Nat → Int32} {ky bk kp op1 cg : Int32} {vv bv kv : Nat → Int32} {cu ba sa : Nat → Option Int32} {o : Bool} {ch : Int32} {H : Heap} {locs : List Loc} {ls : Array Slot} (hQ : ls_R 96 K X V E la en se op os oc cu ba sa o ch) (hM : ml_R ky bk kp op1 cg vv bv kv cu ba sa o ch) (hP : va_P (dC, dI) ls_C (ls_W h a dB dZ dN K X V E en se op os oc la ks kl ko nk nr nv ne ++ ml_W g a1 dN ky bk kp op1 cg vv bv kv) H) (hD : va_D (fun q : Nat => s.heap.size ≤ q) (ls_W h a dB dZ dN K X V E en se op os oc la ks kl ko nk nr nv ne ++ ml_W g a1 dN ky bk kp op1 cg vv bv kv)) (hS : va_S (fun q : Nat => s.heap.size ≤ q) s.heap H locs) (hl : lv_has ls 4 [(0, .ref b), (1, .ref h), (2, .ref g), (3, .int (nI i))])
    (kk : ∀ (K X V E : Nat → Int32) (en se op os oc : Int32) (la ks kl ko nk nr nv ne : Nat → Int32) (ky bk kp op1 cg : Int32) (vv bv kv : Nat → Int32) (cu ba sa : Nat → Option Int32) (o : Bool) (ch : Int32) (H : Heap) (locs : List Loc), ls_R 96 K X V E la en se op os oc cu ba sa o ch → ml_R ky bk kp op1 cg vv bv kv cu ba sa o ch → va_P (dC, dI) ls_C (ls_W h a dB dZ dN K X V E en se op os oc la ks kl ko nk nr nv ne ++ ml_W g a1 dN ky bk kp op1 cg vv bv kv) H → va_D (fun q : Nat => s.heap.size ≤ q) (ls_W h a dB dZ dN K X V E en se op os oc la ks kl ko nk nr nv ne ++ ml_W g a1 dN ky bk kp op1 cg vv bv kv) → va_S (fun q : Nat => s.heap.size ≤ q) s.heap H locs → W p l e room_1 s m #[Value.ref b] below meth c H locs 600000 7290000 (lw_Z below #[Value.ref b] s) (F0 m 384 ls [])) : W p l e room_1 s m #[Value.ref b] below meth c H locs 600000 7290000 (lw_Z below #[Value.ref b] s) (F0 m 240 ls []) := by
  obtain ⟨hx, hb, hr, hml, hown, hts0, hX, hbl, hlocks, hgv⟩ := id C0
  have hts : ∀ w ∈ lw_all, w.before #[Value.ref b] s = true := fun w hw => hts0 w (lw_all_tbl hw)
  have S : CallFix p m c cL_law 4 s #[Value.ref b] lw_all R_law := ⟨hx, hb, hml, hown, hts⟩
  have hA : ∀ q : Nat, s.heap.size ≤ q → (fun q : Nat => s.heap.size ≤ q) q := fun _ hq => hq
  refine lv_aload_n hx hb dL_law_240 rfl (lv_at hl 1 rfl) ?_
  refine lv_aload_n hx hb dL_law_241 rfl (lv_at hl 0 rfl) ?_
  refine lv_iload_n hx hb dL_law_242 rfl (lv_at hl 3 rfl) ?_
  refine lv_iconst (v := nI 1) hx hb dL_law_243 (by decide) ?_
  refine lv_iadd hx hb dL_law_244 ?_
  rw [show ((nI i) + (nI 1) : Int32) = nI (i + 1) from nI_add i 1]
  refine lw_sld hx hb hX hbl (Nat.not_le.mpr hbl) hS (show i + 1 < L by omega) (by omega) dL_law_245 ?_
  have hPc := hP.sub (ws' := ls_W h a dB dZ dN K X V E en se op os oc la ks kl ko nk nr nv ne) [0, 1, 2, 3, 4, 5, 6, 7, 8, 9, 10, 11, 12] rfl
  refine ls_rV (ci := 0) S hK hPc (mt_has (k := xs (i + 1)) hQ) (cwV 1 hts (lw_V q140 q113 q114 q12 q115) rfl rfl rfl (by decide +kernel) ⟨Nat.le_of_ble_eq_true rfl, Nat.le_of_ble_eq_true rfl⟩) rfl rfl rfl hl.1 rfl (Nat.le_of_ble_eq_true rfl) dL_law_246 ⟨Nat.le_refl _, Nat.le_refl _⟩ (fun rX eX => ?_)
  subst eX
  refine lv_aload_n hx hb dL_law_249 rfl (lv_at hl 2 rfl) ?_
  refine lv_aload_n hx hb dL_law_250 rfl (lv_at hl 0 rfl) ?_
  refine lv_iload_n hx hb dL_law_251 rfl (lv_at hl 3 rfl) ?_
  refine lv_iconst (v := nI 1) hx hb dL_law_252 (by decide) ?_
  refine lv_iadd hx hb dL_law_253 ?_
  rw [show ((nI i) + (nI 1) : Int32) = nI (i + 1) from nI_add i 1]
  refine lw_sld hx hb hX hbl (Nat.not_le.mpr hbl) hS (show i + 1 < L by omega) (by omega) dL_law_254 ?_
  have hPc := hP.sub (ws' := ml_W g a1 dN ky bk kp op1 cg vv bv kv) [13, 14, 15, 16] rfl
  refine ls_rV (ci := 1) S hK hPc (mt1_has (k := xs (i + 1)) hM) (cwV 1 hts (lw_V q256 q229 q230 q13 q231) rfl rfl rfl (by decide +kernel) ⟨Nat.le_of_ble_eq_true rfl, Nat.le_of_ble_eq_true rfl⟩) rfl rfl rfl hl.1 rfl (Nat.le_of_ble_eq_true rfl) dL_law_255 ⟨Nat.le_refl _, Nat.le_refl _⟩ (fun rM eM => ?_)
  subst eM
  refine lv_icmp_eq (tgt := 384) hx hb dL_law_258 (by decide) (fun c1 => ?_) (fun c1 => ?_)
  · exact kk _ _ _ _ _ _ _ _ _ _ _ _ _ _ _ _ _ _ _ _ _ _ _ _ _ _ _ _ _ _ H locs hQ hM hP hD hS
  · exact absurd rfl c1
set_option maxHeartbeats 4000000 in
set_option maxRecDepth 100000 in
/-- the law's case 9: get -/
theorem lc_get (C0 : lw_At p s m meth c b L xs) (hL : L ≤ 192) (hi : i + 3 ≤ L) (hK : va_K (dC, dI) ls_C (ls_T dB dZ dN) s) {K X V E : Nat → Int32} {en se op os oc : Int32} {la ks kl ko nk nr nv ne : Nat → Int32} {ky bk kp op1 cg : Int32} {vv bv kv : Nat → Int32} {cu ba sa : Nat → Option Int32} {o : Bool} {ch : Int32} {H : Heap} {locs : List Loc} {ls : Array Slot} (hQ : ls_R 96 K X V E la en se op os oc cu ba sa o ch) (hM : ml_R ky bk kp op1 cg vv bv kv cu ba sa o ch) (hP : va_P (dC, dI) ls_C (ls_W h a dB dZ dN K X V E en se op os oc la ks kl ko nk nr nv ne ++ ml_W g a1 dN ky bk kp op1 cg vv bv kv) H) (hD : va_D (fun q : Nat => s.heap.size ≤ q) (ls_W h a dB dZ dN K X V E en se op os oc la ks kl ko nk nr nv ne ++ ml_W g a1 dN ky bk kp op1 cg vv bv kv)) (hS : va_S (fun q : Nat => s.heap.size ≤ q) s.heap H locs) (hl : lv_has ls 4 [(0, .ref b), (1, .ref h), (2, .ref g), (3, .int (nI i))])
    (kk : ∀ (K X V E : Nat → Int32) (en se op os oc : Int32) (la ks kl ko nk nr nv ne : Nat → Int32) (ky bk kp op1 cg : Int32) (vv bv kv : Nat → Int32) (cu ba sa : Nat → Option Int32) (o : Bool) (ch : Int32) (H : Heap) (locs : List Loc), ls_R 96 K X V E la en se op os oc cu ba sa o ch → ml_R ky bk kp op1 cg vv bv kv cu ba sa o ch → va_P (dC, dI) ls_C (ls_W h a dB dZ dN K X V E en se op os oc la ks kl ko nk nr nv ne ++ ml_W g a1 dN ky bk kp op1 cg vv bv kv) H → va_D (fun q : Nat => s.heap.size ≤ q) (ls_W h a dB dZ dN K X V E en se op os oc la ks kl ko nk nr nv ne ++ ml_W g a1 dN ky bk kp op1 cg vv bv kv) → va_S (fun q : Nat => s.heap.size ≤ q) s.heap H locs → W p l e room_1 s m #[Value.ref b] below meth c H locs 600000 7290000 (lw_Z below #[Value.ref b] s) (F0 m 384 ls [])) : W p l e room_1 s m #[Value.ref b] below meth c H locs 600000 7290000 (lw_Z below #[Value.ref b] s) (F0 m 263 ls []) := by
  obtain ⟨hx, hb, hr, hml, hown, hts0, hX, hbl, hlocks, hgv⟩ := id C0
  have hts : ∀ w ∈ lw_all, w.before #[Value.ref b] s = true := fun w hw => hts0 w (lw_all_tbl hw)
  have S : CallFix p m c cL_law 4 s #[Value.ref b] lw_all R_law := ⟨hx, hb, hml, hown, hts⟩
  have hA : ∀ q : Nat, s.heap.size ≤ q → (fun q : Nat => s.heap.size ≤ q) q := fun _ hq => hq
  refine lv_aload_n hx hb dL_law_263 rfl (lv_at hl 1 rfl) ?_
  refine lv_aload_n hx hb dL_law_264 rfl (lv_at hl 0 rfl) ?_
  refine lv_iload_n hx hb dL_law_265 rfl (lv_at hl 3 rfl) ?_
  refine lv_iconst (v := nI 1) hx hb dL_law_266 (by decide) ?_
  refine lv_iadd hx hb dL_law_267 ?_
  rw [show ((nI i) + (nI 1) : Int32) = nI (i + 1) from nI_add i 1]
  refine lw_sld hx hb hX hbl (Nat.not_le.mpr hbl) hS (show i + 1 < L by omega) (by omega) dL_law_268 ?_
  have hPc := hP.sub (ws' := ls_W h a dB dZ dN K X V E en se op os oc la ks kl ko nk nr nv ne) [0, 1, 2, 3, 4, 5, 6, 7, 8, 9, 10, 11, 12] rfl
  refine ls_rV (ci := 0) S hK hPc (mt_get (k := xs (i + 1)) hQ) (cwV 1 hts (lw_V q141 q142 q143 q12 q144) rfl rfl rfl (by decide +kernel) ⟨Nat.le_of_ble_eq_true rfl, Nat.le_of_ble_eq_true rfl⟩) rfl rfl rfl hl.1 rfl (Nat.le_of_ble_eq_true rfl) dL_law_269 ⟨Nat.le_refl _, Nat.le_refl _⟩ (fun rX eX => ?_)
  subst eX
  refine lv_aload_n hx hb dL_law_272 rfl (lv_at hl 2 rfl) ?_
  refine lv_aload_n hx hb dL_law_273 rfl (lv_at hl 0 rfl) ?_
  refine lv_iload_n hx hb dL_law_274 rfl (lv_at hl 3 rfl) ?_
  refine lv_iconst (v := nI 1) hx hb dL_law_275 (by decide) ?_
  refine lv_iadd hx hb dL_law_276 ?_
  rw [show ((nI i) + (nI 1) : Int32) = nI (i + 1) from nI_add i 1]
  refine lw_sld hx hb hX hbl (Nat.not_le.mpr hbl) hS (show i + 1 < L by omega) (by omega) dL_law_277 ?_
  have hPc := hP.sub (ws' := ml_W g a1 dN ky bk kp op1 cg vv bv kv) [13, 14, 15, 16] rfl
  refine ls_rV (ci := 1) S hK hPc (mt1_get (k := xs (i + 1)) hM) (cwV 1 hts (lw_V q257 q258 q259 q13 q260) rfl rfl rfl (by decide +kernel) ⟨Nat.le_of_ble_eq_true rfl, Nat.le_of_ble_eq_true rfl⟩) rfl rfl rfl hl.1 rfl (Nat.le_of_ble_eq_true rfl) dL_law_278 ⟨Nat.le_refl _, Nat.le_refl _⟩ (fun rM eM => ?_)
  subst eM
  refine lv_icmp_eq (tgt := 384) hx hb dL_law_281 (by decide) (fun c1 => ?_) (fun c1 => ?_)
  · exact kk _ _ _ _ _ _ _ _ _ _ _ _ _ _ _ _ _ _ _ _ _ _ _ _ _ _ _ _ _ _ H locs hQ hM hP hD hS
  · exact absurd rfl c1
set_option maxHeartbeats 4000000 in
set_option maxRecDepth 100000 in
/-- the law's case 10: next -/
theorem lc_next (C0 : lw_At p s m meth c b L xs) (hL : L ≤ 192) (hi : i + 3 ≤ L) (hK : va_K (dC, dI) ls_C (ls_T dB dZ dN) s) {K X V E : Nat → Int32} {en se op os oc : Int32} {la ks kl ko nk nr nv ne : Nat → Int32} {ky bk kp op1 cg : Int32} {vv bv kv : Nat → Int32} {cu ba sa : Nat → Option Int32} {o : Bool} {ch : Int32} {H : Heap} {locs : List Loc} {ls : Array Slot} (hQ : ls_R 96 K X V E la en se op os oc cu ba sa o ch) (hM : ml_R ky bk kp op1 cg vv bv kv cu ba sa o ch) (hP : va_P (dC, dI) ls_C (ls_W h a dB dZ dN K X V E en se op os oc la ks kl ko nk nr nv ne ++ ml_W g a1 dN ky bk kp op1 cg vv bv kv) H) (hD : va_D (fun q : Nat => s.heap.size ≤ q) (ls_W h a dB dZ dN K X V E en se op os oc la ks kl ko nk nr nv ne ++ ml_W g a1 dN ky bk kp op1 cg vv bv kv)) (hS : va_S (fun q : Nat => s.heap.size ≤ q) s.heap H locs) (hl : lv_has ls 4 [(0, .ref b), (1, .ref h), (2, .ref g), (3, .int (nI i))])
    (kk : ∀ (K X V E : Nat → Int32) (en se op os oc : Int32) (la ks kl ko nk nr nv ne : Nat → Int32) (ky bk kp op1 cg : Int32) (vv bv kv : Nat → Int32) (cu ba sa : Nat → Option Int32) (o : Bool) (ch : Int32) (H : Heap) (locs : List Loc), ls_R 96 K X V E la en se op os oc cu ba sa o ch → ml_R ky bk kp op1 cg vv bv kv cu ba sa o ch → va_P (dC, dI) ls_C (ls_W h a dB dZ dN K X V E en se op os oc la ks kl ko nk nr nv ne ++ ml_W g a1 dN ky bk kp op1 cg vv bv kv) H → va_D (fun q : Nat => s.heap.size ≤ q) (ls_W h a dB dZ dN K X V E en se op os oc la ks kl ko nk nr nv ne ++ ml_W g a1 dN ky bk kp op1 cg vv bv kv) → va_S (fun q : Nat => s.heap.size ≤ q) s.heap H locs → W p l e room_1 s m #[Value.ref b] below meth c H locs 600000 7290000 (lw_Z below #[Value.ref b] s) (F0 m 384 ls [])) : W p l e room_1 s m #[Value.ref b] below meth c H locs 600000 7290000 (lw_Z below #[Value.ref b] s) (F0 m 286 ls []) := by
  obtain ⟨hx, hb, hr, hml, hown, hts0, hX, hbl, hlocks, hgv⟩ := id C0
  have hts : ∀ w ∈ lw_all, w.before #[Value.ref b] s = true := fun w hw => hts0 w (lw_all_tbl hw)
  have S : CallFix p m c cL_law 4 s #[Value.ref b] lw_all R_law := ⟨hx, hb, hml, hown, hts⟩
  have hA : ∀ q : Nat, s.heap.size ≤ q → (fun q : Nat => s.heap.size ≤ q) q := fun _ hq => hq
  refine lv_aload_n hx hb dL_law_286 rfl (lv_at hl 1 rfl) ?_
  refine lv_aload_n hx hb dL_law_287 rfl (lv_at hl 0 rfl) ?_
  refine lv_iload_n hx hb dL_law_288 rfl (lv_at hl 3 rfl) ?_
  refine lv_iconst (v := nI 1) hx hb dL_law_289 (by decide) ?_
  refine lv_iadd hx hb dL_law_290 ?_
  rw [show ((nI i) + (nI 1) : Int32) = nI (i + 1) from nI_add i 1]
  refine lw_sld hx hb hX hbl (Nat.not_le.mpr hbl) hS (show i + 1 < L by omega) (by omega) dL_law_291 ?_
  have hPc := hP.sub (ws' := ls_W h a dB dZ dN K X V E en se op os oc la ks kl ko nk nr nv ne) [0, 1, 2, 3, 4, 5, 6, 7, 8, 9, 10, 11, 12] rfl
  refine ls_rV (ci := 0) S hK hPc (mt_next (k := xs (i + 1)) hQ) (cwV 1 hts (lw_V q145 q146 q147 q12 q148) rfl rfl rfl (by decide +kernel) ⟨Nat.le_of_ble_eq_true rfl, Nat.le_of_ble_eq_true rfl⟩) rfl rfl rfl hl.1 rfl (Nat.le_of_ble_eq_true rfl) dL_law_292 ⟨Nat.le_refl _, Nat.le_refl _⟩ (fun rX eX => ?_)
  refine lv_aload_n hx hb dL_law_295 rfl (lv_at hl 2 rfl) ?_
  refine lv_aload_n hx hb dL_law_296 rfl (lv_at hl 0 rfl) ?_
  refine lv_iload_n hx hb dL_law_297 rfl (lv_at hl 3 rfl) ?_
  refine lv_iconst (v := nI 1) hx hb dL_law_298 (by decide) ?_
  refine lv_iadd hx hb dL_law_299 ?_
  rw [show ((nI i) + (nI 1) : Int32) = nI (i + 1) from nI_add i 1]
  refine lw_sld hx hb hX hbl (Nat.not_le.mpr hbl) hS (show i + 1 < L by omega) (by omega) dL_law_300 ?_
  have hPc := hP.sub (ws' := ml_W g a1 dN ky bk kp op1 cg vv bv kv) [13, 14, 15, 16] rfl
  refine ls_rV (ci := 1) S hK hPc (mt1_next (k := xs (i + 1)) hM) (cwV 1 hts (lw_V q261 q262 q263 q13 q264) rfl rfl rfl (by decide +kernel) ⟨Nat.le_of_ble_eq_true rfl, Nat.le_of_ble_eq_true rfl⟩) rfl rfl rfl hl.1 rfl (Nat.le_of_ble_eq_true rfl) dL_law_301 ⟨Nat.le_refl _, Nat.le_refl _⟩ (fun rM eM => ?_)
  refine lv_icmp_eq (tgt := 384) hx hb dL_law_304 (by decide) (fun c1 => ?_) (fun c1 => ?_)
  · exact kk _ _ _ _ _ _ _ _ _ _ _ _ _ _ _ _ _ _ _ _ _ _ _ _ _ _ _ _ _ _ H locs hQ hM hP hD hS
  · exact absurd (ls_nx_u eX eM) c1
set_option maxHeartbeats 4000000 in
set_option maxRecDepth 100000 in
/-- the law's case 11: count -/
theorem lc_count (C0 : lw_At p s m meth c b L xs) (hL : L ≤ 192) (hi : i + 3 ≤ L) (hK : va_K (dC, dI) ls_C (ls_T dB dZ dN) s) {K X V E : Nat → Int32} {en se op os oc : Int32} {la ks kl ko nk nr nv ne : Nat → Int32} {ky bk kp op1 cg : Int32} {vv bv kv : Nat → Int32} {cu ba sa : Nat → Option Int32} {o : Bool} {ch : Int32} {H : Heap} {locs : List Loc} {ls : Array Slot} (hQ : ls_R 96 K X V E la en se op os oc cu ba sa o ch) (hM : ml_R ky bk kp op1 cg vv bv kv cu ba sa o ch) (hP : va_P (dC, dI) ls_C (ls_W h a dB dZ dN K X V E en se op os oc la ks kl ko nk nr nv ne ++ ml_W g a1 dN ky bk kp op1 cg vv bv kv) H) (hD : va_D (fun q : Nat => s.heap.size ≤ q) (ls_W h a dB dZ dN K X V E en se op os oc la ks kl ko nk nr nv ne ++ ml_W g a1 dN ky bk kp op1 cg vv bv kv)) (hS : va_S (fun q : Nat => s.heap.size ≤ q) s.heap H locs) (hl : lv_has ls 4 [(0, .ref b), (1, .ref h), (2, .ref g), (3, .int (nI i))])
    (kk : ∀ (K X V E : Nat → Int32) (en se op os oc : Int32) (la ks kl ko nk nr nv ne : Nat → Int32) (ky bk kp op1 cg : Int32) (vv bv kv : Nat → Int32) (cu ba sa : Nat → Option Int32) (o : Bool) (ch : Int32) (H : Heap) (locs : List Loc), ls_R 96 K X V E la en se op os oc cu ba sa o ch → ml_R ky bk kp op1 cg vv bv kv cu ba sa o ch → va_P (dC, dI) ls_C (ls_W h a dB dZ dN K X V E en se op os oc la ks kl ko nk nr nv ne ++ ml_W g a1 dN ky bk kp op1 cg vv bv kv) H → va_D (fun q : Nat => s.heap.size ≤ q) (ls_W h a dB dZ dN K X V E en se op os oc la ks kl ko nk nr nv ne ++ ml_W g a1 dN ky bk kp op1 cg vv bv kv) → va_S (fun q : Nat => s.heap.size ≤ q) s.heap H locs → W p l e room_1 s m #[Value.ref b] below meth c H locs 600000 7290000 (lw_Z below #[Value.ref b] s) (F0 m 384 ls [])) : W p l e room_1 s m #[Value.ref b] below meth c H locs 600000 7290000 (lw_Z below #[Value.ref b] s) (F0 m 309 ls []) := by
  obtain ⟨hx, hb, hr, hml, hown, hts0, hX, hbl, hlocks, hgv⟩ := id C0
  have hts : ∀ w ∈ lw_all, w.before #[Value.ref b] s = true := fun w hw => hts0 w (lw_all_tbl hw)
  have S : CallFix p m c cL_law 4 s #[Value.ref b] lw_all R_law := ⟨hx, hb, hml, hown, hts⟩
  have hA : ∀ q : Nat, s.heap.size ≤ q → (fun q : Nat => s.heap.size ≤ q) q := fun _ hq => hq
  refine lv_aload_n hx hb dL_law_309 rfl (lv_at hl 1 rfl) ?_
  have hPc := hP.sub (ws' := ls_W h a dB dZ dN K X V E en se op os oc la ks kl ko nk nr nv ne) [0, 1, 2, 3, 4, 5, 6, 7, 8, 9, 10, 11, 12] rfl
  refine ls_rV (ci := 0) S hK hPc (mt_count hQ) (cwV 0 hts (lw_V q149 q150 q151 q12 q152) rfl rfl rfl (by decide +kernel) ⟨Nat.le_of_ble_eq_true rfl, Nat.le_of_ble_eq_true rfl⟩) rfl rfl rfl hl.1 rfl (Nat.le_of_ble_eq_true rfl) dL_law_310 ⟨Nat.le_refl _, Nat.le_refl _⟩ (fun rX eX => ?_)
  subst eX
  refine lv_aload_n hx hb dL_law_313 rfl (lv_at hl 2 rfl) ?_
  have hPc := hP.sub (ws' := ml_W g a1 dN ky bk kp op1 cg vv bv kv) [13, 14, 15, 16] rfl
  refine ls_rV (ci := 1) S hK hPc (mt1_count hM) (cwV 0 hts (lw_V q265 q266 q267 q13 q268) rfl rfl rfl (by decide +kernel) ⟨Nat.le_of_ble_eq_true rfl, Nat.le_of_ble_eq_true rfl⟩) rfl rfl rfl hl.1 rfl (Nat.le_of_ble_eq_true rfl) dL_law_314 ⟨Nat.le_refl _, Nat.le_refl _⟩ (fun rM eM => ?_)
  subst eM
  refine lv_icmp_eq (tgt := 384) hx hb dL_law_317 (by decide) (fun c1 => ?_) (fun c1 => ?_)
  · exact kk _ _ _ _ _ _ _ _ _ _ _ _ _ _ _ _ _ _ _ _ _ _ _ _ _ _ _ _ _ _ H locs hQ hM hP hD hS
  · exact absurd rfl c1
set_option maxHeartbeats 4000000 in
set_option maxRecDepth 100000 in
/-- the law's case 12: safeKeys -/
theorem lc_safeKeys (C0 : lw_At p s m meth c b L xs) (hL : L ≤ 192) (hi : i + 3 ≤ L) (hK : va_K (dC, dI) ls_C (ls_T dB dZ dN) s) {K X V E : Nat → Int32} {en se op os oc : Int32} {la ks kl ko nk nr nv ne : Nat → Int32} {ky bk kp op1 cg : Int32} {vv bv kv : Nat → Int32} {cu ba sa : Nat → Option Int32} {o : Bool} {ch : Int32} {H : Heap} {locs : List Loc} {ls : Array Slot} (hQ : ls_R 96 K X V E la en se op os oc cu ba sa o ch) (hM : ml_R ky bk kp op1 cg vv bv kv cu ba sa o ch) (hP : va_P (dC, dI) ls_C (ls_W h a dB dZ dN K X V E en se op os oc la ks kl ko nk nr nv ne ++ ml_W g a1 dN ky bk kp op1 cg vv bv kv) H) (hD : va_D (fun q : Nat => s.heap.size ≤ q) (ls_W h a dB dZ dN K X V E en se op os oc la ks kl ko nk nr nv ne ++ ml_W g a1 dN ky bk kp op1 cg vv bv kv)) (hS : va_S (fun q : Nat => s.heap.size ≤ q) s.heap H locs) (hl : lv_has ls 4 [(0, .ref b), (1, .ref h), (2, .ref g), (3, .int (nI i))])
    (kk : ∀ (K X V E : Nat → Int32) (en se op os oc : Int32) (la ks kl ko nk nr nv ne : Nat → Int32) (ky bk kp op1 cg : Int32) (vv bv kv : Nat → Int32) (cu ba sa : Nat → Option Int32) (o : Bool) (ch : Int32) (H : Heap) (locs : List Loc), ls_R 96 K X V E la en se op os oc cu ba sa o ch → ml_R ky bk kp op1 cg vv bv kv cu ba sa o ch → va_P (dC, dI) ls_C (ls_W h a dB dZ dN K X V E en se op os oc la ks kl ko nk nr nv ne ++ ml_W g a1 dN ky bk kp op1 cg vv bv kv) H → va_D (fun q : Nat => s.heap.size ≤ q) (ls_W h a dB dZ dN K X V E en se op os oc la ks kl ko nk nr nv ne ++ ml_W g a1 dN ky bk kp op1 cg vv bv kv) → va_S (fun q : Nat => s.heap.size ≤ q) s.heap H locs → W p l e room_1 s m #[Value.ref b] below meth c H locs 600000 7290000 (lw_Z below #[Value.ref b] s) (F0 m 384 ls [])) : W p l e room_1 s m #[Value.ref b] below meth c H locs 600000 7290000 (lw_Z below #[Value.ref b] s) (F0 m 322 ls []) := by
  obtain ⟨hx, hb, hr, hml, hown, hts0, hX, hbl, hlocks, hgv⟩ := id C0
  have hts : ∀ w ∈ lw_all, w.before #[Value.ref b] s = true := fun w hw => hts0 w (lw_all_tbl hw)
  have S : CallFix p m c cL_law 4 s #[Value.ref b] lw_all R_law := ⟨hx, hb, hml, hown, hts⟩
  have hA : ∀ q : Nat, s.heap.size ≤ q → (fun q : Nat => s.heap.size ≤ q) q := fun _ hq => hq
  refine lv_aload_n hx hb dL_law_322 rfl (lv_at hl 1 rfl) ?_
  have hPc := hP.sub (ws' := ls_W h a dB dZ dN K X V E en se op os oc la ks kl ko nk nr nv ne) [0, 1, 2, 3, 4, 5, 6, 7, 8, 9, 10, 11, 12] rfl
  refine ls_rV (ci := 0) S hK hPc (mt_safeKeys hQ) (cwV 0 hts (lw_V q153 q154 q155 q12 q156) rfl rfl rfl (by decide +kernel) ⟨Nat.le_of_ble_eq_true rfl, Nat.le_of_ble_eq_true rfl⟩) rfl rfl rfl hl.1 rfl (Nat.le_of_ble_eq_true rfl) dL_law_323 ⟨Nat.le_refl _, Nat.le_refl _⟩ (fun rX eX => ?_)
  refine lv_aload_n hx hb dL_law_326 rfl (lv_at hl 2 rfl) ?_
  have hPc := hP.sub (ws' := ml_W g a1 dN ky bk kp op1 cg vv bv kv) [13, 14, 15, 16] rfl
  refine ls_rV (ci := 1) S hK hPc (mt1_safeKeys hM) (cwV 0 hts (lw_V q269 q270 q271 q13 q272) rfl rfl rfl (by decide +kernel) ⟨Nat.le_of_ble_eq_true rfl, Nat.le_of_ble_eq_true rfl⟩) rfl rfl rfl hl.1 rfl (Nat.le_of_ble_eq_true rfl) dL_law_327 ⟨Nat.le_refl _, Nat.le_refl _⟩ (fun rM eM => ?_)
  refine lv_icmp_eq (tgt := 384) hx hb dL_law_330 (by decide) (fun c1 => ?_) (fun c1 => ?_)
  · exact kk _ _ _ _ _ _ _ _ _ _ _ _ _ _ _ _ _ _ _ _ _ _ _ _ _ _ _ _ _ _ H locs hQ hM hP hD hS
  · exact absurd (ls_mk_u eX eM) c1
set_option maxHeartbeats 4000000 in
set_option maxRecDepth 100000 in
/-- the law's case 13: safeValue -/
theorem lc_safeValue (C0 : lw_At p s m meth c b L xs) (hL : L ≤ 192) (hi : i + 3 ≤ L) (hK : va_K (dC, dI) ls_C (ls_T dB dZ dN) s) {K X V E : Nat → Int32} {en se op os oc : Int32} {la ks kl ko nk nr nv ne : Nat → Int32} {ky bk kp op1 cg : Int32} {vv bv kv : Nat → Int32} {cu ba sa : Nat → Option Int32} {o : Bool} {ch : Int32} {H : Heap} {locs : List Loc} {ls : Array Slot} (hQ : ls_R 96 K X V E la en se op os oc cu ba sa o ch) (hM : ml_R ky bk kp op1 cg vv bv kv cu ba sa o ch) (hP : va_P (dC, dI) ls_C (ls_W h a dB dZ dN K X V E en se op os oc la ks kl ko nk nr nv ne ++ ml_W g a1 dN ky bk kp op1 cg vv bv kv) H) (hD : va_D (fun q : Nat => s.heap.size ≤ q) (ls_W h a dB dZ dN K X V E en se op os oc la ks kl ko nk nr nv ne ++ ml_W g a1 dN ky bk kp op1 cg vv bv kv)) (hS : va_S (fun q : Nat => s.heap.size ≤ q) s.heap H locs) (hl : lv_has ls 4 [(0, .ref b), (1, .ref h), (2, .ref g), (3, .int (nI i))])
    (kk : ∀ (K X V E : Nat → Int32) (en se op os oc : Int32) (la ks kl ko nk nr nv ne : Nat → Int32) (ky bk kp op1 cg : Int32) (vv bv kv : Nat → Int32) (cu ba sa : Nat → Option Int32) (o : Bool) (ch : Int32) (H : Heap) (locs : List Loc), ls_R 96 K X V E la en se op os oc cu ba sa o ch → ml_R ky bk kp op1 cg vv bv kv cu ba sa o ch → va_P (dC, dI) ls_C (ls_W h a dB dZ dN K X V E en se op os oc la ks kl ko nk nr nv ne ++ ml_W g a1 dN ky bk kp op1 cg vv bv kv) H → va_D (fun q : Nat => s.heap.size ≤ q) (ls_W h a dB dZ dN K X V E en se op os oc la ks kl ko nk nr nv ne ++ ml_W g a1 dN ky bk kp op1 cg vv bv kv) → va_S (fun q : Nat => s.heap.size ≤ q) s.heap H locs → W p l e room_1 s m #[Value.ref b] below meth c H locs 600000 7290000 (lw_Z below #[Value.ref b] s) (F0 m 384 ls [])) : W p l e room_1 s m #[Value.ref b] below meth c H locs 600000 7290000 (lw_Z below #[Value.ref b] s) (F0 m 335 ls []) := by
  obtain ⟨hx, hb, hr, hml, hown, hts0, hX, hbl, hlocks, hgv⟩ := id C0
  have hts : ∀ w ∈ lw_all, w.before #[Value.ref b] s = true := fun w hw => hts0 w (lw_all_tbl hw)
  have S : CallFix p m c cL_law 4 s #[Value.ref b] lw_all R_law := ⟨hx, hb, hml, hown, hts⟩
  have hA : ∀ q : Nat, s.heap.size ≤ q → (fun q : Nat => s.heap.size ≤ q) q := fun _ hq => hq
  refine lv_aload_n hx hb dL_law_335 rfl (lv_at hl 1 rfl) ?_
  refine lv_aload_n hx hb dL_law_336 rfl (lv_at hl 0 rfl) ?_
  refine lv_iload_n hx hb dL_law_337 rfl (lv_at hl 3 rfl) ?_
  refine lv_iconst (v := nI 1) hx hb dL_law_338 (by decide) ?_
  refine lv_iadd hx hb dL_law_339 ?_
  rw [show ((nI i) + (nI 1) : Int32) = nI (i + 1) from nI_add i 1]
  refine lw_sld hx hb hX hbl (Nat.not_le.mpr hbl) hS (show i + 1 < L by omega) (by omega) dL_law_340 ?_
  have hPc := hP.sub (ws' := ls_W h a dB dZ dN K X V E en se op os oc la ks kl ko nk nr nv ne) [0, 1, 2, 3, 4, 5, 6, 7, 8, 9, 10, 11, 12] rfl
  refine ls_rV (ci := 0) S hK hPc (mt_safeValue (k := xs (i + 1)) hQ) (cwV 1 hts (lw_V q157 q158 q159 q12 q160) rfl rfl rfl (by decide +kernel) ⟨Nat.le_of_ble_eq_true rfl, Nat.le_of_ble_eq_true rfl⟩) rfl rfl rfl hl.1 rfl (Nat.le_of_ble_eq_true rfl) dL_law_341 ⟨Nat.le_refl _, Nat.le_refl _⟩ (fun rX eX => ?_)
  subst eX
  refine lv_aload_n hx hb dL_law_344 rfl (lv_at hl 2 rfl) ?_
  refine lv_aload_n hx hb dL_law_345 rfl (lv_at hl 0 rfl) ?_
  refine lv_iload_n hx hb dL_law_346 rfl (lv_at hl 3 rfl) ?_
  refine lv_iconst (v := nI 1) hx hb dL_law_347 (by decide) ?_
  refine lv_iadd hx hb dL_law_348 ?_
  rw [show ((nI i) + (nI 1) : Int32) = nI (i + 1) from nI_add i 1]
  refine lw_sld hx hb hX hbl (Nat.not_le.mpr hbl) hS (show i + 1 < L by omega) (by omega) dL_law_349 ?_
  have hPc := hP.sub (ws' := ml_W g a1 dN ky bk kp op1 cg vv bv kv) [13, 14, 15, 16] rfl
  refine ls_rV (ci := 1) S hK hPc (mt1_safeValue (k := xs (i + 1)) hM) (cwV 1 hts (lw_V q273 q274 q275 q13 q276) rfl rfl rfl (by decide +kernel) ⟨Nat.le_of_ble_eq_true rfl, Nat.le_of_ble_eq_true rfl⟩) rfl rfl rfl hl.1 rfl (Nat.le_of_ble_eq_true rfl) dL_law_350 ⟨Nat.le_refl _, Nat.le_refl _⟩ (fun rM eM => ?_)
  subst eM
  refine lv_icmp_eq (tgt := 384) hx hb dL_law_353 (by decide) (fun c1 => ?_) (fun c1 => ?_)
  · exact kk _ _ _ _ _ _ _ _ _ _ _ _ _ _ _ _ _ _ _ _ _ _ _ _ _ _ _ _ _ _ H locs hQ hM hP hD hS
  · exact absurd rfl c1
set_option maxHeartbeats 4000000 in
set_option maxRecDepth 100000 in
/-- the law's case 14: uns -/
theorem lc_uns (C0 : lw_At p s m meth c b L xs) (hL : L ≤ 192) (hi : i + 3 ≤ L) (hK : va_K (dC, dI) ls_C (ls_T dB dZ dN) s) {K X V E : Nat → Int32} {en se op os oc : Int32} {la ks kl ko nk nr nv ne : Nat → Int32} {ky bk kp op1 cg : Int32} {vv bv kv : Nat → Int32} {cu ba sa : Nat → Option Int32} {o : Bool} {ch : Int32} {H : Heap} {locs : List Loc} {ls : Array Slot} (hQ : ls_R 96 K X V E la en se op os oc cu ba sa o ch) (hM : ml_R ky bk kp op1 cg vv bv kv cu ba sa o ch) (hP : va_P (dC, dI) ls_C (ls_W h a dB dZ dN K X V E en se op os oc la ks kl ko nk nr nv ne ++ ml_W g a1 dN ky bk kp op1 cg vv bv kv) H) (hD : va_D (fun q : Nat => s.heap.size ≤ q) (ls_W h a dB dZ dN K X V E en se op os oc la ks kl ko nk nr nv ne ++ ml_W g a1 dN ky bk kp op1 cg vv bv kv)) (hS : va_S (fun q : Nat => s.heap.size ≤ q) s.heap H locs) (hl : lv_has ls 4 [(0, .ref b), (1, .ref h), (2, .ref g), (3, .int (nI i))])
    (kk : ∀ (K X V E : Nat → Int32) (en se op os oc : Int32) (la ks kl ko nk nr nv ne : Nat → Int32) (ky bk kp op1 cg : Int32) (vv bv kv : Nat → Int32) (cu ba sa : Nat → Option Int32) (o : Bool) (ch : Int32) (H : Heap) (locs : List Loc), ls_R 96 K X V E la en se op os oc cu ba sa o ch → ml_R ky bk kp op1 cg vv bv kv cu ba sa o ch → va_P (dC, dI) ls_C (ls_W h a dB dZ dN K X V E en se op os oc la ks kl ko nk nr nv ne ++ ml_W g a1 dN ky bk kp op1 cg vv bv kv) H → va_D (fun q : Nat => s.heap.size ≤ q) (ls_W h a dB dZ dN K X V E en se op os oc la ks kl ko nk nr nv ne ++ ml_W g a1 dN ky bk kp op1 cg vv bv kv) → va_S (fun q : Nat => s.heap.size ≤ q) s.heap H locs → W p l e room_1 s m #[Value.ref b] below meth c H locs 600000 7290000 (lw_Z below #[Value.ref b] s) (F0 m 384 ls [])) : W p l e room_1 s m #[Value.ref b] below meth c H locs 600000 7290000 (lw_Z below #[Value.ref b] s) (F0 m 358 ls []) := by
  obtain ⟨hx, hb, hr, hml, hown, hts0, hX, hbl, hlocks, hgv⟩ := id C0
  have hts : ∀ w ∈ lw_all, w.before #[Value.ref b] s = true := fun w hw => hts0 w (lw_all_tbl hw)
  have S : CallFix p m c cL_law 4 s #[Value.ref b] lw_all R_law := ⟨hx, hb, hml, hown, hts⟩
  have hA : ∀ q : Nat, s.heap.size ≤ q → (fun q : Nat => s.heap.size ≤ q) q := fun _ hq => hq
  refine lv_aload_n hx hb dL_law_358 rfl (lv_at hl 1 rfl) ?_
  have hPc := hP.sub (ws' := ls_W h a dB dZ dN K X V E en se op os oc la ks kl ko nk nr nv ne) [0, 1, 2, 3, 4, 5, 6, 7, 8, 9, 10, 11, 12] rfl
  refine ls_rV (ci := 0) S hK hPc (mt_uns hQ) (cwV 0 hts (lw_V q161 q162 q163 q12 q164) rfl rfl rfl (by decide +kernel) ⟨Nat.le_of_ble_eq_true rfl, Nat.le_of_ble_eq_true rfl⟩) rfl rfl rfl hl.1 rfl (Nat.le_of_ble_eq_true rfl) dL_law_359 ⟨Nat.le_refl _, Nat.le_refl _⟩ (fun rX eX => ?_)
  refine lv_aload_n hx hb dL_law_362 rfl (lv_at hl 2 rfl) ?_
  have hPc := hP.sub (ws' := ml_W g a1 dN ky bk kp op1 cg vv bv kv) [13, 14, 15, 16] rfl
  refine ls_rV (ci := 1) S hK hPc (mt1_uns hM) (cwV 0 hts (lw_V q277 q278 q279 q13 q280) rfl rfl rfl (by decide +kernel) ⟨Nat.le_of_ble_eq_true rfl, Nat.le_of_ble_eq_true rfl⟩) rfl rfl rfl hl.1 rfl (Nat.le_of_ble_eq_true rfl) dL_law_363 ⟨Nat.le_refl _, Nat.le_refl _⟩ (fun rM eM => ?_)
  refine lv_icmp_eq (tgt := 384) hx hb dL_law_366 (by decide) (fun c1 => ?_) (fun c1 => ?_)
  · exact kk _ _ _ _ _ _ _ _ _ _ _ _ _ _ _ _ _ _ _ _ _ _ _ _ _ _ _ _ _ _ H locs hQ hM hP hD hS
  · exact absurd (ls_mk_u eX eM) c1
set_option maxHeartbeats 4000000 in
set_option maxRecDepth 100000 in
/-- the law's case 15: pending -/
theorem lc_pending (C0 : lw_At p s m meth c b L xs) (hL : L ≤ 192) (hi : i + 3 ≤ L) (hK : va_K (dC, dI) ls_C (ls_T dB dZ dN) s) {K X V E : Nat → Int32} {en se op os oc : Int32} {la ks kl ko nk nr nv ne : Nat → Int32} {ky bk kp op1 cg : Int32} {vv bv kv : Nat → Int32} {cu ba sa : Nat → Option Int32} {o : Bool} {ch : Int32} {H : Heap} {locs : List Loc} {ls : Array Slot} (hQ : ls_R 96 K X V E la en se op os oc cu ba sa o ch) (hM : ml_R ky bk kp op1 cg vv bv kv cu ba sa o ch) (hP : va_P (dC, dI) ls_C (ls_W h a dB dZ dN K X V E en se op os oc la ks kl ko nk nr nv ne ++ ml_W g a1 dN ky bk kp op1 cg vv bv kv) H) (hD : va_D (fun q : Nat => s.heap.size ≤ q) (ls_W h a dB dZ dN K X V E en se op os oc la ks kl ko nk nr nv ne ++ ml_W g a1 dN ky bk kp op1 cg vv bv kv)) (hS : va_S (fun q : Nat => s.heap.size ≤ q) s.heap H locs) (hl : lv_has ls 4 [(0, .ref b), (1, .ref h), (2, .ref g), (3, .int (nI i))])
    (kk : ∀ (K X V E : Nat → Int32) (en se op os oc : Int32) (la ks kl ko nk nr nv ne : Nat → Int32) (ky bk kp op1 cg : Int32) (vv bv kv : Nat → Int32) (cu ba sa : Nat → Option Int32) (o : Bool) (ch : Int32) (H : Heap) (locs : List Loc), ls_R 96 K X V E la en se op os oc cu ba sa o ch → ml_R ky bk kp op1 cg vv bv kv cu ba sa o ch → va_P (dC, dI) ls_C (ls_W h a dB dZ dN K X V E en se op os oc la ks kl ko nk nr nv ne ++ ml_W g a1 dN ky bk kp op1 cg vv bv kv) H → va_D (fun q : Nat => s.heap.size ≤ q) (ls_W h a dB dZ dN K X V E en se op os oc la ks kl ko nk nr nv ne ++ ml_W g a1 dN ky bk kp op1 cg vv bv kv) → va_S (fun q : Nat => s.heap.size ≤ q) s.heap H locs → W p l e room_1 s m #[Value.ref b] below meth c H locs 600000 7290000 (lw_Z below #[Value.ref b] s) (F0 m 384 ls [])) : W p l e room_1 s m #[Value.ref b] below meth c H locs 600000 7290000 (lw_Z below #[Value.ref b] s) (F0 m 371 ls []) := by
  obtain ⟨hx, hb, hr, hml, hown, hts0, hX, hbl, hlocks, hgv⟩ := id C0
  have hts : ∀ w ∈ lw_all, w.before #[Value.ref b] s = true := fun w hw => hts0 w (lw_all_tbl hw)
  have S : CallFix p m c cL_law 4 s #[Value.ref b] lw_all R_law := ⟨hx, hb, hml, hown, hts⟩
  have hA : ∀ q : Nat, s.heap.size ≤ q → (fun q : Nat => s.heap.size ≤ q) q := fun _ hq => hq
  refine lv_aload_n hx hb dL_law_371 rfl (lv_at hl 1 rfl) ?_
  have hPc := hP.sub (ws' := ls_W h a dB dZ dN K X V E en se op os oc la ks kl ko nk nr nv ne) [0, 1, 2, 3, 4, 5, 6, 7, 8, 9, 10, 11, 12] rfl
  refine ls_rV (ci := 0) S hK hPc (mt_pending hQ) (cwV 0 hts (lw_V q169 q170 q171 q12 q172) rfl rfl rfl (by decide +kernel) ⟨Nat.le_of_ble_eq_true rfl, Nat.le_of_ble_eq_true rfl⟩) rfl rfl rfl hl.1 rfl (Nat.le_of_ble_eq_true rfl) dL_law_372 ⟨Nat.le_refl _, Nat.le_refl _⟩ (fun rX eX => ?_)
  subst eX
  refine lv_aload_n hx hb dL_law_375 rfl (lv_at hl 2 rfl) ?_
  have hPc := hP.sub (ws' := ml_W g a1 dN ky bk kp op1 cg vv bv kv) [13, 14, 15, 16] rfl
  refine ls_rV (ci := 1) S hK hPc (mt1_pending hM) (cwV 0 hts (lw_V q281 q282 q283 q13 q284) rfl rfl rfl (by decide +kernel) ⟨Nat.le_of_ble_eq_true rfl, Nat.le_of_ble_eq_true rfl⟩) rfl rfl rfl hl.1 rfl (Nat.le_of_ble_eq_true rfl) dL_law_376 ⟨Nat.le_refl _, Nat.le_refl _⟩ (fun rM eM => ?_)
  subst eM
  refine lv_icmp_eq (tgt := 384) hx hb dL_law_379 (by decide) (fun c1 => ?_) (fun c1 => ?_)
  · exact kk _ _ _ _ _ _ _ _ _ _ _ _ _ _ _ _ _ _ _ _ _ _ _ _ _ _ _ _ _ _ H locs hQ hM hP hD hS
  · exact absurd rfl c1
end
end
section
set_option maxRecDepth 100000
theorem lw_cnd {L i : Nat} (hL : L ≤ 192) (hi : i ≤ L) (h : ¬ nI L - nI 3 < nI i) : i + 3 ≤ L := by
  rw [Int32.lt_iff_toInt_lt, pk_sub_toInt (by omega) (by omega), nI_toInt (by omega)] at h
  omega
set_option maxHeartbeats 4000000 in
set_option maxRecDepth 100000 in
/-- the law's loop: both objects represent one state -/
theorem law_loop {p : Program} {l : Launch} {e : Env} {s : State} {m : MethodId} {below : List Frame} {meth : Method} {c : Code} {dC : Nat → ClassId} {dI : Nat → Nat → Nat} {dB dZ dN : ClassId} {h g b L : Nat} {a a1 : Nat → Nat} {xs : Nat → Int32} (C0 : lw_At p s m meth c b L xs) (hL : L ≤ 192) (hK : va_K (dC, dI) ls_C (ls_T dB dZ dN) s) :
    ∀ (f i : Nat) (K X V E : Nat → Int32) (en se op os oc : Int32) (la ks kl ko nk nr nv ne : Nat → Int32) (ky bk kp op1 cg : Int32) (vv bv kv : Nat → Int32) (cu ba sa : Nat → Option Int32) (o : Bool) (ch : Int32) (H : Heap) (locs : List Loc) (ls : Array Slot), i ≤ L → L < i + f → ls_R 96 K X V E la en se op os oc cu ba sa o ch → ml_R ky bk kp op1 cg vv bv kv cu ba sa o ch → va_P (dC, dI) ls_C (ls_W h a dB dZ dN K X V E en se op os oc la ks kl ko nk nr nv ne ++ ml_W g a1 dN ky bk kp op1 cg vv bv kv) H → va_D (fun q : Nat => s.heap.size ≤ q) (ls_W h a dB dZ dN K X V E en se op os oc la ks kl ko nk nr nv ne ++ ml_W g a1 dN ky bk kp op1 cg vv bv kv) → va_S (fun q : Nat => s.heap.size ≤ q) s.heap H locs → lv_has ls 4 [(0, .ref b), (1, .ref h), (2, .ref g), (3, .int (nI i))] → W p l e room_1 s m #[Value.ref b] below meth c H locs 600000 7290000 (lw_Z below #[Value.ref b] s) (F0 m 18 ls []) := by
  obtain ⟨hx, hb, hr, hml, hown, hts0, hX, hbl, hlocks, hgv⟩ := id C0
  intro f
  induction f with
  | zero => intro i; intros; omega
  | succ f ih =>
    intro i K X V E en se op os oc la ks kl ko nk nr nv ne ky bk kp op1 cg vv bv kv cu ba sa o ch H locs ls h1 h2 hQ hM hP hD hS hl
    refine lv_iload_n hx hb dL_law_18 rfl (lv_at hl 3 rfl) ?_
    refine lv_aload_n hx hb dL_law_19 rfl (lv_at hl 0 rfl) ?_
    refine va_slen hx hb hX hbl (Nat.not_le.mpr hbl) hS dL_law_20 ?_
    refine W.eq (g2 := F0 m 21 ls [.int (nI L), .int (nI i)]) rfl ?_
    refine lv_iconst (v := nI 3) hx hb dL_law_21 (by decide) ?_
    refine lv_isub hx hb dL_law_22 ?_
    refine lv_icmp_gt (tgt := 390) hx hb dL_law_23 (by decide) (fun c1 => ?_) (fun c1 => ?_)
    · skip
      refine lv_iconst (v := 1) hx hb dL_law_390 (by decide) ?_
      exact va_forget (fun q hq => hS.2.2 q hq) (lw_ret hx hb hr hlocks dL_law_391)
    · have hi := lw_cnd hL h1 c1
      have kk : ∀ (K X V E : Nat → Int32) (en se op os oc : Int32) (la ks kl ko nk nr nv ne : Nat → Int32) (ky bk kp op1 cg : Int32) (vv bv kv : Nat → Int32) (cu ba sa : Nat → Option Int32) (o : Bool) (ch : Int32) (H : Heap) (locs : List Loc), ls_R 96 K X V E la en se op os oc cu ba sa o ch → ml_R ky bk kp op1 cg vv bv kv cu ba sa o ch → va_P (dC, dI) ls_C (ls_W h a dB dZ dN K X V E en se op os oc la ks kl ko nk nr nv ne ++ ml_W g a1 dN ky bk kp op1 cg vv bv kv) H → va_D (fun q : Nat => s.heap.size ≤ q) (ls_W h a dB dZ dN K X V E en se op os oc la ks kl ko nk nr nv ne ++ ml_W g a1 dN ky bk kp op1 cg vv bv kv) → va_S (fun q : Nat => s.heap.size ≤ q) s.heap H locs → W p l e room_1 s m #[Value.ref b] below meth c H locs 600000 7290000 (lw_Z below #[Value.ref b] s) (F0 m 384 ls []) := by
        intro K X V E en se op os oc la ks kl ko nk nr nv ne ky bk kp op1 cg vv bv kv cu ba sa o ch H locs hQ hM hP hD hS
        refine lv_iinc (v := nI (i + 3)) (lv' := [(3, .int (nI (i + 3))), (0, .ref b), (1, .ref h), (2, .ref g)]) hx hb dL_law_384 hl (k := 3) rfl (nI_add i 3) (by decide) rfl (fun ls hl => ?_)
        refine lv_goto (tgt := 18) hx hb dL_law_387 (by decide) ?_
        exact ih (i + 3) K X V E en se op os oc la ks kl ko nk nr nv ne ky bk kp op1 cg vv bv kv cu ba sa o ch H locs ls (by omega) (by omega) hQ hM hP hD hS (lv_sub hl [1, 2, 3, 0] rfl)
      refine lv_aload_n hx hb dL_law_26 rfl (lv_at hl 0 rfl) ?_
      refine lv_iload_n hx hb dL_law_27 rfl (lv_at hl 3 rfl) ?_
      refine lw_sld hx hb hX hbl (Nat.not_le.mpr hbl) hS (show i < L by omega) (by omega) dL_law_28 ?_
      refine lv_bipush (v := nI 15) hx hb dL_law_29 (by decide) ?_
      refine lv_iand hx hb dL_law_31 ?_
      obtain ⟨k0, hk0, e0⟩ := pk_andE (xs i) (m := nI 15) 4 (by decide)
      rw [e0]
      rcases (show k0 = 0 ∨ k0 = 1 ∨ k0 = 2 ∨ k0 = 3 ∨ k0 = 4 ∨ k0 = 5 ∨ k0 = 6 ∨ k0 = 7 ∨ k0 = 8 ∨ k0 = 9 ∨ k0 = 10 ∨ k0 = 11 ∨ k0 = 12 ∨ k0 = 13 ∨ k0 = 14 ∨ k0 = 15 by omega) with rfl | rfl | rfl | rfl | rfl | rfl | rfl | rfl | rfl | rfl | rfl | rfl | rfl | rfl | rfl | rfl
      · refine lv_tableIn (off := 80) (tgt := 112) hx hb dL_law_32 (by decide) (by decide) (by decide) (by decide) ?_
        exact lc_begin C0 hL hi hK hQ hM hP hD hS hl kk
      · refine lv_tableIn (off := 93) (tgt := 125) hx hb dL_law_32 (by decide) (by decide) (by decide) (by decide) ?_
        exact lc_put C0 hL hi hK hQ hM hP hD hS hl kk
      · refine lv_tableIn (off := 126) (tgt := 158) hx hb dL_law_32 (by decide) (by decide) (by decide) (by decide) ?_
        exact lc_remove C0 hL hi hK hQ hM hP hD hS hl kk
      · refine lv_tableIn (off := 149) (tgt := 181) hx hb dL_law_32 (by decide) (by decide) (by decide) (by decide) ?_
        exact lc_commit C0 hL hi hK hQ hM hP hD hS hl kk
      · refine lv_tableIn (off := 162) (tgt := 194) hx hb dL_law_32 (by decide) (by decide) (by decide) (by decide) ?_
        exact lc_abort C0 hL hi hK hQ hM hP hD hS hl kk
      · refine lv_tableIn (off := 175) (tgt := 207) hx hb dL_law_32 (by decide) (by decide) (by decide) (by decide) ?_
        exact lc_sync C0 hL hi hK hQ hM hP hD hS hl kk
      · refine lv_tableIn (off := 186) (tgt := 218) hx hb dL_law_32 (by decide) (by decide) (by decide) (by decide) ?_
        exact lc_clean C0 hL hi hK hQ hM hP hD hS hl kk
      · refine lv_tableIn (off := 197) (tgt := 229) hx hb dL_law_32 (by decide) (by decide) (by decide) (by decide) ?_
        exact lc_crash C0 hL hi hK hQ hM hP hD hS hl kk
      · refine lv_tableIn (off := 208) (tgt := 240) hx hb dL_law_32 (by decide) (by decide) (by decide) (by decide) ?_
        exact lc_has C0 hL hi hK hQ hM hP hD hS hl kk
      · refine lv_tableIn (off := 231) (tgt := 263) hx hb dL_law_32 (by decide) (by decide) (by decide) (by decide) ?_
        exact lc_get C0 hL hi hK hQ hM hP hD hS hl kk
      · refine lv_tableIn (off := 254) (tgt := 286) hx hb dL_law_32 (by decide) (by decide) (by decide) (by decide) ?_
        exact lc_next C0 hL hi hK hQ hM hP hD hS hl kk
      · refine lv_tableIn (off := 277) (tgt := 309) hx hb dL_law_32 (by decide) (by decide) (by decide) (by decide) ?_
        exact lc_count C0 hL hi hK hQ hM hP hD hS hl kk
      · refine lv_tableIn (off := 290) (tgt := 322) hx hb dL_law_32 (by decide) (by decide) (by decide) (by decide) ?_
        exact lc_safeKeys C0 hL hi hK hQ hM hP hD hS hl kk
      · refine lv_tableIn (off := 303) (tgt := 335) hx hb dL_law_32 (by decide) (by decide) (by decide) (by decide) ?_
        exact lc_safeValue C0 hL hi hK hQ hM hP hD hS hl kk
      · refine lv_tableIn (off := 326) (tgt := 358) hx hb dL_law_32 (by decide) (by decide) (by decide) (by decide) ?_
        exact lc_uns C0 hL hi hK hQ hM hP hD hS hl kk
      · refine lv_tableIn (off := 339) (tgt := 371) hx hb dL_law_32 (by decide) (by decide) (by decide) (by decide) ?_
        exact lc_pending C0 hL hi hK hQ hM hP hD hS hl kk
set_option maxHeartbeats 4000000 in
set_option maxRecDepth 100000 in
/-- the law, from its entry -/
theorem whole_start {p : Program} {e : Env} {s : State} {m : MethodId} {below : List Frame} {meth : Method} {c : Code} (l : Launch) {b L : Nat} {xs : Nat → Int32} (hL : L ≤ 192) (C0 : lw_At p s m meth c b L xs) : W p l e room_1 s m #[Value.ref b] below meth c s.heap [] 0 0 (lw_Z below #[Value.ref b] s) (entryFrame m ([Value.ref b] : List Value).toArray 4) := by
  obtain ⟨hx, hb, hr, hml, hown, hts0, hX, hbl, hlocks, hgv⟩ := id C0
  have hts : ∀ w ∈ lw_all, w.before #[Value.ref b] s = true := fun w hw => hts0 w (lw_all_tbl hw)
  have hA : ∀ q : Nat, s.heap.size ≤ q → (fun q : Nat => s.heap.size ≤ q) q := fun _ hq => hq
  obtain ⟨c0, iS0, hKn0⟩ := u_known (C := RX0) (T := TX0) (N := 17) (n := 17) hts in_X0 (hts _ q15)
  obtain ⟨c1, iS1, hKn1⟩ := u_known (C := RX1) (T := TX1) (N := 8) (n := 8) hts in_X1 (hts _ q174)
  obtain ⟨dC, dI, hKc⟩ : ∃ (dC : Nat → ClassId) (dI : Nat → Nat → Nat), ∀ (k : Nat) (q : vw_C), ls_C[k]? = some q → u_Kn s q.1 q.2.1 q.2.2 (dC k) (dI k) := by
    refine ⟨fun k => if k = 0 then c0 else c1, fun k => if k = 0 then iS0 else iS1, ?_⟩
    intro k q hq
    match k, hq with
    | 0, hq => cases hq; exact hKn0
    | 1, hq => cases hq; exact hKn1
    | k + 2, hq => simp [ls_C] at hq
  have hS : va_S (fun q : Nat => s.heap.size ≤ q) s.heap s.heap [] := va_S.rf
  have hK : va_K (dC, dI) ls_C [] s := ⟨hKc, fun k q hq => by simp at hq⟩
  have hP : va_P (dC, dI) ls_C [] s.heap := fun k q hq => by simp at hq
  have hD : va_D (fun q : Nat => s.heap.size ≤ q) [] := ⟨fun i j p q hq => by simp at hq, fun k q hq => by simp at hq⟩
  have hl := lv_entry ([.ref b]) (n := 4) (Nat.le_of_ble_eq_true rfl)
  rw [lg_entry_eq]
  generalize (lg_sl ([.ref b]) ++ List.replicate (4 - (lg_sl ([.ref b])).length) Slot.unset).toArray = ls at hl ⊢
  have hl : lv_has ls 4 [(0, .ref b)] := hl
  refine va_new (ci := 0) (fs := [.null, .null, .null, .null, .int 0, .int 0, .int 0, .int 0, .int 0, .null, .null, .null, .null, .null, .null, .null, .null]) (C := RX0) (T := TX0) (N := 17) hx hb hts in_X0 tyX0 tyX0_ok hown (hts _ q14) (hts _ q15) (hts _ q12) hK hP hD hS hA rfl (fun j hj => by rcases (show j = 0 ∨ j = 1 ∨ j = 2 ∨ j = 3 ∨ j = 4 ∨ j = 5 ∨ j = 6 ∨ j = 7 ∨ j = 8 ∨ j = 9 ∨ j = 10 ∨ j = 11 ∨ j = 12 ∨ j = 13 ∨ j = 14 ∨ j = 15 ∨ j = 16 by omega) with rfl | rfl | rfl | rfl | rfl | rfl | rfl | rfl | rfl | rfl | rfl | rfl | rfl | rfl | rfl | rfl | rfl <;> rfl) (Nat.le_of_ble_eq_true rfl) (Nat.le_of_ble_eq_true rfl) dL_law_0 (fun h H hP hD hS => ?_)
  have hP : va_P (dC, dI) ls_C [(h, .inr (0, [.null, .null, .null, .null, .int 0, .int 0, .int 0, .int 0, .int 0, .null, .null, .null, .null, .null, .null, .null, .null]))] H := hP
  have hD : va_D (fun q : Nat => s.heap.size ≤ q) [(h, .inr (0, [.null, .null, .null, .null, .int 0, .int 0, .int 0, .int 0, .int 0, .null, .null, .null, .null, .null, .null, .null, .null]))] := hD
  refine W.widen (k := 1) (n := 17) (by omega) (by omega) ?_
  refine lv_dup hx hb dL_law_3 rfl ?_
  have hPc := hP.sub (ws' := [(h, .inr (0, [.null, .null, .null, .null, .int 0, .int 0, .int 0, .int 0, .int 0, .null, .null, .null, .null, .null, .null, .null, .null]))]) [0] rfl
  have hDc := hD.sub (ws' := [(h, .inr (0, [.null, .null, .null, .null, .int 0, .int 0, .int 0, .int 0, .int 0, .null, .null, .null, .null, .null, .null, .null, .null]))]) [0] (by decide) rfl
  have hKc := hK.sub (tys' := []) [] rfl
  have hFc := va_free (wc := [(h, .inr (0, [.null, .null, .null, .null, .int 0, .int 0, .int 0, .int 0, .int 0, .null, .null, .null, .null, .null, .null, .null, .null]))]) hD hS hA [0] rfl
  refine va_callv (va_runI (As := []) (rest := [.ref h]) ⟨hx, hb, hml, hown, hts⟩ (mt_init (l := l) (dC := dC) (dI := dI) (h := h) (sz := H.size)) (cwI 0 hts (lw_meth q18) rfl rfl rfl (hts _ q12) (hts _ q16) (hts _ q17) rfl (by decide +kernel) ⟨Nat.le_of_ble_eq_true rfl, Nat.le_of_ble_eq_true rfl⟩) ⟨fun a U g mk q => by obtain ⟨q0, q1, qP, qK, qD⟩ := q; exact ⟨q0, q1, qP, va_K.moved (u := U) (U := U.calling g mk a) (Vm.Alike.refl U.vm) qK, qD⟩, fun U hU hW => ⟨rfl, by rw [hU], by rw [hU]; exact hPc, va_K.moved hW.alike hKc, hDc.weaken (fun _ _ _ _ => trivial)⟩⟩ rfl rfl hl.1 rfl (lv_room (Nat.le_of_ble_eq_true rfl)) dL_law_4 ⟨Nat.le_of_ble_eq_true rfl, Nat.le_of_ble_eq_true rfl⟩) hS (fun q _ hq => hFc q hq) hFc (fun _ t H1 locs ht hvm hw1 hB hz1 hk1 hS => ?_)
  obtain ⟨a, dB, dZ, dN, K, X, V, E, en, se, op, os, oc, la, ks, kl, ko, nk, nr, nv, ne, hP1, hK1, hD1, hQ⟩ := hB
  rw [ht] at hP1
  have hK := va_K.moved hvm.symm hK1
  obtain ⟨hP, hD⟩ := va_join (wr := []) (w1 := ls_W h a dB dZ dN K X V E en se op os oc la ks kl ko nk nr nv ne) hP hD [0] [] rfl rfl (by decide) (by decide) hk1 hFc hP1 hD1
  generalize H1 = H at hP hS ⊢
  have hP : va_P (dC, dI) ls_C (ls_W h a dB dZ dN K X V E en se op os oc la ks kl ko nk nr nv ne) H := hP
  have hD : va_D (fun q : Nat => s.heap.size ≤ q) (ls_W h a dB dZ dN K X V E en se op os oc la ks kl ko nk nr nv ne) := hD
  refine W.widen (k := 13) (n := 849) (by omega) (by omega) ?_
  refine lv_astore_n (lv' := [(1, .ref h), (0, .ref b)]) hx hb dL_law_7 rfl hl (by decide) rfl (fun ls hl => ?_)
  refine va_new (ci := 1) (fs := [.int 0, .int 0, .int 0, .null, .null, .null, .int 0, .int 0]) (C := RX1) (T := TX1) (N := 8) hx hb hts in_X1 tyX1 tyX1_ok hown (hts _ q173) (hts _ q174) (hts _ q13) hK hP hD hS hA rfl (fun j hj => by rcases (show j = 0 ∨ j = 1 ∨ j = 2 ∨ j = 3 ∨ j = 4 ∨ j = 5 ∨ j = 6 ∨ j = 7 by omega) with rfl | rfl | rfl | rfl | rfl | rfl | rfl | rfl <;> rfl) (Nat.le_of_ble_eq_true rfl) (Nat.le_of_ble_eq_true rfl) dL_law_8 (fun g H hP hD hS => ?_)
  have hP : va_P (dC, dI) ls_C (ls_W h a dB dZ dN K X V E en se op os oc la ks kl ko nk nr nv ne ++ [(g, .inr (1, [.int 0, .int 0, .int 0, .null, .null, .null, .int 0, .int 0]))]) H := hP
  have hD : va_D (fun q : Nat => s.heap.size ≤ q) (ls_W h a dB dZ dN K X V E en se op os oc la ks kl ko nk nr nv ne ++ [(g, .inr (1, [.int 0, .int 0, .int 0, .null, .null, .null, .int 0, .int 0]))]) := hD
  refine W.widen (k := 14) (n := 857) (by omega) (by omega) ?_
  refine lv_dup hx hb dL_law_11 rfl ?_
  have hPc := hP.sub (ws' := [(g, .inr (1, [.int 0, .int 0, .int 0, .null, .null, .null, .int 0, .int 0]))]) [13] rfl
  have hDc := hD.sub (ws' := [(g, .inr (1, [.int 0, .int 0, .int 0, .null, .null, .null, .int 0, .int 0]))]) [13] (by decide) rfl
  have hKc := hK.sub (tys' := []) [] rfl
  have hFc := va_free (wc := [(g, .inr (1, [.int 0, .int 0, .int 0, .null, .null, .null, .int 0, .int 0]))]) hD hS hA [13] rfl
  refine va_callv (va_runI (As := []) (rest := [.ref g]) ⟨hx, hb, hml, hown, hts⟩ (mt1_init (l := l) (dC := dC) (dI := dI) (h := g) (sz := H.size)) (cwI 0 hts (lw_meth q177) rfl rfl rfl (hts _ q13) (hts _ q175) (hts _ q176) rfl (by decide +kernel) ⟨Nat.le_of_ble_eq_true rfl, Nat.le_of_ble_eq_true rfl⟩) ⟨fun a U g mk q => by obtain ⟨q0, q1, qP, qK, qD⟩ := q; exact ⟨q0, q1, qP, va_K.moved (u := U) (U := U.calling g mk a) (Vm.Alike.refl U.vm) qK, qD⟩, fun U hU hW => ⟨rfl, by rw [hU], by rw [hU]; exact hPc, va_K.moved hW.alike hKc, hDc.weaken (fun _ _ _ _ => trivial)⟩⟩ rfl rfl hl.1 rfl (lv_room (Nat.le_of_ble_eq_true rfl)) dL_law_12 ⟨Nat.le_of_ble_eq_true rfl, Nat.le_of_ble_eq_true rfl⟩) hS (fun q _ hq => hFc q hq) hFc (fun _ t H1 locs ht hvm hw1 hB hz1 hk1 hS => ?_)
  obtain ⟨a1, dN1, ky, bk, kp, op1, cg, vv, bv, kv, hP1, hK1, hD1, hM⟩ := hB
  rw [ht] at hP1
  have hK1 := va_K.moved hvm.symm hK1
  obtain rfl : dN = dN1 := Option.some.inj ((va_nm_int (hK.2 2 (dN, .int) rfl).2).symm.trans (va_nm_int (hK1.2 0 (dN1, .int) rfl).2))
  obtain ⟨hP, hD⟩ := va_join (wr := ls_W h a dB dZ dN K X V E en se op os oc la ks kl ko nk nr nv ne) (w1 := ml_W g a1 dN ky bk kp op1 cg vv bv kv) hP hD [13] [0, 1, 2, 3, 4, 5, 6, 7, 8, 9, 10, 11, 12] rfl rfl (by decide) (by decide) hk1 hFc hP1 hD1
  generalize H1 = H at hP hS ⊢
  refine W.widen (k := 600000) (n := 7290000) (by decide) (by decide) ?_
  refine lv_astore_n (lv' := [(2, .ref g), (1, .ref h), (0, .ref b)]) hx hb dL_law_15 rfl hl (by decide) rfl (fun ls hl => ?_)
  refine lv_iconst (v := nI 0) hx hb dL_law_16 (by decide) ?_
  refine lv_istore_n (lv' := [(3, .int (nI 0)), (2, .ref g), (1, .ref h), (0, .ref b)]) hx hb dL_law_17 rfl hl (by decide) rfl (fun ls hl => ?_)
  exact law_loop C0 hL hK (L + 1) 0 K X V E en se op os oc la ks kl ko nk nr nv ne ky bk kp op1 cg vv bv kv _ _ _ _ _ H _ ls (Nat.zero_le L) (by omega) hQ hM hP hD hS (lv_sub hl [3, 2, 1, 0] rfl)
end
section
set_option maxHeartbeats 4000000 in
theorem lw_walk (l : Launch) (b : Addr) (xs : List Int32) : MetFree l x (headSpec (Jvm.Cond.code x code maxLocals ret :: tables_1) room_1) (lw_P b xs) (fun _ _ _ _ _ => True) lw_Q := by
  refine MetFree.of_bodyS (code := code) (maxLocals := maxLocals) (ret := ret) (by decide) ?_ ?_
  · intro args s m h hn
    obtain ⟨meth, c, h1, h2, h3, h4, h5, h6, -, -⟩ := Cond.code_spec hn (atoms_spec (ws := Jvm.Cond.code x code maxLocals ret :: tables_1) h _ List.mem_cons_self)
    exact ⟨meth, c, h1, h2, h3, h4, h5, h6⟩
  · intro p e s m args below meth c s₁ B hml0 hP _
    obtain ⟨rfl, hx, hbd, hgv⟩ := hP
    obtain ⟨scr, harrAt, hlist, hof, hsmall⟩ := hx
    obtain ⟨hcb, hkn, -, -⟩ := State.arrayAt?_spec harrAt
    have hown : s.vm.findClass R_law = some m.cls := findClass_of_methodNamed B.named
    have hts0 : ∀ c ∈ (Jvm.Cond.code x code maxLocals ret :: tables_1), c.before #[Value.ref b] s = true := atoms_spec (ws := Jvm.Cond.code x code maxLocals ret :: tables_1) B.pre
    have hts : ∀ w ∈ lw_tbl, w.before #[Value.ref b] s = true := k2_hts_sels lw_privs (fun w hw => hts0 w (List.mem_cons_of_mem _ hw)) lw_privs_ok
    have hml : c.maxLocals = 4 := B.maxLocals_eq (hts0 _ List.mem_cons_self)
    have X₀ : Stand p l e room_1 s m #[Value.ref b] below meth c s₁ [] 0 0 := Stand.of_body B
    have hh0 : s₁.heap = s.heap := by rw [B.state]; rfl
    have hsz : scr.slots.size = xs.length := by rw [← Array.length_toList, hlist, List.length_map]
    have hval : ∀ j : Nat, j < xs.length → scr.slots[j]? = some (.int (xs.getD j 0)) := fun j hj => by
      rw [← Array.getElem?_toList, hlist]
      simp [hj]
    have hbl : b < s.heap.size := (Array.getElem?_eq_some_iff.mp hcb).1
    have hX : va_X b xs.length (fun j => xs.getD j 0) s s.heap := ⟨scr, hcb, hof, hkn, hsz, hval⟩
    have K : W p l e room_1 s m #[Value.ref b] below meth c s₁.heap [] 0 0 (lw_Z below #[Value.ref b] s) (entryFrame m ([Value.ref b] : List Value).toArray 4) := by
      rw [hh0]
      exact whole_start l hbd ⟨B.exec, B.bytes, B.returns, hml, hown, hts, hX, hbl, B.notSynchronized, hgv⟩
    obtain ⟨t, a1, o, b1, b2, b3⟩ := K s₁ rfl X₀
    exact ⟨t, o, a1, b1, b2, b3⟩
theorem lw_pre_spec {args : Array Value} {s : State} (h : (Jvm.Cond.and given_1 narrow_1).before args s = true) (hr : rest_1_c.before args s = true) : ∃ (b : Addr) (xs : List Int32), lw_P b xs args s := by
  have hs := flat_of_before _ h
  have hq := flat_of_before _ hr
  have hc : (Cond.count 1).before args s = true := hs _ (by decide +kernel)
  have harr : (Cond.arrayOf (.arg 0) .int).before args s = true := hs _ (by decide +kernel)
  have hle : (Cond.le (.length (.arg 0)) (.int 192)).before args s = true := hs _ (by decide +kernel)
  have hlen : (Cond.isInt (.length (.arg 0))).before args s = true := hq _ (by decide +kernel)
  have hall : (Cond.all (.arg 0) (.isInt (.elem (.arg 0) (.index 0)))).before args s = true := hq _ (by decide +kernel)
  obtain ⟨b, xs, hb, hx⟩ := State.ints_of_pre rfl harr hlen hall
  have hsm : xs.length < 2 ^ 31 := hx.choose_spec.2.2.2
  have hev : (Term.length (.arg 0)).eval args s none [] s = some (.int xs.length.toInt32) := hx.length_eval hb
  have hv := Cond.le_ints hev (show (Term.int 192).eval args s none [] s = some (.int 192) from rfl)
  have hd : xs.length.toInt32 ≤ 192 := by
    simpa [Cond.before, Cond.holds, hv] using hle
  have hN : xs.length ≤ 192 := (Int32.ofNat_le_ofNat hsm (by decide)).mp (show Int32.ofNat xs.length ≤ Int32.ofNat 192 from hd)
  exact ⟨b, xs, Cond.one_arg hc (show args[0]? = some (.ref b) from hb), hx, hN, h⟩
theorem lw_comes (l : Launch) : Comes l x (Jvm.Cond.code x code maxLocals ret :: tables_1) room_1 (fun tb e args s => Calls_1 tb e args s ∧ rest_1 tb e args s ∧ Pre_1 tb e args s)
    (fun _ _ args s o t => lw_Q args s o t) := by
  intro p e ha hc hk s m args below hf hfit hheap happ hpre
  obtain ⟨b, xs, hP⟩ := lw_pre_spec hpre.2.2 hpre.2.1
  obtain ⟨k, o, h1, h2, h3, hQ⟩ := lw_walk l b xs p e ha hc hk s m args below hf ((Spec.applies_iff_loose hf).mp happ).1 hP trivial
  exact ⟨k, o, h1, h2, h3, hQ⟩
theorem lw_frame {s t : State} {o : Outcome} {args : Array Value} (h : Framed s o t [] 600000 7290000) :
    Framed s o t (fieldLocs frame_1_writes args s ++ arrayLocs frame_1_arrays args s ++ staticLocs frame_1_statics s) 600000 7290000 := h
theorem lw_limb (L : Cond) (hL : ∀ (args : Array Value) (s t : State), L.after args s (.returned (some (.int 1))) t = true) :
    ArmFor flags0 classFile x code maxLocals ret World_1 tables_1 room_1 Calls_1 rest_1 Pre_1
      (fun tb e a s o t => postC L tb e a s o t ∧ Framed s o t (fieldLocs frame_1_writes a s ++ arrayLocs frame_1_arrays a s ++ staticLocs frame_1_statics s) 600000 7290000) := by
  intro l _ _ _ p e ha hc hk s m args below hf hfit hheap happ hpre
  obtain ⟨k, o, h1, h2, h3, rfl, hF⟩ := lw_comes l p e ha hc hk s m args below hf hfit hheap happ hpre
  exact ⟨k, _, h1, h2, h3, hL args s _, lw_frame hF⟩
theorem i_vc : Claimed_1_1 ∧ Claimed_1_2 := ⟨lw_limb limb_1_1 (fun args s t => by simp [limb_1_1, Cond.after, Cond.holds, Cond.value]), lw_limb limb_1_2 (fun args s t => Cond.after_iff.mpr (by
  first | (rw [show limb_1_2 = Cond.eq .result (.int 1) from rfl, Cond.eq_ints (x := 1) (y := 1) rfl rfl]; simp; done) | (simp [limb_1_2, Cond.value, Term.eval]; done)))⟩
end
