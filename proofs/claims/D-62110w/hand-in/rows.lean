section
-- ===== PART A: goes FIRST, ahead of the names: the tables' words, and 'selects' of the private methods out of them =====
/-- a private method of a class that the tables say can be made, by its rows of tables_1 -/
def lw_okq (q : MethodName × Nat) : Prop := (q.1.cls ≠ "java/lang/invoke/MethodHandle" ∧ q.1.cls ≠ "java/lang/invoke/VarHandle") ∧ Cond.instantiable q.1.cls q.2 ∈ tables_1 ∧ Cond.privateMethod q.1 ∈ tables_1 ∧ Cond.instanceMethod q.1 ∈ tables_1
set_option maxRecDepth 100000
theorem lw_p0 : lw_okq (⟨"VersionStore", "isOpen", "(I)Z"⟩, 13) := ⟨⟨by decide +kernel, by decide +kernel⟩, List.mem_of_getElem? (i := 4) rfl, List.mem_of_getElem? (i := 62) rfl, List.mem_of_getElem? (i := 63) rfl⟩
theorem lw_p1 : lw_okq (⟨"VersionStore", "note", "(II)V"⟩, 13) := ⟨⟨by decide +kernel, by decide +kernel⟩, List.mem_of_getElem? (i := 4) rfl, List.mem_of_getElem? (i := 69) rfl, List.mem_of_getElem? (i := 70) rfl⟩
theorem lw_p2 : lw_okq (⟨"VersionStore", "visible", "(II)I"⟩, 13) := ⟨⟨by decide +kernel, by decide +kernel⟩, List.mem_of_getElem? (i := 4) rfl, List.mem_of_getElem? (i := 73) rfl, List.mem_of_getElem? (i := 74) rfl⟩
theorem lw_p3 : lw_okq (⟨"VersionStore", "versionAt", "(II)I"⟩, 13) := ⟨⟨by decide +kernel, by decide +kernel⟩, List.mem_of_getElem? (i := 4) rfl, List.mem_of_getElem? (i := 77) rfl, List.mem_of_getElem? (i := 78) rfl⟩
theorem lw_p4 : lw_okq (⟨"VersionStore", "mayCommit", "(I)Z"⟩, 13) := ⟨⟨by decide +kernel, by decide +kernel⟩, List.mem_of_getElem? (i := 4) rfl, List.mem_of_getElem? (i := 94) rfl, List.mem_of_getElem? (i := 95) rfl⟩
theorem lw_p5 : lw_okq (⟨"VersionStore", "install", "(I)V"⟩, 13) := ⟨⟨by decide +kernel, by decide +kernel⟩, List.mem_of_getElem? (i := 4) rfl, List.mem_of_getElem? (i := 98) rfl, List.mem_of_getElem? (i := 99) rfl⟩
theorem lw_p6 : lw_okq (⟨"VersionStore", "prune", "(I)V"⟩, 13) := ⟨⟨by decide +kernel, by decide +kernel⟩, List.mem_of_getElem? (i := 4) rfl, List.mem_of_getElem? (i := 106) rfl, List.mem_of_getElem? (i := 107) rfl⟩
theorem lw_p7 : lw_okq (⟨"VersionStore", "isSeen", "(II)Z"⟩, 13) := ⟨⟨by decide +kernel, by decide +kernel⟩, List.mem_of_getElem? (i := 4) rfl, List.mem_of_getElem? (i := 110) rfl, List.mem_of_getElem? (i := 111) rfl⟩
theorem lw_p8 : lw_okq (⟨"VersionStoreModel", "bad", "(I)Z"⟩, 10) := ⟨⟨by decide +kernel, by decide +kernel⟩, List.mem_of_getElem? (i := 135) rfl, List.mem_of_getElem? (i := 180) rfl, List.mem_of_getElem? (i := 181) rfl⟩
theorem lw_p9 : lw_okq (⟨"VersionStoreModel", "seen", "(I)I"⟩, 10) := ⟨⟨by decide +kernel, by decide +kernel⟩, List.mem_of_getElem? (i := 135) rfl, List.mem_of_getElem? (i := 187) rfl, List.mem_of_getElem? (i := 188) rfl⟩
theorem lw_p10 : lw_okq (⟨"VersionStoreModel", "overtaken", "(I)Z"⟩, 10) := ⟨⟨by decide +kernel, by decide +kernel⟩, List.mem_of_getElem? (i := 135) rfl, List.mem_of_getElem? (i := 205) rfl, List.mem_of_getElem? (i := 206) rfl⟩
def lw_privs_1 : List (MethodName × Nat) := [(⟨"VersionStore", "isOpen", "(I)Z"⟩, 13), (⟨"VersionStore", "note", "(II)V"⟩, 13), (⟨"VersionStore", "visible", "(II)I"⟩, 13), (⟨"VersionStore", "versionAt", "(II)I"⟩, 13), (⟨"VersionStore", "mayCommit", "(I)Z"⟩, 13), (⟨"VersionStore", "install", "(I)V"⟩, 13), (⟨"VersionStore", "prune", "(I)V"⟩, 13), (⟨"VersionStore", "isSeen", "(II)Z"⟩, 13), (⟨"VersionStoreModel", "bad", "(I)Z"⟩, 10), (⟨"VersionStoreModel", "seen", "(I)I"⟩, 10), (⟨"VersionStoreModel", "overtaken", "(I)Z"⟩, 10)]
theorem lw_r1 : ∀ q ∈ lw_privs_1, lw_okq q := List.forall_mem_cons.mpr ⟨lw_p0, List.forall_mem_cons.mpr ⟨lw_p1, List.forall_mem_cons.mpr ⟨lw_p2, List.forall_mem_cons.mpr ⟨lw_p3, List.forall_mem_cons.mpr ⟨lw_p4, List.forall_mem_cons.mpr ⟨lw_p5, List.forall_mem_cons.mpr ⟨lw_p6, List.forall_mem_cons.mpr ⟨lw_p7, List.forall_mem_cons.mpr ⟨lw_p8, List.forall_mem_cons.mpr ⟨lw_p9, List.forall_mem_cons.mpr ⟨lw_p10, fun _ h => absurd h List.not_mem_nil⟩⟩⟩⟩⟩⟩⟩⟩⟩⟩⟩
def lw_privs : List (MethodName × Nat) := lw_privs_1
def lw_tbl : List Cond := k2_sels lw_privs ++ tables_1
theorem lw_privs_ok : ∀ q ∈ lw_privs, lw_okq q := lw_r1
-- ===== ONE list of words for every method: the tables' words that hold all through a run =====
def lw_all : List Cond := lw_tbl.filter goodWord
/-- a word of the tables by its place: claim/WORDS.tsv -/
theorem lw_w {w : Cond} (i : Nat) (h : lw_tbl[i]? = some w) (g : goodWord w = true) : w ∈ lw_all := List.mem_filter.mpr ⟨List.mem_of_getElem? h, g⟩
theorem lw_all_tbl {w : Cond} (h : w ∈ lw_all) : w ∈ lw_tbl := (List.mem_filter.mp h).1
theorem lw_self : GoodIn lw_all lw_all := fun w h => ⟨h, good_of_word (List.mem_filter.mp h).2⟩
/-- a class's field words, by their places -/
theorem lw_in (ws : List Cond) (ps : List Nat) (hp : ws = ps.filterMap (fun i => lw_tbl[i]?)) (hg : ws.all goodWord = true) : ∀ w ∈ ws, w ∈ lw_all := by
  intro w h
  have h1 := List.all_eq_true.mp hg w h
  rw [hp] at h
  obtain ⟨i, -, hi⟩ := List.mem_filterMap.mp h
  exact lw_w i hi h1
/-- the words of a contract for the method y with code b, L locals, answer r -/
abbrev ws_ (y : MethodName) (b : ByteArray) (L : Nat) (r : Option FieldType) : List Cond := Cond.code y b L r :: lw_all
theorem lw_meth {y : MethodName} {b : ByteArray} {L : Nat} {r : Option FieldType} (h : Cond.code y b L r ∈ lw_all) : GoodIn lw_all (ws_ y b L r) := by
  intro w hw
  rcases List.mem_cons.mp hw with e | e
  · rw [e]
    exact lw_self _ h
  · exact lw_self _ e
theorem lw_app {a c : List Cond} (ha : ∀ w ∈ a, w ∈ lw_all) (hc : GoodIn lw_all c) : GoodIn lw_all (a ++ c) := by
  intro w hw
  rcases List.mem_append.mp hw with e | e
  · exact lw_self w (ha w e)
  · exact hc w e
/-- what a call through an object asks: cwV n hts (lw_V ..) -/
theorem lw_V {own : String} {idx : Nat} {C : String} {y : MethodName} {b : ByteArray} {L : Nat} {r : Option FieldType} (h1 : Cond.methodLink own idx y ∈ lw_all) (h2 : Cond.instanceMethod y ∈ lw_all) (h3 : Cond.selects C y y ∈ lw_all) (h4 : Cond.initialized C ∈ lw_all) (h5 : Cond.code y b L r ∈ lw_all) : GoodIn lw_all (wsV own idx C y (ws_ y b L r)) := by
  refine lw_app ?_ (lw_meth h5)
  intro w hw
  simp only [List.mem_cons, List.not_mem_nil, or_false] at hw
  rcases hw with e | e | e | e
  · rw [e]; exact h1
  · rw [e]; exact h2
  · rw [e]; exact h3
  · rw [e]; exact h4
/-- what a static call asks: va_cwS n hts (lw_S ..) -/
theorem lw_S {own : String} {idx : Nat} {y : MethodName} {b : ByteArray} {L : Nat} {r : Option FieldType} (h1 : Cond.methodLink own idx y ∈ lw_all) (h2 : Cond.static y ∈ lw_all) (h3 : Cond.initialized y.cls ∈ lw_all) (h4 : Cond.code y b L r ∈ lw_all) : GoodIn lw_all (va_wsS own idx y (ws_ y b L r)) := by
  refine lw_app ?_ (lw_meth h4)
  intro w hw
  simp only [List.mem_cons, List.not_mem_nil, or_false] at hw
  rcases hw with e | e | e
  · rw [e]; exact h1
  · rw [e]; exact h2
  · rw [e]; exact h3
/-- the words of a contract for a method WITH HANDLERS (hh: its table) -/
abbrev wsW_ (y : MethodName) (b : ByteArray) (L : Nat) (r : Option FieldType) (hh : List (Nat × Nat × Nat × Nat)) : List Cond := Cond.codeWith y b L r hh :: lw_all
theorem lw_methW {y : MethodName} {b : ByteArray} {L : Nat} {r : Option FieldType} {hh : List (Nat × Nat × Nat × Nat)} (h : Cond.codeWith y b L r hh ∈ lw_all) : GoodIn lw_all (wsW_ y b L r hh) := by
  intro w hw
  rcases List.mem_cons.mp hw with e | e
  · rw [e]
    exact lw_self _ h
  · exact lw_self _ e
/-- any list of words by their places (lw_in), good -/
theorem lw_good {ws : List Cond} (h : ∀ w ∈ ws, w ∈ lw_all) : GoodIn lw_all ws := fun w hw => lw_self w (h w hw)
/-- what a call of a method with handlers asks: vx_cwVW n hts (lw_VW ..), vx_cwSW n hts (lw_SW ..) -/
theorem lw_VW {own : String} {idx : Nat} {C : String} {y : MethodName} {b : ByteArray} {L : Nat} {r : Option FieldType} {hh : List (Nat × Nat × Nat × Nat)} (h1 : Cond.methodLink own idx y ∈ lw_all) (h2 : Cond.instanceMethod y ∈ lw_all) (h3 : Cond.selects C y y ∈ lw_all) (h4 : Cond.initialized C ∈ lw_all) (h5 : Cond.codeWith y b L r hh ∈ lw_all) : GoodIn lw_all (wsV own idx C y (wsW_ y b L r hh)) := by
  refine lw_app ?_ (lw_methW h5)
  intro w hw
  simp only [List.mem_cons, List.not_mem_nil, or_false] at hw
  rcases hw with e | e | e | e
  · rw [e]; exact h1
  · rw [e]; exact h2
  · rw [e]; exact h3
  · rw [e]; exact h4
theorem lw_SW {own : String} {idx : Nat} {y : MethodName} {b : ByteArray} {L : Nat} {r : Option FieldType} {hh : List (Nat × Nat × Nat × Nat)} (h1 : Cond.methodLink own idx y ∈ lw_all) (h2 : Cond.static y ∈ lw_all) (h3 : Cond.initialized y.cls ∈ lw_all) (h4 : Cond.codeWith y b L r hh ∈ lw_all) : GoodIn lw_all (va_wsS own idx y (wsW_ y b L r hh)) := by
  refine lw_app ?_ (lw_methW h4)
  intro w hw
  simp only [List.mem_cons, List.not_mem_nil, or_false] at hw
  rcases hw with e | e | e
  · rw [e]; exact h1
  · rw [e]; exact h2
  · rw [e]; exact h3
/-- a word by its place in its run of the tables -/
theorem lw_at {r : List Cond} (hr : ∀ w ∈ r, w ∈ lw_tbl) {w : Cond} (i : Nat) (h : r[i]? = some w) : w ∈ lw_tbl := hr w (List.mem_of_getElem? h)
theorem lw_g {w : Cond} (h : w ∈ lw_tbl) (g : goodWord w = true) : w ∈ lw_all := List.mem_filter.mpr ⟨h, g⟩
theorem lw_ms : ∀ w ∈ k2_sels lw_privs, w ∈ lw_tbl := fun w h => show w ∈ k2_sels lw_privs ++ tables_1 from List.mem_append_left _ h
theorem lw_m0 : ∀ w ∈ tables_1, w ∈ lw_tbl := fun w h => show w ∈ k2_sels lw_privs ++ tables_1 from List.mem_append_right (k2_sels lw_privs) h
theorem qs0 : (Cond.selects "VersionStore" ⟨"VersionStore", "isOpen", "(I)Z"⟩ ⟨"VersionStore", "isOpen", "(I)Z"⟩) ∈ lw_all := lw_g (lw_at lw_ms 0 rfl) rfl
theorem qs1 : (Cond.selects "VersionStore" ⟨"VersionStore", "note", "(II)V"⟩ ⟨"VersionStore", "note", "(II)V"⟩) ∈ lw_all := lw_g (lw_at lw_ms 1 rfl) rfl
theorem qs2 : (Cond.selects "VersionStore" ⟨"VersionStore", "visible", "(II)I"⟩ ⟨"VersionStore", "visible", "(II)I"⟩) ∈ lw_all := lw_g (lw_at lw_ms 2 rfl) rfl
theorem qs3 : (Cond.selects "VersionStore" ⟨"VersionStore", "versionAt", "(II)I"⟩ ⟨"VersionStore", "versionAt", "(II)I"⟩) ∈ lw_all := lw_g (lw_at lw_ms 3 rfl) rfl
theorem qs4 : (Cond.selects "VersionStore" ⟨"VersionStore", "mayCommit", "(I)Z"⟩ ⟨"VersionStore", "mayCommit", "(I)Z"⟩) ∈ lw_all := lw_g (lw_at lw_ms 4 rfl) rfl
theorem qs5 : (Cond.selects "VersionStore" ⟨"VersionStore", "install", "(I)V"⟩ ⟨"VersionStore", "install", "(I)V"⟩) ∈ lw_all := lw_g (lw_at lw_ms 5 rfl) rfl
theorem qs6 : (Cond.selects "VersionStore" ⟨"VersionStore", "prune", "(I)V"⟩ ⟨"VersionStore", "prune", "(I)V"⟩) ∈ lw_all := lw_g (lw_at lw_ms 6 rfl) rfl
theorem qs7 : (Cond.selects "VersionStore" ⟨"VersionStore", "isSeen", "(II)Z"⟩ ⟨"VersionStore", "isSeen", "(II)Z"⟩) ∈ lw_all := lw_g (lw_at lw_ms 7 rfl) rfl
theorem qs8 : (Cond.selects "VersionStoreModel" ⟨"VersionStoreModel", "bad", "(I)Z"⟩ ⟨"VersionStoreModel", "bad", "(I)Z"⟩) ∈ lw_all := lw_g (lw_at lw_ms 8 rfl) rfl
theorem qs9 : (Cond.selects "VersionStoreModel" ⟨"VersionStoreModel", "seen", "(I)I"⟩ ⟨"VersionStoreModel", "seen", "(I)I"⟩) ∈ lw_all := lw_g (lw_at lw_ms 9 rfl) rfl
theorem qs10 : (Cond.selects "VersionStoreModel" ⟨"VersionStoreModel", "overtaken", "(I)Z"⟩ ⟨"VersionStoreModel", "overtaken", "(I)Z"⟩) ∈ lw_all := lw_g (lw_at lw_ms 10 rfl) rfl
end
section
/-! VersionStore -/
set_option maxRecDepth 100000
def RX0 : String := "VersionStore"
def TX0 : u_T := fun k => match k with
  | 0 => ("VersionStore", "valueOf", "[I", true)
  | 1 => ("VersionStore", "commitOf", "[I", true)
  | 2 => ("VersionStore", "older", "[I", true)
  | 3 => ("VersionStore", "freeVersion", "I", false)
  | 4 => ("VersionStore", "freeCount", "I", false)
  | 5 => ("VersionStore", "newest", "[I", true)
  | 6 => ("VersionStore", "commits", "I", false)
  | 7 => ("VersionStore", "isOpen", "[Z", true)
  | 8 => ("VersionStore", "serial", "[Z", true)
  | 9 => ("VersionStore", "began", "[I", true)
  | 10 => ("VersionStore", "written", "[I", true)
  | 11 => ("VersionStore", "seen", "[I", true)
  | _ => ("VersionStore", "own", "[I", true)
def tyX0 : Nat → FieldType := fun k => match k with
  | 0 => .array .int
  | 1 => .array .int
  | 2 => .array .int
  | 3 => .int
  | 4 => .int
  | 5 => .array .int
  | 6 => .int
  | 7 => .array .boolean
  | 8 => .array .boolean
  | 9 => .array .int
  | 10 => .array .int
  | 11 => .array .int
  | _ => .array .int
abbrev wsX00 : List Cond := u_ws RX0 TX0 13
set_option maxRecDepth 100000 in
theorem nmX0 : ∀ a, a < 13 → ∀ b, b < 13 → a ≠ b → (TX0 a).2.1 ≠ (TX0 b).2.1 := by decide +kernel
set_option maxRecDepth 100000 in
theorem tyX0_ok : ∀ k, k < 13 → parseFieldDescriptor (TX0 k).2.2.1 = some (tyX0 k) := by decide +kernel
abbrev cX0_init : ByteArray := prog_1_method_1_code
def yX0_init : MethodName := ⟨RX0, "<init>", "()V"⟩
abbrev cX0_begin : ByteArray := prog_1_method_2_code
def yX0_begin : MethodName := ⟨RX0, "begin", "(Z)I"⟩
abbrev cX0_read : ByteArray := prog_1_method_3_code
def yX0_read : MethodName := ⟨RX0, "read", "(II)I"⟩
abbrev cX0_isOpen : ByteArray := prog_1_method_13_code
def yX0_isOpen : MethodName := ⟨RX0, "isOpen", "(I)Z"⟩
abbrev cX0_isCell : ByteArray := prog_1_method_14_code
def yX0_isCell : MethodName := ⟨RX0, "isCell", "(I)Z"⟩
abbrev cX0_note : ByteArray := prog_1_method_15_code
def yX0_note : MethodName := ⟨RX0, "note", "(II)V"⟩
abbrev cX0_visible : ByteArray := prog_1_method_16_code
def yX0_visible : MethodName := ⟨RX0, "visible", "(II)I"⟩
abbrev cX0_versionAt : ByteArray := prog_1_method_17_code
def yX0_versionAt : MethodName := ⟨RX0, "versionAt", "(II)I"⟩
abbrev cX0_write : ByteArray := prog_1_method_4_code
def yX0_write : MethodName := ⟨RX0, "write", "(III)I"⟩
abbrev cX0_add : ByteArray := prog_1_method_5_code
def yX0_add : MethodName := ⟨RX0, "add", "(III)I"⟩
abbrev cX0_commit : ByteArray := prog_1_method_6_code
def yX0_commit : MethodName := ⟨RX0, "commit", "(I)I"⟩
abbrev cX0_mayCommit : ByteArray := prog_1_method_18_code
def yX0_mayCommit : MethodName := ⟨RX0, "mayCommit", "(I)Z"⟩
abbrev cX0_install : ByteArray := prog_1_method_19_code
def yX0_install : MethodName := ⟨RX0, "install", "(I)V"⟩
abbrev cX0_tidy : ByteArray := prog_1_method_11_code
def yX0_tidy : MethodName := ⟨RX0, "tidy", "()V"⟩
abbrev cX0_prune : ByteArray := prog_1_method_20_code
def yX0_prune : MethodName := ⟨RX0, "prune", "(I)V"⟩
abbrev cX0_isSeen : ByteArray := prog_1_method_21_code
def yX0_isSeen : MethodName := ⟨RX0, "isSeen", "(II)Z"⟩
abbrev cX0_abort : ByteArray := prog_1_method_7_code
def yX0_abort : MethodName := ⟨RX0, "abort", "(I)I"⟩
abbrev cX0_might : ByteArray := prog_1_method_8_code
def yX0_might : MethodName := ⟨RX0, "might", "(I)I"⟩
abbrev cX0_committed : ByteArray := prog_1_method_9_code
def yX0_committed : MethodName := ⟨RX0, "committed", "(I)I"⟩
abbrev cX0_sum : ByteArray := prog_1_method_10_code
def yX0_sum : MethodName := ⟨RX0, "sum", "(III)I"⟩
abbrev cX0_open : ByteArray := prog_1_method_12_code
def yX0_open : MethodName := ⟨RX0, "open", "()I"⟩
theorem q12 : (Jvm.Cond.initialized "VersionStore") ∈ lw_all := lw_g (lw_at lw_m0 1 rfl) rfl
theorem q15 : (Jvm.Cond.instantiable "VersionStore" (13 : Nat)) ∈ lw_all := lw_g (lw_at lw_m0 4 rfl) rfl
theorem q17 : (Jvm.Cond.instanceMethod ({ cls := "VersionStore", name := "<init>", desc := "()V" } : Jvm.MethodName)) ∈ lw_all := lw_g (lw_at lw_m0 6 rfl) rfl
theorem q18 : (Jvm.Cond.code ({ cls := "VersionStore", name := "<init>", desc := "()V" } : Jvm.MethodName) prog_1_method_1_code (2 : Nat) (Option.none : Option Jvm.ClassFile.FieldType)) ∈ lw_all := lw_g (lw_at lw_m0 7 rfl) rfl
theorem q19 : (Jvm.Cond.methodLink "VersionStore" (1 : Nat) ({ cls := "java/lang/Object", name := "<init>", desc := "()V" } : Jvm.MethodName)) ∈ lw_all := lw_g (lw_at lw_m0 8 rfl) rfl
theorem q22 : (Jvm.Cond.fieldLink "VersionStore" (7 : Nat) "VersionStore" "valueOf" "[I") ∈ lw_all := lw_g (lw_at lw_m0 11 rfl) rfl
theorem q23 : (Jvm.Cond.fieldLink "VersionStore" (13 : Nat) "VersionStore" "commitOf" "[I") ∈ lw_all := lw_g (lw_at lw_m0 12 rfl) rfl
theorem q24 : (Jvm.Cond.fieldLink "VersionStore" (16 : Nat) "VersionStore" "older" "[I") ∈ lw_all := lw_g (lw_at lw_m0 13 rfl) rfl
theorem q25 : (Jvm.Cond.fieldLink "VersionStore" (82 : Nat) "VersionStore" "freeVersion" "I") ∈ lw_all := lw_g (lw_at lw_m0 14 rfl) rfl
theorem q26 : (Jvm.Cond.fieldLink "VersionStore" (41 : Nat) "VersionStore" "freeCount" "I") ∈ lw_all := lw_g (lw_at lw_m0 15 rfl) rfl
theorem q27 : (Jvm.Cond.fieldLink "VersionStore" (19 : Nat) "VersionStore" "newest" "[I") ∈ lw_all := lw_g (lw_at lw_m0 16 rfl) rfl
theorem q28 : (Jvm.Cond.fieldLink "VersionStore" (45 : Nat) "VersionStore" "commits" "I") ∈ lw_all := lw_g (lw_at lw_m0 17 rfl) rfl
theorem q29 : (Jvm.Cond.fieldLink "VersionStore" (22 : Nat) "VersionStore" "isOpen" "[Z") ∈ lw_all := lw_g (lw_at lw_m0 18 rfl) rfl
theorem q30 : (Jvm.Cond.fieldLink "VersionStore" (26 : Nat) "VersionStore" "serial" "[Z") ∈ lw_all := lw_g (lw_at lw_m0 19 rfl) rfl
theorem q31 : (Jvm.Cond.fieldLink "VersionStore" (29 : Nat) "VersionStore" "began" "[I") ∈ lw_all := lw_g (lw_at lw_m0 20 rfl) rfl
theorem q32 : (Jvm.Cond.fieldLink "VersionStore" (32 : Nat) "VersionStore" "written" "[I") ∈ lw_all := lw_g (lw_at lw_m0 21 rfl) rfl
theorem q33 : (Jvm.Cond.fieldLink "VersionStore" (35 : Nat) "VersionStore" "seen" "[I") ∈ lw_all := lw_g (lw_at lw_m0 22 rfl) rfl
theorem q34 : (Jvm.Cond.fieldLink "VersionStore" (38 : Nat) "VersionStore" "own" "[I") ∈ lw_all := lw_g (lw_at lw_m0 23 rfl) rfl
theorem q35 : (Jvm.Cond.laysFinal "VersionStore" "VersionStore" "valueOf" "[I") ∈ lw_all := lw_g (lw_at lw_m0 24 rfl) rfl
theorem q36 : (Jvm.Cond.soleField "VersionStore" "valueOf") ∈ lw_all := lw_g (lw_at lw_m0 25 rfl) rfl
theorem q37 : (Jvm.Cond.laysFinal "VersionStore" "VersionStore" "commitOf" "[I") ∈ lw_all := lw_g (lw_at lw_m0 26 rfl) rfl
theorem q38 : (Jvm.Cond.soleField "VersionStore" "commitOf") ∈ lw_all := lw_g (lw_at lw_m0 27 rfl) rfl
theorem q39 : (Jvm.Cond.laysFinal "VersionStore" "VersionStore" "older" "[I") ∈ lw_all := lw_g (lw_at lw_m0 28 rfl) rfl
theorem q40 : (Jvm.Cond.soleField "VersionStore" "older") ∈ lw_all := lw_g (lw_at lw_m0 29 rfl) rfl
theorem q41 : (Jvm.Cond.lays "VersionStore" "VersionStore" "freeVersion" "I") ∈ lw_all := lw_g (lw_at lw_m0 30 rfl) rfl
theorem q42 : (Jvm.Cond.soleField "VersionStore" "freeVersion") ∈ lw_all := lw_g (lw_at lw_m0 31 rfl) rfl
theorem q43 : (Jvm.Cond.lays "VersionStore" "VersionStore" "freeCount" "I") ∈ lw_all := lw_g (lw_at lw_m0 32 rfl) rfl
theorem q44 : (Jvm.Cond.soleField "VersionStore" "freeCount") ∈ lw_all := lw_g (lw_at lw_m0 33 rfl) rfl
theorem q45 : (Jvm.Cond.laysFinal "VersionStore" "VersionStore" "newest" "[I") ∈ lw_all := lw_g (lw_at lw_m0 34 rfl) rfl
theorem q46 : (Jvm.Cond.soleField "VersionStore" "newest") ∈ lw_all := lw_g (lw_at lw_m0 35 rfl) rfl
theorem q47 : (Jvm.Cond.lays "VersionStore" "VersionStore" "commits" "I") ∈ lw_all := lw_g (lw_at lw_m0 36 rfl) rfl
theorem q48 : (Jvm.Cond.soleField "VersionStore" "commits") ∈ lw_all := lw_g (lw_at lw_m0 37 rfl) rfl
theorem q49 : (Jvm.Cond.laysFinal "VersionStore" "VersionStore" "isOpen" "[Z") ∈ lw_all := lw_g (lw_at lw_m0 38 rfl) rfl
theorem q50 : (Jvm.Cond.soleField "VersionStore" "isOpen") ∈ lw_all := lw_g (lw_at lw_m0 39 rfl) rfl
theorem q51 : (Jvm.Cond.laysFinal "VersionStore" "VersionStore" "serial" "[Z") ∈ lw_all := lw_g (lw_at lw_m0 40 rfl) rfl
theorem q52 : (Jvm.Cond.soleField "VersionStore" "serial") ∈ lw_all := lw_g (lw_at lw_m0 41 rfl) rfl
theorem q53 : (Jvm.Cond.laysFinal "VersionStore" "VersionStore" "began" "[I") ∈ lw_all := lw_g (lw_at lw_m0 42 rfl) rfl
theorem q54 : (Jvm.Cond.soleField "VersionStore" "began") ∈ lw_all := lw_g (lw_at lw_m0 43 rfl) rfl
theorem q55 : (Jvm.Cond.laysFinal "VersionStore" "VersionStore" "written" "[I") ∈ lw_all := lw_g (lw_at lw_m0 44 rfl) rfl
theorem q56 : (Jvm.Cond.soleField "VersionStore" "written") ∈ lw_all := lw_g (lw_at lw_m0 45 rfl) rfl
theorem q57 : (Jvm.Cond.laysFinal "VersionStore" "VersionStore" "seen" "[I") ∈ lw_all := lw_g (lw_at lw_m0 46 rfl) rfl
theorem q58 : (Jvm.Cond.soleField "VersionStore" "seen") ∈ lw_all := lw_g (lw_at lw_m0 47 rfl) rfl
theorem q59 : (Jvm.Cond.laysFinal "VersionStore" "VersionStore" "own" "[I") ∈ lw_all := lw_g (lw_at lw_m0 48 rfl) rfl
theorem q60 : (Jvm.Cond.soleField "VersionStore" "own") ∈ lw_all := lw_g (lw_at lw_m0 49 rfl) rfl
theorem q61 : (Jvm.Cond.superclass "VersionStore" "java/lang/Object") ∈ lw_all := lw_g (lw_at lw_m0 50 rfl) rfl
theorem q65 : (Jvm.Cond.instanceMethod ({ cls := "VersionStore", name := "begin", desc := "(Z)I" } : Jvm.MethodName)) ∈ lw_all := lw_g (lw_at lw_m0 54 rfl) rfl
theorem q66 : (Jvm.Cond.selects "VersionStore" ({ cls := "VersionStore", name := "begin", desc := "(Z)I" } : Jvm.MethodName) ({ cls := "VersionStore", name := "begin", desc := "(Z)I" } : Jvm.MethodName)) ∈ lw_all := lw_g (lw_at lw_m0 55 rfl) rfl
theorem q67 : (Jvm.Cond.code ({ cls := "VersionStore", name := "begin", desc := "(Z)I" } : Jvm.MethodName) prog_1_method_2_code (3 : Nat) (Option.some Jvm.ClassFile.FieldType.int)) ∈ lw_all := lw_g (lw_at lw_m0 56 rfl) rfl
theorem q69 : (Jvm.Cond.instanceMethod ({ cls := "VersionStore", name := "read", desc := "(II)I" } : Jvm.MethodName)) ∈ lw_all := lw_g (lw_at lw_m0 58 rfl) rfl
theorem q70 : (Jvm.Cond.selects "VersionStore" ({ cls := "VersionStore", name := "read", desc := "(II)I" } : Jvm.MethodName) ({ cls := "VersionStore", name := "read", desc := "(II)I" } : Jvm.MethodName)) ∈ lw_all := lw_g (lw_at lw_m0 59 rfl) rfl
theorem q71 : (Jvm.Cond.code ({ cls := "VersionStore", name := "read", desc := "(II)I" } : Jvm.MethodName) prog_1_method_3_code (3 : Nat) (Option.some Jvm.ClassFile.FieldType.int)) ∈ lw_all := lw_g (lw_at lw_m0 60 rfl) rfl
theorem q72 : (Jvm.Cond.methodLink "VersionStore" (48 : Nat) ({ cls := "VersionStore", name := "isOpen", desc := "(I)Z" } : Jvm.MethodName)) ∈ lw_all := lw_g (lw_at lw_m0 61 rfl) rfl
theorem q73 : (Jvm.Cond.privateMethod ({ cls := "VersionStore", name := "isOpen", desc := "(I)Z" } : Jvm.MethodName)) ∈ lw_tbl := lw_at lw_m0 62 rfl
theorem q74 : (Jvm.Cond.instanceMethod ({ cls := "VersionStore", name := "isOpen", desc := "(I)Z" } : Jvm.MethodName)) ∈ lw_all := lw_g (lw_at lw_m0 63 rfl) rfl
theorem q75 : (Jvm.Cond.code ({ cls := "VersionStore", name := "isOpen", desc := "(I)Z" } : Jvm.MethodName) prog_1_method_13_code (2 : Nat) (Option.some Jvm.ClassFile.FieldType.boolean)) ∈ lw_all := lw_g (lw_at lw_m0 64 rfl) rfl
theorem q76 : (Jvm.Cond.methodLink "VersionStore" (51 : Nat) ({ cls := "VersionStore", name := "isCell", desc := "(I)Z" } : Jvm.MethodName)) ∈ lw_all := lw_g (lw_at lw_m0 65 rfl) rfl
theorem q77 : (Jvm.Cond.static ({ cls := "VersionStore", name := "isCell", desc := "(I)Z" } : Jvm.MethodName)) ∈ lw_all := lw_g (lw_at lw_m0 66 rfl) rfl
theorem q78 : (Jvm.Cond.code ({ cls := "VersionStore", name := "isCell", desc := "(I)Z" } : Jvm.MethodName) prog_1_method_14_code (1 : Nat) (Option.some Jvm.ClassFile.FieldType.boolean)) ∈ lw_all := lw_g (lw_at lw_m0 67 rfl) rfl
theorem q79 : (Jvm.Cond.methodLink "VersionStore" (54 : Nat) ({ cls := "VersionStore", name := "note", desc := "(II)V" } : Jvm.MethodName)) ∈ lw_all := lw_g (lw_at lw_m0 68 rfl) rfl
theorem q80 : (Jvm.Cond.privateMethod ({ cls := "VersionStore", name := "note", desc := "(II)V" } : Jvm.MethodName)) ∈ lw_tbl := lw_at lw_m0 69 rfl
theorem q81 : (Jvm.Cond.instanceMethod ({ cls := "VersionStore", name := "note", desc := "(II)V" } : Jvm.MethodName)) ∈ lw_all := lw_g (lw_at lw_m0 70 rfl) rfl
theorem q82 : (Jvm.Cond.code ({ cls := "VersionStore", name := "note", desc := "(II)V" } : Jvm.MethodName) prog_1_method_15_code (3 : Nat) (Option.none : Option Jvm.ClassFile.FieldType)) ∈ lw_all := lw_g (lw_at lw_m0 71 rfl) rfl
theorem q83 : (Jvm.Cond.methodLink "VersionStore" (58 : Nat) ({ cls := "VersionStore", name := "visible", desc := "(II)I" } : Jvm.MethodName)) ∈ lw_all := lw_g (lw_at lw_m0 72 rfl) rfl
theorem q84 : (Jvm.Cond.privateMethod ({ cls := "VersionStore", name := "visible", desc := "(II)I" } : Jvm.MethodName)) ∈ lw_tbl := lw_at lw_m0 73 rfl
theorem q85 : (Jvm.Cond.instanceMethod ({ cls := "VersionStore", name := "visible", desc := "(II)I" } : Jvm.MethodName)) ∈ lw_all := lw_g (lw_at lw_m0 74 rfl) rfl
theorem q86 : (Jvm.Cond.code ({ cls := "VersionStore", name := "visible", desc := "(II)I" } : Jvm.MethodName) prog_1_method_16_code (3 : Nat) (Option.some Jvm.ClassFile.FieldType.int)) ∈ lw_all := lw_g (lw_at lw_m0 75 rfl) rfl
theorem q87 : (Jvm.Cond.methodLink "VersionStore" (73 : Nat) ({ cls := "VersionStore", name := "versionAt", desc := "(II)I" } : Jvm.MethodName)) ∈ lw_all := lw_g (lw_at lw_m0 76 rfl) rfl
theorem q88 : (Jvm.Cond.privateMethod ({ cls := "VersionStore", name := "versionAt", desc := "(II)I" } : Jvm.MethodName)) ∈ lw_tbl := lw_at lw_m0 77 rfl
theorem q89 : (Jvm.Cond.instanceMethod ({ cls := "VersionStore", name := "versionAt", desc := "(II)I" } : Jvm.MethodName)) ∈ lw_all := lw_g (lw_at lw_m0 78 rfl) rfl
theorem q90 : (Jvm.Cond.code ({ cls := "VersionStore", name := "versionAt", desc := "(II)I" } : Jvm.MethodName) prog_1_method_17_code (5 : Nat) (Option.some Jvm.ClassFile.FieldType.int)) ∈ lw_all := lw_g (lw_at lw_m0 79 rfl) rfl
theorem q92 : (Jvm.Cond.instanceMethod ({ cls := "VersionStore", name := "write", desc := "(III)I" } : Jvm.MethodName)) ∈ lw_all := lw_g (lw_at lw_m0 81 rfl) rfl
theorem q93 : (Jvm.Cond.selects "VersionStore" ({ cls := "VersionStore", name := "write", desc := "(III)I" } : Jvm.MethodName) ({ cls := "VersionStore", name := "write", desc := "(III)I" } : Jvm.MethodName)) ∈ lw_all := lw_g (lw_at lw_m0 82 rfl) rfl
theorem q94 : (Jvm.Cond.code ({ cls := "VersionStore", name := "write", desc := "(III)I" } : Jvm.MethodName) prog_1_method_4_code (4 : Nat) (Option.some Jvm.ClassFile.FieldType.int)) ∈ lw_all := lw_g (lw_at lw_m0 83 rfl) rfl
theorem q96 : (Jvm.Cond.instanceMethod ({ cls := "VersionStore", name := "add", desc := "(III)I" } : Jvm.MethodName)) ∈ lw_all := lw_g (lw_at lw_m0 85 rfl) rfl
theorem q97 : (Jvm.Cond.selects "VersionStore" ({ cls := "VersionStore", name := "add", desc := "(III)I" } : Jvm.MethodName) ({ cls := "VersionStore", name := "add", desc := "(III)I" } : Jvm.MethodName)) ∈ lw_all := lw_g (lw_at lw_m0 86 rfl) rfl
theorem q98 : (Jvm.Cond.code ({ cls := "VersionStore", name := "add", desc := "(III)I" } : Jvm.MethodName) prog_1_method_5_code (5 : Nat) (Option.some Jvm.ClassFile.FieldType.int)) ∈ lw_all := lw_g (lw_at lw_m0 87 rfl) rfl
theorem q99 : (Jvm.Cond.methodLink "VersionStore" (62 : Nat) ({ cls := "VersionStore", name := "write", desc := "(III)I" } : Jvm.MethodName)) ∈ lw_all := lw_g (lw_at lw_m0 88 rfl) rfl
theorem q101 : (Jvm.Cond.instanceMethod ({ cls := "VersionStore", name := "commit", desc := "(I)I" } : Jvm.MethodName)) ∈ lw_all := lw_g (lw_at lw_m0 90 rfl) rfl
theorem q102 : (Jvm.Cond.selects "VersionStore" ({ cls := "VersionStore", name := "commit", desc := "(I)I" } : Jvm.MethodName) ({ cls := "VersionStore", name := "commit", desc := "(I)I" } : Jvm.MethodName)) ∈ lw_all := lw_g (lw_at lw_m0 91 rfl) rfl
theorem q103 : (Jvm.Cond.code ({ cls := "VersionStore", name := "commit", desc := "(I)I" } : Jvm.MethodName) prog_1_method_6_code (3 : Nat) (Option.some Jvm.ClassFile.FieldType.int)) ∈ lw_all := lw_g (lw_at lw_m0 92 rfl) rfl
theorem q104 : (Jvm.Cond.methodLink "VersionStore" (66 : Nat) ({ cls := "VersionStore", name := "mayCommit", desc := "(I)Z" } : Jvm.MethodName)) ∈ lw_all := lw_g (lw_at lw_m0 93 rfl) rfl
theorem q105 : (Jvm.Cond.privateMethod ({ cls := "VersionStore", name := "mayCommit", desc := "(I)Z" } : Jvm.MethodName)) ∈ lw_tbl := lw_at lw_m0 94 rfl
theorem q106 : (Jvm.Cond.instanceMethod ({ cls := "VersionStore", name := "mayCommit", desc := "(I)Z" } : Jvm.MethodName)) ∈ lw_all := lw_g (lw_at lw_m0 95 rfl) rfl
theorem q107 : (Jvm.Cond.code ({ cls := "VersionStore", name := "mayCommit", desc := "(I)Z" } : Jvm.MethodName) prog_1_method_18_code (5 : Nat) (Option.some Jvm.ClassFile.FieldType.boolean)) ∈ lw_all := lw_g (lw_at lw_m0 96 rfl) rfl
theorem q108 : (Jvm.Cond.methodLink "VersionStore" (69 : Nat) ({ cls := "VersionStore", name := "install", desc := "(I)V" } : Jvm.MethodName)) ∈ lw_all := lw_g (lw_at lw_m0 97 rfl) rfl
theorem q109 : (Jvm.Cond.privateMethod ({ cls := "VersionStore", name := "install", desc := "(I)V" } : Jvm.MethodName)) ∈ lw_tbl := lw_at lw_m0 98 rfl
theorem q110 : (Jvm.Cond.instanceMethod ({ cls := "VersionStore", name := "install", desc := "(I)V" } : Jvm.MethodName)) ∈ lw_all := lw_g (lw_at lw_m0 99 rfl) rfl
theorem q111 : (Jvm.Cond.code ({ cls := "VersionStore", name := "install", desc := "(I)V" } : Jvm.MethodName) prog_1_method_19_code (4 : Nat) (Option.none : Option Jvm.ClassFile.FieldType)) ∈ lw_all := lw_g (lw_at lw_m0 100 rfl) rfl
theorem q112 : (Jvm.Cond.methodLink "VersionStore" (79 : Nat) ({ cls := "VersionStore", name := "tidy", desc := "()V" } : Jvm.MethodName)) ∈ lw_all := lw_g (lw_at lw_m0 101 rfl) rfl
theorem q113 : (Jvm.Cond.instanceMethod ({ cls := "VersionStore", name := "tidy", desc := "()V" } : Jvm.MethodName)) ∈ lw_all := lw_g (lw_at lw_m0 102 rfl) rfl
theorem q114 : (Jvm.Cond.selects "VersionStore" ({ cls := "VersionStore", name := "tidy", desc := "()V" } : Jvm.MethodName) ({ cls := "VersionStore", name := "tidy", desc := "()V" } : Jvm.MethodName)) ∈ lw_all := lw_g (lw_at lw_m0 103 rfl) rfl
theorem q115 : (Jvm.Cond.code ({ cls := "VersionStore", name := "tidy", desc := "()V" } : Jvm.MethodName) prog_1_method_11_code (2 : Nat) (Option.none : Option Jvm.ClassFile.FieldType)) ∈ lw_all := lw_g (lw_at lw_m0 104 rfl) rfl
theorem q116 : (Jvm.Cond.methodLink "VersionStore" (76 : Nat) ({ cls := "VersionStore", name := "prune", desc := "(I)V" } : Jvm.MethodName)) ∈ lw_all := lw_g (lw_at lw_m0 105 rfl) rfl
theorem q117 : (Jvm.Cond.privateMethod ({ cls := "VersionStore", name := "prune", desc := "(I)V" } : Jvm.MethodName)) ∈ lw_tbl := lw_at lw_m0 106 rfl
theorem q118 : (Jvm.Cond.instanceMethod ({ cls := "VersionStore", name := "prune", desc := "(I)V" } : Jvm.MethodName)) ∈ lw_all := lw_g (lw_at lw_m0 107 rfl) rfl
theorem q119 : (Jvm.Cond.code ({ cls := "VersionStore", name := "prune", desc := "(I)V" } : Jvm.MethodName) prog_1_method_20_code (8 : Nat) (Option.none : Option Jvm.ClassFile.FieldType)) ∈ lw_all := lw_g (lw_at lw_m0 108 rfl) rfl
theorem q120 : (Jvm.Cond.methodLink "VersionStore" (85 : Nat) ({ cls := "VersionStore", name := "isSeen", desc := "(II)Z" } : Jvm.MethodName)) ∈ lw_all := lw_g (lw_at lw_m0 109 rfl) rfl
theorem q121 : (Jvm.Cond.privateMethod ({ cls := "VersionStore", name := "isSeen", desc := "(II)Z" } : Jvm.MethodName)) ∈ lw_tbl := lw_at lw_m0 110 rfl
theorem q122 : (Jvm.Cond.instanceMethod ({ cls := "VersionStore", name := "isSeen", desc := "(II)Z" } : Jvm.MethodName)) ∈ lw_all := lw_g (lw_at lw_m0 111 rfl) rfl
theorem q123 : (Jvm.Cond.code ({ cls := "VersionStore", name := "isSeen", desc := "(II)Z" } : Jvm.MethodName) prog_1_method_21_code (4 : Nat) (Option.some Jvm.ClassFile.FieldType.boolean)) ∈ lw_all := lw_g (lw_at lw_m0 112 rfl) rfl
theorem q125 : (Jvm.Cond.instanceMethod ({ cls := "VersionStore", name := "abort", desc := "(I)I" } : Jvm.MethodName)) ∈ lw_all := lw_g (lw_at lw_m0 114 rfl) rfl
theorem q126 : (Jvm.Cond.selects "VersionStore" ({ cls := "VersionStore", name := "abort", desc := "(I)I" } : Jvm.MethodName) ({ cls := "VersionStore", name := "abort", desc := "(I)I" } : Jvm.MethodName)) ∈ lw_all := lw_g (lw_at lw_m0 115 rfl) rfl
theorem q127 : (Jvm.Cond.code ({ cls := "VersionStore", name := "abort", desc := "(I)I" } : Jvm.MethodName) prog_1_method_7_code (2 : Nat) (Option.some Jvm.ClassFile.FieldType.int)) ∈ lw_all := lw_g (lw_at lw_m0 116 rfl) rfl
theorem q129 : (Jvm.Cond.instanceMethod ({ cls := "VersionStore", name := "might", desc := "(I)I" } : Jvm.MethodName)) ∈ lw_all := lw_g (lw_at lw_m0 118 rfl) rfl
theorem q130 : (Jvm.Cond.selects "VersionStore" ({ cls := "VersionStore", name := "might", desc := "(I)I" } : Jvm.MethodName) ({ cls := "VersionStore", name := "might", desc := "(I)I" } : Jvm.MethodName)) ∈ lw_all := lw_g (lw_at lw_m0 119 rfl) rfl
theorem q131 : (Jvm.Cond.code ({ cls := "VersionStore", name := "might", desc := "(I)I" } : Jvm.MethodName) prog_1_method_8_code (2 : Nat) (Option.some Jvm.ClassFile.FieldType.int)) ∈ lw_all := lw_g (lw_at lw_m0 120 rfl) rfl
theorem q133 : (Jvm.Cond.instanceMethod ({ cls := "VersionStore", name := "committed", desc := "(I)I" } : Jvm.MethodName)) ∈ lw_all := lw_g (lw_at lw_m0 122 rfl) rfl
theorem q134 : (Jvm.Cond.selects "VersionStore" ({ cls := "VersionStore", name := "committed", desc := "(I)I" } : Jvm.MethodName) ({ cls := "VersionStore", name := "committed", desc := "(I)I" } : Jvm.MethodName)) ∈ lw_all := lw_g (lw_at lw_m0 123 rfl) rfl
theorem q135 : (Jvm.Cond.code ({ cls := "VersionStore", name := "committed", desc := "(I)I" } : Jvm.MethodName) prog_1_method_9_code (2 : Nat) (Option.some Jvm.ClassFile.FieldType.int)) ∈ lw_all := lw_g (lw_at lw_m0 124 rfl) rfl
theorem q137 : (Jvm.Cond.instanceMethod ({ cls := "VersionStore", name := "sum", desc := "(III)I" } : Jvm.MethodName)) ∈ lw_all := lw_g (lw_at lw_m0 126 rfl) rfl
theorem q138 : (Jvm.Cond.selects "VersionStore" ({ cls := "VersionStore", name := "sum", desc := "(III)I" } : Jvm.MethodName) ({ cls := "VersionStore", name := "sum", desc := "(III)I" } : Jvm.MethodName)) ∈ lw_all := lw_g (lw_at lw_m0 127 rfl) rfl
theorem q139 : (Jvm.Cond.code ({ cls := "VersionStore", name := "sum", desc := "(III)I" } : Jvm.MethodName) prog_1_method_10_code (6 : Nat) (Option.some Jvm.ClassFile.FieldType.int)) ∈ lw_all := lw_g (lw_at lw_m0 128 rfl) rfl
theorem q142 : (Jvm.Cond.instanceMethod ({ cls := "VersionStore", name := "open", desc := "()I" } : Jvm.MethodName)) ∈ lw_all := lw_g (lw_at lw_m0 131 rfl) rfl
theorem q143 : (Jvm.Cond.selects "VersionStore" ({ cls := "VersionStore", name := "open", desc := "()I" } : Jvm.MethodName) ({ cls := "VersionStore", name := "open", desc := "()I" } : Jvm.MethodName)) ∈ lw_all := lw_g (lw_at lw_m0 132 rfl) rfl
theorem q144 : (Jvm.Cond.code ({ cls := "VersionStore", name := "open", desc := "()I" } : Jvm.MethodName) prog_1_method_12_code (3 : Nat) (Option.some Jvm.ClassFile.FieldType.int)) ∈ lw_all := lw_g (lw_at lw_m0 133 rfl) rfl
theorem in_X0 : ∀ w ∈ wsX00, w ∈ lw_all := lw_in wsX00 [35, 37, 39, 41, 43, 45, 47, 49, 51, 53, 55, 57, 59] (by decide +kernel) (by decide +kernel)

theorem dX0_init_0 : decode cX0_init 0 = .ok (.aload_n 0, 1) := by decide +kernel
theorem dX0_init_1 : decode cX0_init 1 = .ok (.invokespecial 1, 3) := by decide +kernel
theorem dX0_init_4 : decode cX0_init 4 = .ok (.aload_n 0, 1) := by decide +kernel
theorem dX0_init_5 : decode cX0_init 5 = .ok (.sipush 144, 3) := by decide +kernel
theorem dX0_init_8 : decode cX0_init 8 = .ok (.newarray .int, 2) := by decide +kernel
theorem dX0_init_10 : decode cX0_init 10 = .ok (.putfield 7, 3) := by decide +kernel
theorem dX0_init_13 : decode cX0_init 13 = .ok (.aload_n 0, 1) := by decide +kernel
theorem dX0_init_14 : decode cX0_init 14 = .ok (.sipush 144, 3) := by decide +kernel
theorem dX0_init_17 : decode cX0_init 17 = .ok (.newarray .int, 2) := by decide +kernel
theorem dX0_init_19 : decode cX0_init 19 = .ok (.putfield 13, 3) := by decide +kernel
theorem dX0_init_22 : decode cX0_init 22 = .ok (.aload_n 0, 1) := by decide +kernel
theorem dX0_init_23 : decode cX0_init 23 = .ok (.sipush 144, 3) := by decide +kernel
theorem dX0_init_26 : decode cX0_init 26 = .ok (.newarray .int, 2) := by decide +kernel
theorem dX0_init_28 : decode cX0_init 28 = .ok (.putfield 16, 3) := by decide +kernel
theorem dX0_init_31 : decode cX0_init 31 = .ok (.aload_n 0, 1) := by decide +kernel
theorem dX0_init_32 : decode cX0_init 32 = .ok (.bipush 16, 2) := by decide +kernel
theorem dX0_init_34 : decode cX0_init 34 = .ok (.newarray .int, 2) := by decide +kernel
theorem dX0_init_36 : decode cX0_init 36 = .ok (.putfield 19, 3) := by decide +kernel
theorem dX0_init_39 : decode cX0_init 39 = .ok (.aload_n 0, 1) := by decide +kernel
theorem dX0_init_40 : decode cX0_init 40 = .ok (.bipush 6, 2) := by decide +kernel
theorem dX0_init_42 : decode cX0_init 42 = .ok (.newarray .boolean, 2) := by decide +kernel
theorem dX0_init_44 : decode cX0_init 44 = .ok (.putfield 22, 3) := by decide +kernel
theorem dX0_init_47 : decode cX0_init 47 = .ok (.aload_n 0, 1) := by decide +kernel
theorem dX0_init_48 : decode cX0_init 48 = .ok (.bipush 6, 2) := by decide +kernel
theorem dX0_init_50 : decode cX0_init 50 = .ok (.newarray .boolean, 2) := by decide +kernel
theorem dX0_init_52 : decode cX0_init 52 = .ok (.putfield 26, 3) := by decide +kernel
theorem dX0_init_55 : decode cX0_init 55 = .ok (.aload_n 0, 1) := by decide +kernel
theorem dX0_init_56 : decode cX0_init 56 = .ok (.bipush 6, 2) := by decide +kernel
theorem dX0_init_58 : decode cX0_init 58 = .ok (.newarray .int, 2) := by decide +kernel
theorem dX0_init_60 : decode cX0_init 60 = .ok (.putfield 29, 3) := by decide +kernel
theorem dX0_init_63 : decode cX0_init 63 = .ok (.aload_n 0, 1) := by decide +kernel
theorem dX0_init_64 : decode cX0_init 64 = .ok (.bipush 6, 2) := by decide +kernel
theorem dX0_init_66 : decode cX0_init 66 = .ok (.newarray .int, 2) := by decide +kernel
theorem dX0_init_68 : decode cX0_init 68 = .ok (.putfield 32, 3) := by decide +kernel
theorem dX0_init_71 : decode cX0_init 71 = .ok (.aload_n 0, 1) := by decide +kernel
theorem dX0_init_72 : decode cX0_init 72 = .ok (.bipush 6, 2) := by decide +kernel
theorem dX0_init_74 : decode cX0_init 74 = .ok (.newarray .int, 2) := by decide +kernel
theorem dX0_init_76 : decode cX0_init 76 = .ok (.putfield 35, 3) := by decide +kernel
theorem dX0_init_79 : decode cX0_init 79 = .ok (.aload_n 0, 1) := by decide +kernel
theorem dX0_init_80 : decode cX0_init 80 = .ok (.bipush 96, 2) := by decide +kernel
theorem dX0_init_82 : decode cX0_init 82 = .ok (.newarray .int, 2) := by decide +kernel
theorem dX0_init_84 : decode cX0_init 84 = .ok (.putfield 38, 3) := by decide +kernel
theorem dX0_init_87 : decode cX0_init 87 = .ok (.iconst 0, 1) := by decide +kernel
theorem dX0_init_88 : decode cX0_init 88 = .ok (.istore_n 1, 1) := by decide +kernel
theorem dX0_init_89 : decode cX0_init 89 = .ok (.iload_n 1, 1) := by decide +kernel
theorem dX0_init_90 : decode cX0_init 90 = .ok (.sipush 144, 3) := by decide +kernel
theorem dX0_init_93 : decode cX0_init 93 = .ok (.if_icmp .ge 29, 3) := by decide +kernel
theorem dX0_init_96 : decode cX0_init 96 = .ok (.aload_n 0, 1) := by decide +kernel
theorem dX0_init_97 : decode cX0_init 97 = .ok (.getfield 16, 3) := by decide +kernel
theorem dX0_init_100 : decode cX0_init 100 = .ok (.iload_n 1, 1) := by decide +kernel
theorem dX0_init_101 : decode cX0_init 101 = .ok (.iload_n 1, 1) := by decide +kernel
theorem dX0_init_102 : decode cX0_init 102 = .ok (.sipush 143, 3) := by decide +kernel
theorem dX0_init_105 : decode cX0_init 105 = .ok (.if_icmp .ne 7, 3) := by decide +kernel
theorem dX0_init_108 : decode cX0_init 108 = .ok (.iconst (-1), 1) := by decide +kernel
theorem dX0_init_109 : decode cX0_init 109 = .ok (.goto 6, 3) := by decide +kernel
theorem dX0_init_112 : decode cX0_init 112 = .ok (.iload_n 1, 1) := by decide +kernel
theorem dX0_init_113 : decode cX0_init 113 = .ok (.iconst 1, 1) := by decide +kernel
theorem dX0_init_114 : decode cX0_init 114 = .ok (.iadd, 1) := by decide +kernel
theorem dX0_init_115 : decode cX0_init 115 = .ok (.iastore, 1) := by decide +kernel
theorem dX0_init_116 : decode cX0_init 116 = .ok (.iinc 1 1, 3) := by decide +kernel
theorem dX0_init_119 : decode cX0_init 119 = .ok (.goto (-30), 3) := by decide +kernel
theorem dX0_init_122 : decode cX0_init 122 = .ok (.aload_n 0, 1) := by decide +kernel
theorem dX0_init_123 : decode cX0_init 123 = .ok (.sipush 144, 3) := by decide +kernel
theorem dX0_init_126 : decode cX0_init 126 = .ok (.putfield 41, 3) := by decide +kernel
theorem dX0_init_129 : decode cX0_init 129 = .ok (.iconst 0, 1) := by decide +kernel
theorem dX0_init_130 : decode cX0_init 130 = .ok (.istore_n 1, 1) := by decide +kernel
theorem dX0_init_131 : decode cX0_init 131 = .ok (.iload_n 1, 1) := by decide +kernel
theorem dX0_init_132 : decode cX0_init 132 = .ok (.bipush 16, 2) := by decide +kernel
theorem dX0_init_134 : decode cX0_init 134 = .ok (.if_icmp .ge 16, 3) := by decide +kernel
theorem dX0_init_137 : decode cX0_init 137 = .ok (.aload_n 0, 1) := by decide +kernel
theorem dX0_init_138 : decode cX0_init 138 = .ok (.getfield 19, 3) := by decide +kernel
theorem dX0_init_141 : decode cX0_init 141 = .ok (.iload_n 1, 1) := by decide +kernel
theorem dX0_init_142 : decode cX0_init 142 = .ok (.iconst (-1), 1) := by decide +kernel
theorem dX0_init_143 : decode cX0_init 143 = .ok (.iastore, 1) := by decide +kernel
theorem dX0_init_144 : decode cX0_init 144 = .ok (.iinc 1 1, 3) := by decide +kernel
theorem dX0_init_147 : decode cX0_init 147 = .ok (.goto (-16), 3) := by decide +kernel
theorem dX0_init_150 : decode cX0_init 150 = .ok (.return_, 1) := by decide +kernel
theorem dX0_begin_0 : decode cX0_begin 0 = .ok (.iconst 0, 1) := by decide +kernel
theorem dX0_begin_1 : decode cX0_begin 1 = .ok (.istore_n 2, 1) := by decide +kernel
theorem dX0_begin_2 : decode cX0_begin 2 = .ok (.iload_n 2, 1) := by decide +kernel
theorem dX0_begin_3 : decode cX0_begin 3 = .ok (.bipush 6, 2) := by decide +kernel
theorem dX0_begin_5 : decode cX0_begin 5 = .ok (.if_icmp .ge 58, 3) := by decide +kernel
theorem dX0_begin_8 : decode cX0_begin 8 = .ok (.aload_n 0, 1) := by decide +kernel
theorem dX0_begin_9 : decode cX0_begin 9 = .ok (.getfield 22, 3) := by decide +kernel
theorem dX0_begin_12 : decode cX0_begin 12 = .ok (.iload_n 2, 1) := by decide +kernel
theorem dX0_begin_13 : decode cX0_begin 13 = .ok (.baload, 1) := by decide +kernel
theorem dX0_begin_14 : decode cX0_begin 14 = .ok (.ifCond .ne 43, 3) := by decide +kernel
theorem dX0_begin_17 : decode cX0_begin 17 = .ok (.aload_n 0, 1) := by decide +kernel
theorem dX0_begin_18 : decode cX0_begin 18 = .ok (.getfield 22, 3) := by decide +kernel
theorem dX0_begin_21 : decode cX0_begin 21 = .ok (.iload_n 2, 1) := by decide +kernel
theorem dX0_begin_22 : decode cX0_begin 22 = .ok (.iconst 1, 1) := by decide +kernel
theorem dX0_begin_23 : decode cX0_begin 23 = .ok (.bastore, 1) := by decide +kernel
theorem dX0_begin_24 : decode cX0_begin 24 = .ok (.aload_n 0, 1) := by decide +kernel
theorem dX0_begin_25 : decode cX0_begin 25 = .ok (.getfield 26, 3) := by decide +kernel
theorem dX0_begin_28 : decode cX0_begin 28 = .ok (.iload_n 2, 1) := by decide +kernel
theorem dX0_begin_29 : decode cX0_begin 29 = .ok (.iload_n 1, 1) := by decide +kernel
theorem dX0_begin_30 : decode cX0_begin 30 = .ok (.bastore, 1) := by decide +kernel
theorem dX0_begin_31 : decode cX0_begin 31 = .ok (.aload_n 0, 1) := by decide +kernel
theorem dX0_begin_32 : decode cX0_begin 32 = .ok (.getfield 29, 3) := by decide +kernel
theorem dX0_begin_35 : decode cX0_begin 35 = .ok (.iload_n 2, 1) := by decide +kernel
theorem dX0_begin_36 : decode cX0_begin 36 = .ok (.aload_n 0, 1) := by decide +kernel
theorem dX0_begin_37 : decode cX0_begin 37 = .ok (.getfield 45, 3) := by decide +kernel
theorem dX0_begin_40 : decode cX0_begin 40 = .ok (.iastore, 1) := by decide +kernel
theorem dX0_begin_41 : decode cX0_begin 41 = .ok (.aload_n 0, 1) := by decide +kernel
theorem dX0_begin_42 : decode cX0_begin 42 = .ok (.getfield 32, 3) := by decide +kernel
theorem dX0_begin_45 : decode cX0_begin 45 = .ok (.iload_n 2, 1) := by decide +kernel
theorem dX0_begin_46 : decode cX0_begin 46 = .ok (.iconst 0, 1) := by decide +kernel
theorem dX0_begin_47 : decode cX0_begin 47 = .ok (.iastore, 1) := by decide +kernel
theorem dX0_begin_48 : decode cX0_begin 48 = .ok (.aload_n 0, 1) := by decide +kernel
theorem dX0_begin_49 : decode cX0_begin 49 = .ok (.getfield 35, 3) := by decide +kernel
theorem dX0_begin_52 : decode cX0_begin 52 = .ok (.iload_n 2, 1) := by decide +kernel
theorem dX0_begin_53 : decode cX0_begin 53 = .ok (.iconst 0, 1) := by decide +kernel
theorem dX0_begin_54 : decode cX0_begin 54 = .ok (.iastore, 1) := by decide +kernel
theorem dX0_begin_55 : decode cX0_begin 55 = .ok (.iload_n 2, 1) := by decide +kernel
theorem dX0_begin_56 : decode cX0_begin 56 = .ok (.ireturn, 1) := by decide +kernel
theorem dX0_begin_57 : decode cX0_begin 57 = .ok (.iinc 2 1, 3) := by decide +kernel
theorem dX0_begin_60 : decode cX0_begin 60 = .ok (.goto (-58), 3) := by decide +kernel
theorem dX0_begin_63 : decode cX0_begin 63 = .ok (.iconst (-1), 1) := by decide +kernel
theorem dX0_begin_64 : decode cX0_begin 64 = .ok (.ireturn, 1) := by decide +kernel
theorem dX0_read_0 : decode cX0_read 0 = .ok (.aload_n 0, 1) := by decide +kernel
theorem dX0_read_1 : decode cX0_read 1 = .ok (.iload_n 1, 1) := by decide +kernel
theorem dX0_read_2 : decode cX0_read 2 = .ok (.invokevirtual 48, 3) := by decide +kernel
theorem dX0_read_5 : decode cX0_read 5 = .ok (.ifCond .eq 10, 3) := by decide +kernel
theorem dX0_read_8 : decode cX0_read 8 = .ok (.iload_n 2, 1) := by decide +kernel
theorem dX0_read_9 : decode cX0_read 9 = .ok (.invokestatic 51, 3) := by decide +kernel
theorem dX0_read_12 : decode cX0_read 12 = .ok (.ifCond .ne 5, 3) := by decide +kernel
theorem dX0_read_15 : decode cX0_read 15 = .ok (.iconst 0, 1) := by decide +kernel
theorem dX0_read_16 : decode cX0_read 16 = .ok (.ireturn, 1) := by decide +kernel
theorem dX0_read_17 : decode cX0_read 17 = .ok (.aload_n 0, 1) := by decide +kernel
theorem dX0_read_18 : decode cX0_read 18 = .ok (.iload_n 1, 1) := by decide +kernel
theorem dX0_read_19 : decode cX0_read 19 = .ok (.iload_n 2, 1) := by decide +kernel
theorem dX0_read_20 : decode cX0_read 20 = .ok (.invokevirtual 54, 3) := by decide +kernel
theorem dX0_read_23 : decode cX0_read 23 = .ok (.aload_n 0, 1) := by decide +kernel
theorem dX0_read_24 : decode cX0_read 24 = .ok (.iload_n 1, 1) := by decide +kernel
theorem dX0_read_25 : decode cX0_read 25 = .ok (.iload_n 2, 1) := by decide +kernel
theorem dX0_read_26 : decode cX0_read 26 = .ok (.invokevirtual 58, 3) := by decide +kernel
theorem dX0_read_29 : decode cX0_read 29 = .ok (.ireturn, 1) := by decide +kernel
theorem dX0_isOpen_0 : decode cX0_isOpen 0 = .ok (.iload_n 1, 1) := by decide +kernel
theorem dX0_isOpen_1 : decode cX0_isOpen 1 = .ok (.ifCond .lt 21, 3) := by decide +kernel
theorem dX0_isOpen_4 : decode cX0_isOpen 4 = .ok (.iload_n 1, 1) := by decide +kernel
theorem dX0_isOpen_5 : decode cX0_isOpen 5 = .ok (.iconst 5, 1) := by decide +kernel
theorem dX0_isOpen_6 : decode cX0_isOpen 6 = .ok (.if_icmp .gt 16, 3) := by decide +kernel
theorem dX0_isOpen_9 : decode cX0_isOpen 9 = .ok (.aload_n 0, 1) := by decide +kernel
theorem dX0_isOpen_10 : decode cX0_isOpen 10 = .ok (.getfield 22, 3) := by decide +kernel
theorem dX0_isOpen_13 : decode cX0_isOpen 13 = .ok (.iload_n 1, 1) := by decide +kernel
theorem dX0_isOpen_14 : decode cX0_isOpen 14 = .ok (.baload, 1) := by decide +kernel
theorem dX0_isOpen_15 : decode cX0_isOpen 15 = .ok (.ifCond .eq 7, 3) := by decide +kernel
theorem dX0_isOpen_18 : decode cX0_isOpen 18 = .ok (.iconst 1, 1) := by decide +kernel
theorem dX0_isOpen_19 : decode cX0_isOpen 19 = .ok (.goto 4, 3) := by decide +kernel
theorem dX0_isOpen_22 : decode cX0_isOpen 22 = .ok (.iconst 0, 1) := by decide +kernel
theorem dX0_isOpen_23 : decode cX0_isOpen 23 = .ok (.ireturn, 1) := by decide +kernel
theorem dX0_isCell_0 : decode cX0_isCell 0 = .ok (.iload_n 0, 1) := by decide +kernel
theorem dX0_isCell_1 : decode cX0_isCell 1 = .ok (.ifCond .lt 13, 3) := by decide +kernel
theorem dX0_isCell_4 : decode cX0_isCell 4 = .ok (.iload_n 0, 1) := by decide +kernel
theorem dX0_isCell_5 : decode cX0_isCell 5 = .ok (.bipush 15, 2) := by decide +kernel
theorem dX0_isCell_7 : decode cX0_isCell 7 = .ok (.if_icmp .gt 7, 3) := by decide +kernel
theorem dX0_isCell_10 : decode cX0_isCell 10 = .ok (.iconst 1, 1) := by decide +kernel
theorem dX0_isCell_11 : decode cX0_isCell 11 = .ok (.goto 4, 3) := by decide +kernel
theorem dX0_isCell_14 : decode cX0_isCell 14 = .ok (.iconst 0, 1) := by decide +kernel
theorem dX0_isCell_15 : decode cX0_isCell 15 = .ok (.ireturn, 1) := by decide +kernel
theorem dX0_note_0 : decode cX0_note 0 = .ok (.aload_n 0, 1) := by decide +kernel
theorem dX0_note_1 : decode cX0_note 1 = .ok (.getfield 32, 3) := by decide +kernel
theorem dX0_note_4 : decode cX0_note 4 = .ok (.iload_n 1, 1) := by decide +kernel
theorem dX0_note_5 : decode cX0_note 5 = .ok (.iaload, 1) := by decide +kernel
theorem dX0_note_6 : decode cX0_note 6 = .ok (.iload_n 2, 1) := by decide +kernel
theorem dX0_note_7 : decode cX0_note 7 = .ok (.iushr, 1) := by decide +kernel
theorem dX0_note_8 : decode cX0_note 8 = .ok (.iconst 1, 1) := by decide +kernel
theorem dX0_note_9 : decode cX0_note 9 = .ok (.iand, 1) := by decide +kernel
theorem dX0_note_10 : decode cX0_note 10 = .ok (.ifCond .ne 15, 3) := by decide +kernel
theorem dX0_note_13 : decode cX0_note 13 = .ok (.aload_n 0, 1) := by decide +kernel
theorem dX0_note_14 : decode cX0_note 14 = .ok (.getfield 35, 3) := by decide +kernel
theorem dX0_note_17 : decode cX0_note 17 = .ok (.iload_n 1, 1) := by decide +kernel
theorem dX0_note_18 : decode cX0_note 18 = .ok (.dup2, 1) := by decide +kernel
theorem dX0_note_19 : decode cX0_note 19 = .ok (.iaload, 1) := by decide +kernel
theorem dX0_note_20 : decode cX0_note 20 = .ok (.iconst 1, 1) := by decide +kernel
theorem dX0_note_21 : decode cX0_note 21 = .ok (.iload_n 2, 1) := by decide +kernel
theorem dX0_note_22 : decode cX0_note 22 = .ok (.ishl, 1) := by decide +kernel
theorem dX0_note_23 : decode cX0_note 23 = .ok (.ior, 1) := by decide +kernel
theorem dX0_note_24 : decode cX0_note 24 = .ok (.iastore, 1) := by decide +kernel
theorem dX0_note_25 : decode cX0_note 25 = .ok (.return_, 1) := by decide +kernel
theorem dX0_visible_0 : decode cX0_visible 0 = .ok (.aload_n 0, 1) := by decide +kernel
theorem dX0_visible_1 : decode cX0_visible 1 = .ok (.getfield 32, 3) := by decide +kernel
theorem dX0_visible_4 : decode cX0_visible 4 = .ok (.iload_n 1, 1) := by decide +kernel
theorem dX0_visible_5 : decode cX0_visible 5 = .ok (.iaload, 1) := by decide +kernel
theorem dX0_visible_6 : decode cX0_visible 6 = .ok (.iload_n 2, 1) := by decide +kernel
theorem dX0_visible_7 : decode cX0_visible 7 = .ok (.iushr, 1) := by decide +kernel
theorem dX0_visible_8 : decode cX0_visible 8 = .ok (.iconst 1, 1) := by decide +kernel
theorem dX0_visible_9 : decode cX0_visible 9 = .ok (.iand, 1) := by decide +kernel
theorem dX0_visible_10 : decode cX0_visible 10 = .ok (.ifCond .eq 17, 3) := by decide +kernel
theorem dX0_visible_13 : decode cX0_visible 13 = .ok (.aload_n 0, 1) := by decide +kernel
theorem dX0_visible_14 : decode cX0_visible 14 = .ok (.getfield 38, 3) := by decide +kernel
theorem dX0_visible_17 : decode cX0_visible 17 = .ok (.bipush 16, 2) := by decide +kernel
theorem dX0_visible_19 : decode cX0_visible 19 = .ok (.iload_n 1, 1) := by decide +kernel
theorem dX0_visible_20 : decode cX0_visible 20 = .ok (.imul, 1) := by decide +kernel
theorem dX0_visible_21 : decode cX0_visible 21 = .ok (.iload_n 2, 1) := by decide +kernel
theorem dX0_visible_22 : decode cX0_visible 22 = .ok (.iadd, 1) := by decide +kernel
theorem dX0_visible_23 : decode cX0_visible 23 = .ok (.iaload, 1) := by decide +kernel
theorem dX0_visible_24 : decode cX0_visible 24 = .ok (.goto 14, 3) := by decide +kernel
theorem dX0_visible_27 : decode cX0_visible 27 = .ok (.aload_n 0, 1) := by decide +kernel
theorem dX0_visible_28 : decode cX0_visible 28 = .ok (.iload_n 2, 1) := by decide +kernel
theorem dX0_visible_29 : decode cX0_visible 29 = .ok (.aload_n 0, 1) := by decide +kernel
theorem dX0_visible_30 : decode cX0_visible 30 = .ok (.getfield 29, 3) := by decide +kernel
theorem dX0_visible_33 : decode cX0_visible 33 = .ok (.iload_n 1, 1) := by decide +kernel
theorem dX0_visible_34 : decode cX0_visible 34 = .ok (.iaload, 1) := by decide +kernel
theorem dX0_visible_35 : decode cX0_visible 35 = .ok (.invokevirtual 73, 3) := by decide +kernel
theorem dX0_visible_38 : decode cX0_visible 38 = .ok (.ireturn, 1) := by decide +kernel
theorem dX0_versionAt_0 : decode cX0_versionAt 0 = .ok (.aload_n 0, 1) := by decide +kernel
theorem dX0_versionAt_1 : decode cX0_versionAt 1 = .ok (.getfield 19, 3) := by decide +kernel
theorem dX0_versionAt_4 : decode cX0_versionAt 4 = .ok (.iload_n 1, 1) := by decide +kernel
theorem dX0_versionAt_5 : decode cX0_versionAt 5 = .ok (.iaload, 1) := by decide +kernel
theorem dX0_versionAt_6 : decode cX0_versionAt 6 = .ok (.istore_n 3, 1) := by decide +kernel
theorem dX0_versionAt_7 : decode cX0_versionAt 7 = .ok (.iconst 0, 1) := by decide +kernel
theorem dX0_versionAt_8 : decode cX0_versionAt 8 = .ok (.istore 4, 2) := by decide +kernel
theorem dX0_versionAt_10 : decode cX0_versionAt 10 = .ok (.iload 4, 2) := by decide +kernel
theorem dX0_versionAt_12 : decode cX0_versionAt 12 = .ok (.sipush 144, 3) := by decide +kernel
theorem dX0_versionAt_15 : decode cX0_versionAt 15 = .ok (.if_icmp .ge 37, 3) := by decide +kernel
theorem dX0_versionAt_18 : decode cX0_versionAt 18 = .ok (.iload_n 3, 1) := by decide +kernel
theorem dX0_versionAt_19 : decode cX0_versionAt 19 = .ok (.ifCond .lt 33, 3) := by decide +kernel
theorem dX0_versionAt_22 : decode cX0_versionAt 22 = .ok (.aload_n 0, 1) := by decide +kernel
theorem dX0_versionAt_23 : decode cX0_versionAt 23 = .ok (.getfield 13, 3) := by decide +kernel
theorem dX0_versionAt_26 : decode cX0_versionAt 26 = .ok (.iload_n 3, 1) := by decide +kernel
theorem dX0_versionAt_27 : decode cX0_versionAt 27 = .ok (.iaload, 1) := by decide +kernel
theorem dX0_versionAt_28 : decode cX0_versionAt 28 = .ok (.iload_n 2, 1) := by decide +kernel
theorem dX0_versionAt_29 : decode cX0_versionAt 29 = .ok (.if_icmp .gt 10, 3) := by decide +kernel
theorem dX0_versionAt_32 : decode cX0_versionAt 32 = .ok (.aload_n 0, 1) := by decide +kernel
theorem dX0_versionAt_33 : decode cX0_versionAt 33 = .ok (.getfield 7, 3) := by decide +kernel
theorem dX0_versionAt_36 : decode cX0_versionAt 36 = .ok (.iload_n 3, 1) := by decide +kernel
theorem dX0_versionAt_37 : decode cX0_versionAt 37 = .ok (.iaload, 1) := by decide +kernel
theorem dX0_versionAt_38 : decode cX0_versionAt 38 = .ok (.ireturn, 1) := by decide +kernel
theorem dX0_versionAt_39 : decode cX0_versionAt 39 = .ok (.aload_n 0, 1) := by decide +kernel
theorem dX0_versionAt_40 : decode cX0_versionAt 40 = .ok (.getfield 16, 3) := by decide +kernel
theorem dX0_versionAt_43 : decode cX0_versionAt 43 = .ok (.iload_n 3, 1) := by decide +kernel
theorem dX0_versionAt_44 : decode cX0_versionAt 44 = .ok (.iaload, 1) := by decide +kernel
theorem dX0_versionAt_45 : decode cX0_versionAt 45 = .ok (.istore_n 3, 1) := by decide +kernel
theorem dX0_versionAt_46 : decode cX0_versionAt 46 = .ok (.iinc 4 1, 3) := by decide +kernel
theorem dX0_versionAt_49 : decode cX0_versionAt 49 = .ok (.goto (-39), 3) := by decide +kernel
theorem dX0_versionAt_52 : decode cX0_versionAt 52 = .ok (.iconst 0, 1) := by decide +kernel
theorem dX0_versionAt_53 : decode cX0_versionAt 53 = .ok (.ireturn, 1) := by decide +kernel
theorem dX0_write_0 : decode cX0_write 0 = .ok (.aload_n 0, 1) := by decide +kernel
theorem dX0_write_1 : decode cX0_write 1 = .ok (.iload_n 1, 1) := by decide +kernel
theorem dX0_write_2 : decode cX0_write 2 = .ok (.invokevirtual 48, 3) := by decide +kernel
theorem dX0_write_5 : decode cX0_write 5 = .ok (.ifCond .eq 10, 3) := by decide +kernel
theorem dX0_write_8 : decode cX0_write 8 = .ok (.iload_n 2, 1) := by decide +kernel
theorem dX0_write_9 : decode cX0_write 9 = .ok (.invokestatic 51, 3) := by decide +kernel
theorem dX0_write_12 : decode cX0_write 12 = .ok (.ifCond .ne 5, 3) := by decide +kernel
theorem dX0_write_15 : decode cX0_write 15 = .ok (.iconst (-1), 1) := by decide +kernel
theorem dX0_write_16 : decode cX0_write 16 = .ok (.ireturn, 1) := by decide +kernel
theorem dX0_write_17 : decode cX0_write 17 = .ok (.aload_n 0, 1) := by decide +kernel
theorem dX0_write_18 : decode cX0_write 18 = .ok (.getfield 38, 3) := by decide +kernel
theorem dX0_write_21 : decode cX0_write 21 = .ok (.bipush 16, 2) := by decide +kernel
theorem dX0_write_23 : decode cX0_write 23 = .ok (.iload_n 1, 1) := by decide +kernel
theorem dX0_write_24 : decode cX0_write 24 = .ok (.imul, 1) := by decide +kernel
theorem dX0_write_25 : decode cX0_write 25 = .ok (.iload_n 2, 1) := by decide +kernel
theorem dX0_write_26 : decode cX0_write 26 = .ok (.iadd, 1) := by decide +kernel
theorem dX0_write_27 : decode cX0_write 27 = .ok (.iload_n 3, 1) := by decide +kernel
theorem dX0_write_28 : decode cX0_write 28 = .ok (.iastore, 1) := by decide +kernel
theorem dX0_write_29 : decode cX0_write 29 = .ok (.aload_n 0, 1) := by decide +kernel
theorem dX0_write_30 : decode cX0_write 30 = .ok (.getfield 32, 3) := by decide +kernel
theorem dX0_write_33 : decode cX0_write 33 = .ok (.iload_n 1, 1) := by decide +kernel
theorem dX0_write_34 : decode cX0_write 34 = .ok (.dup2, 1) := by decide +kernel
theorem dX0_write_35 : decode cX0_write 35 = .ok (.iaload, 1) := by decide +kernel
theorem dX0_write_36 : decode cX0_write 36 = .ok (.iconst 1, 1) := by decide +kernel
theorem dX0_write_37 : decode cX0_write 37 = .ok (.iload_n 2, 1) := by decide +kernel
theorem dX0_write_38 : decode cX0_write 38 = .ok (.ishl, 1) := by decide +kernel
theorem dX0_write_39 : decode cX0_write 39 = .ok (.ior, 1) := by decide +kernel
theorem dX0_write_40 : decode cX0_write 40 = .ok (.iastore, 1) := by decide +kernel
theorem dX0_write_41 : decode cX0_write 41 = .ok (.iconst 0, 1) := by decide +kernel
theorem dX0_write_42 : decode cX0_write 42 = .ok (.ireturn, 1) := by decide +kernel
theorem dX0_add_0 : decode cX0_add 0 = .ok (.aload_n 0, 1) := by decide +kernel
theorem dX0_add_1 : decode cX0_add 1 = .ok (.iload_n 1, 1) := by decide +kernel
theorem dX0_add_2 : decode cX0_add 2 = .ok (.invokevirtual 48, 3) := by decide +kernel
theorem dX0_add_5 : decode cX0_add 5 = .ok (.ifCond .eq 10, 3) := by decide +kernel
theorem dX0_add_8 : decode cX0_add 8 = .ok (.iload_n 2, 1) := by decide +kernel
theorem dX0_add_9 : decode cX0_add 9 = .ok (.invokestatic 51, 3) := by decide +kernel
theorem dX0_add_12 : decode cX0_add 12 = .ok (.ifCond .ne 5, 3) := by decide +kernel
theorem dX0_add_15 : decode cX0_add 15 = .ok (.iconst 0, 1) := by decide +kernel
theorem dX0_add_16 : decode cX0_add 16 = .ok (.ireturn, 1) := by decide +kernel
theorem dX0_add_17 : decode cX0_add 17 = .ok (.aload_n 0, 1) := by decide +kernel
theorem dX0_add_18 : decode cX0_add 18 = .ok (.iload_n 1, 1) := by decide +kernel
theorem dX0_add_19 : decode cX0_add 19 = .ok (.iload_n 2, 1) := by decide +kernel
theorem dX0_add_20 : decode cX0_add 20 = .ok (.invokevirtual 54, 3) := by decide +kernel
theorem dX0_add_23 : decode cX0_add 23 = .ok (.aload_n 0, 1) := by decide +kernel
theorem dX0_add_24 : decode cX0_add 24 = .ok (.iload_n 1, 1) := by decide +kernel
theorem dX0_add_25 : decode cX0_add 25 = .ok (.iload_n 2, 1) := by decide +kernel
theorem dX0_add_26 : decode cX0_add 26 = .ok (.invokevirtual 58, 3) := by decide +kernel
theorem dX0_add_29 : decode cX0_add 29 = .ok (.iload_n 3, 1) := by decide +kernel
theorem dX0_add_30 : decode cX0_add 30 = .ok (.iadd, 1) := by decide +kernel
theorem dX0_add_31 : decode cX0_add 31 = .ok (.istore 4, 2) := by decide +kernel
theorem dX0_add_33 : decode cX0_add 33 = .ok (.aload_n 0, 1) := by decide +kernel
theorem dX0_add_34 : decode cX0_add 34 = .ok (.iload_n 1, 1) := by decide +kernel
theorem dX0_add_35 : decode cX0_add 35 = .ok (.iload_n 2, 1) := by decide +kernel
theorem dX0_add_36 : decode cX0_add 36 = .ok (.iload 4, 2) := by decide +kernel
theorem dX0_add_38 : decode cX0_add 38 = .ok (.invokevirtual 62, 3) := by decide +kernel
theorem dX0_add_41 : decode cX0_add 41 = .ok (.pop, 1) := by decide +kernel
theorem dX0_add_42 : decode cX0_add 42 = .ok (.iload 4, 2) := by decide +kernel
theorem dX0_add_44 : decode cX0_add 44 = .ok (.ireturn, 1) := by decide +kernel
end
section
set_option maxRecDepth 100000
theorem dX0_commit_0 : decode cX0_commit 0 = .ok (.aload_n 0, 1) := by decide +kernel
theorem dX0_commit_1 : decode cX0_commit 1 = .ok (.iload_n 1, 1) := by decide +kernel
theorem dX0_commit_2 : decode cX0_commit 2 = .ok (.invokevirtual 48, 3) := by decide +kernel
theorem dX0_commit_5 : decode cX0_commit 5 = .ok (.ifCond .ne 5, 3) := by decide +kernel
theorem dX0_commit_8 : decode cX0_commit 8 = .ok (.iconst (-1), 1) := by decide +kernel
theorem dX0_commit_9 : decode cX0_commit 9 = .ok (.ireturn, 1) := by decide +kernel
theorem dX0_commit_10 : decode cX0_commit 10 = .ok (.aload_n 0, 1) := by decide +kernel
theorem dX0_commit_11 : decode cX0_commit 11 = .ok (.iload_n 1, 1) := by decide +kernel
theorem dX0_commit_12 : decode cX0_commit 12 = .ok (.invokevirtual 66, 3) := by decide +kernel
theorem dX0_commit_15 : decode cX0_commit 15 = .ok (.istore_n 2, 1) := by decide +kernel
theorem dX0_commit_16 : decode cX0_commit 16 = .ok (.aload_n 0, 1) := by decide +kernel
theorem dX0_commit_17 : decode cX0_commit 17 = .ok (.getfield 22, 3) := by decide +kernel
theorem dX0_commit_20 : decode cX0_commit 20 = .ok (.iload_n 1, 1) := by decide +kernel
theorem dX0_commit_21 : decode cX0_commit 21 = .ok (.iconst 0, 1) := by decide +kernel
theorem dX0_commit_22 : decode cX0_commit 22 = .ok (.bastore, 1) := by decide +kernel
theorem dX0_commit_23 : decode cX0_commit 23 = .ok (.iload_n 2, 1) := by decide +kernel
theorem dX0_commit_24 : decode cX0_commit 24 = .ok (.ifCond .ne 5, 3) := by decide +kernel
theorem dX0_commit_27 : decode cX0_commit 27 = .ok (.iconst 1, 1) := by decide +kernel
theorem dX0_commit_28 : decode cX0_commit 28 = .ok (.ireturn, 1) := by decide +kernel
theorem dX0_commit_29 : decode cX0_commit 29 = .ok (.aload_n 0, 1) := by decide +kernel
theorem dX0_commit_30 : decode cX0_commit 30 = .ok (.getfield 32, 3) := by decide +kernel
theorem dX0_commit_33 : decode cX0_commit 33 = .ok (.iload_n 1, 1) := by decide +kernel
theorem dX0_commit_34 : decode cX0_commit 34 = .ok (.iaload, 1) := by decide +kernel
theorem dX0_commit_35 : decode cX0_commit 35 = .ok (.ifCond .eq 8, 3) := by decide +kernel
theorem dX0_commit_38 : decode cX0_commit 38 = .ok (.aload_n 0, 1) := by decide +kernel
theorem dX0_commit_39 : decode cX0_commit 39 = .ok (.iload_n 1, 1) := by decide +kernel
theorem dX0_commit_40 : decode cX0_commit 40 = .ok (.invokevirtual 69, 3) := by decide +kernel
theorem dX0_commit_43 : decode cX0_commit 43 = .ok (.iconst 0, 1) := by decide +kernel
theorem dX0_commit_44 : decode cX0_commit 44 = .ok (.ireturn, 1) := by decide +kernel
theorem dX0_mayCommit_0 : decode cX0_mayCommit 0 = .ok (.aload_n 0, 1) := by decide +kernel
theorem dX0_mayCommit_1 : decode cX0_mayCommit 1 = .ok (.getfield 26, 3) := by decide +kernel
theorem dX0_mayCommit_4 : decode cX0_mayCommit 4 = .ok (.iload_n 1, 1) := by decide +kernel
theorem dX0_mayCommit_5 : decode cX0_mayCommit 5 = .ok (.baload, 1) := by decide +kernel
theorem dX0_mayCommit_6 : decode cX0_mayCommit 6 = .ok (.ifCond .eq 19, 3) := by decide +kernel
theorem dX0_mayCommit_9 : decode cX0_mayCommit 9 = .ok (.aload_n 0, 1) := by decide +kernel
theorem dX0_mayCommit_10 : decode cX0_mayCommit 10 = .ok (.getfield 32, 3) := by decide +kernel
theorem dX0_mayCommit_13 : decode cX0_mayCommit 13 = .ok (.iload_n 1, 1) := by decide +kernel
theorem dX0_mayCommit_14 : decode cX0_mayCommit 14 = .ok (.iaload, 1) := by decide +kernel
theorem dX0_mayCommit_15 : decode cX0_mayCommit 15 = .ok (.aload_n 0, 1) := by decide +kernel
theorem dX0_mayCommit_16 : decode cX0_mayCommit 16 = .ok (.getfield 35, 3) := by decide +kernel
theorem dX0_mayCommit_19 : decode cX0_mayCommit 19 = .ok (.iload_n 1, 1) := by decide +kernel
theorem dX0_mayCommit_20 : decode cX0_mayCommit 20 = .ok (.iaload, 1) := by decide +kernel
theorem dX0_mayCommit_21 : decode cX0_mayCommit 21 = .ok (.ior, 1) := by decide +kernel
theorem dX0_mayCommit_22 : decode cX0_mayCommit 22 = .ok (.goto 9, 3) := by decide +kernel
theorem dX0_mayCommit_25 : decode cX0_mayCommit 25 = .ok (.aload_n 0, 1) := by decide +kernel
theorem dX0_mayCommit_26 : decode cX0_mayCommit 26 = .ok (.getfield 32, 3) := by decide +kernel
theorem dX0_mayCommit_29 : decode cX0_mayCommit 29 = .ok (.iload_n 1, 1) := by decide +kernel
theorem dX0_mayCommit_30 : decode cX0_mayCommit 30 = .ok (.iaload, 1) := by decide +kernel
theorem dX0_mayCommit_31 : decode cX0_mayCommit 31 = .ok (.istore_n 2, 1) := by decide +kernel
theorem dX0_mayCommit_32 : decode cX0_mayCommit 32 = .ok (.iconst 0, 1) := by decide +kernel
theorem dX0_mayCommit_33 : decode cX0_mayCommit 33 = .ok (.istore_n 3, 1) := by decide +kernel
theorem dX0_mayCommit_34 : decode cX0_mayCommit 34 = .ok (.iload_n 3, 1) := by decide +kernel
theorem dX0_mayCommit_35 : decode cX0_mayCommit 35 = .ok (.bipush 16, 2) := by decide +kernel
theorem dX0_mayCommit_37 : decode cX0_mayCommit 37 = .ok (.if_icmp .ge 60, 3) := by decide +kernel
theorem dX0_mayCommit_40 : decode cX0_mayCommit 40 = .ok (.aload_n 0, 1) := by decide +kernel
theorem dX0_mayCommit_41 : decode cX0_mayCommit 41 = .ok (.getfield 19, 3) := by decide +kernel
theorem dX0_mayCommit_44 : decode cX0_mayCommit 44 = .ok (.iload_n 3, 1) := by decide +kernel
theorem dX0_mayCommit_45 : decode cX0_mayCommit 45 = .ok (.iaload, 1) := by decide +kernel
theorem dX0_mayCommit_46 : decode cX0_mayCommit 46 = .ok (.ifCond .lt 27, 3) := by decide +kernel
theorem dX0_mayCommit_49 : decode cX0_mayCommit 49 = .ok (.aload_n 0, 1) := by decide +kernel
theorem dX0_mayCommit_50 : decode cX0_mayCommit 50 = .ok (.getfield 13, 3) := by decide +kernel
theorem dX0_mayCommit_53 : decode cX0_mayCommit 53 = .ok (.aload_n 0, 1) := by decide +kernel
theorem dX0_mayCommit_54 : decode cX0_mayCommit 54 = .ok (.getfield 19, 3) := by decide +kernel
theorem dX0_mayCommit_57 : decode cX0_mayCommit 57 = .ok (.iload_n 3, 1) := by decide +kernel
theorem dX0_mayCommit_58 : decode cX0_mayCommit 58 = .ok (.iaload, 1) := by decide +kernel
theorem dX0_mayCommit_59 : decode cX0_mayCommit 59 = .ok (.iaload, 1) := by decide +kernel
theorem dX0_mayCommit_60 : decode cX0_mayCommit 60 = .ok (.aload_n 0, 1) := by decide +kernel
theorem dX0_mayCommit_61 : decode cX0_mayCommit 61 = .ok (.getfield 29, 3) := by decide +kernel
theorem dX0_mayCommit_64 : decode cX0_mayCommit 64 = .ok (.iload_n 1, 1) := by decide +kernel
theorem dX0_mayCommit_65 : decode cX0_mayCommit 65 = .ok (.iaload, 1) := by decide +kernel
theorem dX0_mayCommit_66 : decode cX0_mayCommit 66 = .ok (.if_icmp .le 7, 3) := by decide +kernel
theorem dX0_mayCommit_69 : decode cX0_mayCommit 69 = .ok (.iconst 1, 1) := by decide +kernel
theorem dX0_mayCommit_70 : decode cX0_mayCommit 70 = .ok (.goto 4, 3) := by decide +kernel
theorem dX0_mayCommit_73 : decode cX0_mayCommit 73 = .ok (.iconst 0, 1) := by decide +kernel
theorem dX0_mayCommit_74 : decode cX0_mayCommit 74 = .ok (.istore 4, 2) := by decide +kernel
theorem dX0_mayCommit_76 : decode cX0_mayCommit 76 = .ok (.iload_n 2, 1) := by decide +kernel
theorem dX0_mayCommit_77 : decode cX0_mayCommit 77 = .ok (.iload_n 3, 1) := by decide +kernel
theorem dX0_mayCommit_78 : decode cX0_mayCommit 78 = .ok (.iushr, 1) := by decide +kernel
theorem dX0_mayCommit_79 : decode cX0_mayCommit 79 = .ok (.iconst 1, 1) := by decide +kernel
theorem dX0_mayCommit_80 : decode cX0_mayCommit 80 = .ok (.iand, 1) := by decide +kernel
theorem dX0_mayCommit_81 : decode cX0_mayCommit 81 = .ok (.ifCond .eq 10, 3) := by decide +kernel
theorem dX0_mayCommit_84 : decode cX0_mayCommit 84 = .ok (.iload 4, 2) := by decide +kernel
theorem dX0_mayCommit_86 : decode cX0_mayCommit 86 = .ok (.ifCond .eq 5, 3) := by decide +kernel
theorem dX0_mayCommit_89 : decode cX0_mayCommit 89 = .ok (.iconst 0, 1) := by decide +kernel
theorem dX0_mayCommit_90 : decode cX0_mayCommit 90 = .ok (.ireturn, 1) := by decide +kernel
theorem dX0_mayCommit_91 : decode cX0_mayCommit 91 = .ok (.iinc 3 1, 3) := by decide +kernel
theorem dX0_mayCommit_94 : decode cX0_mayCommit 94 = .ok (.goto (-60), 3) := by decide +kernel
theorem dX0_mayCommit_97 : decode cX0_mayCommit 97 = .ok (.iconst 1, 1) := by decide +kernel
theorem dX0_mayCommit_98 : decode cX0_mayCommit 98 = .ok (.ireturn, 1) := by decide +kernel
theorem dX0_install_0 : decode cX0_install 0 = .ok (.aload_n 0, 1) := by decide +kernel
theorem dX0_install_1 : decode cX0_install 1 = .ok (.getfield 41, 3) := by decide +kernel
theorem dX0_install_4 : decode cX0_install 4 = .ok (.bipush 16, 2) := by decide +kernel
theorem dX0_install_6 : decode cX0_install 6 = .ok (.if_icmp .ge 7, 3) := by decide +kernel
theorem dX0_install_9 : decode cX0_install 9 = .ok (.aload_n 0, 1) := by decide +kernel
theorem dX0_install_10 : decode cX0_install 10 = .ok (.invokevirtual 79, 3) := by decide +kernel
theorem dX0_install_13 : decode cX0_install 13 = .ok (.aload_n 0, 1) := by decide +kernel
theorem dX0_install_14 : decode cX0_install 14 = .ok (.dup, 1) := by decide +kernel
theorem dX0_install_15 : decode cX0_install 15 = .ok (.getfield 45, 3) := by decide +kernel
theorem dX0_install_18 : decode cX0_install 18 = .ok (.iconst 1, 1) := by decide +kernel
theorem dX0_install_19 : decode cX0_install 19 = .ok (.iadd, 1) := by decide +kernel
theorem dX0_install_20 : decode cX0_install 20 = .ok (.putfield 45, 3) := by decide +kernel
theorem dX0_install_23 : decode cX0_install 23 = .ok (.iconst 0, 1) := by decide +kernel
theorem dX0_install_24 : decode cX0_install 24 = .ok (.istore_n 2, 1) := by decide +kernel
theorem dX0_install_25 : decode cX0_install 25 = .ok (.iload_n 2, 1) := by decide +kernel
theorem dX0_install_26 : decode cX0_install 26 = .ok (.bipush 16, 2) := by decide +kernel
theorem dX0_install_28 : decode cX0_install 28 = .ok (.if_icmp .ge 93, 3) := by decide +kernel
theorem dX0_install_31 : decode cX0_install 31 = .ok (.aload_n 0, 1) := by decide +kernel
theorem dX0_install_32 : decode cX0_install 32 = .ok (.getfield 32, 3) := by decide +kernel
theorem dX0_install_35 : decode cX0_install 35 = .ok (.iload_n 1, 1) := by decide +kernel
theorem dX0_install_36 : decode cX0_install 36 = .ok (.iaload, 1) := by decide +kernel
theorem dX0_install_37 : decode cX0_install 37 = .ok (.iload_n 2, 1) := by decide +kernel
theorem dX0_install_38 : decode cX0_install 38 = .ok (.iushr, 1) := by decide +kernel
theorem dX0_install_39 : decode cX0_install 39 = .ok (.iconst 1, 1) := by decide +kernel
theorem dX0_install_40 : decode cX0_install 40 = .ok (.iand, 1) := by decide +kernel
theorem dX0_install_41 : decode cX0_install 41 = .ok (.ifCond .eq 74, 3) := by decide +kernel
theorem dX0_install_44 : decode cX0_install 44 = .ok (.aload_n 0, 1) := by decide +kernel
theorem dX0_install_45 : decode cX0_install 45 = .ok (.getfield 82, 3) := by decide +kernel
theorem dX0_install_48 : decode cX0_install 48 = .ok (.istore_n 3, 1) := by decide +kernel
theorem dX0_install_49 : decode cX0_install 49 = .ok (.aload_n 0, 1) := by decide +kernel
theorem dX0_install_50 : decode cX0_install 50 = .ok (.aload_n 0, 1) := by decide +kernel
theorem dX0_install_51 : decode cX0_install 51 = .ok (.getfield 16, 3) := by decide +kernel
theorem dX0_install_54 : decode cX0_install 54 = .ok (.iload_n 3, 1) := by decide +kernel
theorem dX0_install_55 : decode cX0_install 55 = .ok (.iaload, 1) := by decide +kernel
theorem dX0_install_56 : decode cX0_install 56 = .ok (.putfield 82, 3) := by decide +kernel
theorem dX0_install_59 : decode cX0_install 59 = .ok (.aload_n 0, 1) := by decide +kernel
theorem dX0_install_60 : decode cX0_install 60 = .ok (.dup, 1) := by decide +kernel
theorem dX0_install_61 : decode cX0_install 61 = .ok (.getfield 41, 3) := by decide +kernel
theorem dX0_install_64 : decode cX0_install 64 = .ok (.iconst 1, 1) := by decide +kernel
theorem dX0_install_65 : decode cX0_install 65 = .ok (.isub, 1) := by decide +kernel
theorem dX0_install_66 : decode cX0_install 66 = .ok (.putfield 41, 3) := by decide +kernel
theorem dX0_install_69 : decode cX0_install 69 = .ok (.aload_n 0, 1) := by decide +kernel
theorem dX0_install_70 : decode cX0_install 70 = .ok (.getfield 7, 3) := by decide +kernel
theorem dX0_install_73 : decode cX0_install 73 = .ok (.iload_n 3, 1) := by decide +kernel
theorem dX0_install_74 : decode cX0_install 74 = .ok (.aload_n 0, 1) := by decide +kernel
theorem dX0_install_75 : decode cX0_install 75 = .ok (.getfield 38, 3) := by decide +kernel
theorem dX0_install_78 : decode cX0_install 78 = .ok (.bipush 16, 2) := by decide +kernel
theorem dX0_install_80 : decode cX0_install 80 = .ok (.iload_n 1, 1) := by decide +kernel
theorem dX0_install_81 : decode cX0_install 81 = .ok (.imul, 1) := by decide +kernel
theorem dX0_install_82 : decode cX0_install 82 = .ok (.iload_n 2, 1) := by decide +kernel
theorem dX0_install_83 : decode cX0_install 83 = .ok (.iadd, 1) := by decide +kernel
theorem dX0_install_84 : decode cX0_install 84 = .ok (.iaload, 1) := by decide +kernel
theorem dX0_install_85 : decode cX0_install 85 = .ok (.iastore, 1) := by decide +kernel
theorem dX0_install_86 : decode cX0_install 86 = .ok (.aload_n 0, 1) := by decide +kernel
theorem dX0_install_87 : decode cX0_install 87 = .ok (.getfield 13, 3) := by decide +kernel
theorem dX0_install_90 : decode cX0_install 90 = .ok (.iload_n 3, 1) := by decide +kernel
theorem dX0_install_91 : decode cX0_install 91 = .ok (.aload_n 0, 1) := by decide +kernel
theorem dX0_install_92 : decode cX0_install 92 = .ok (.getfield 45, 3) := by decide +kernel
theorem dX0_install_95 : decode cX0_install 95 = .ok (.iastore, 1) := by decide +kernel
theorem dX0_install_96 : decode cX0_install 96 = .ok (.aload_n 0, 1) := by decide +kernel
theorem dX0_install_97 : decode cX0_install 97 = .ok (.getfield 16, 3) := by decide +kernel
theorem dX0_install_100 : decode cX0_install 100 = .ok (.iload_n 3, 1) := by decide +kernel
theorem dX0_install_101 : decode cX0_install 101 = .ok (.aload_n 0, 1) := by decide +kernel
theorem dX0_install_102 : decode cX0_install 102 = .ok (.getfield 19, 3) := by decide +kernel
theorem dX0_install_105 : decode cX0_install 105 = .ok (.iload_n 2, 1) := by decide +kernel
theorem dX0_install_106 : decode cX0_install 106 = .ok (.iaload, 1) := by decide +kernel
theorem dX0_install_107 : decode cX0_install 107 = .ok (.iastore, 1) := by decide +kernel
theorem dX0_install_108 : decode cX0_install 108 = .ok (.aload_n 0, 1) := by decide +kernel
theorem dX0_install_109 : decode cX0_install 109 = .ok (.getfield 19, 3) := by decide +kernel
theorem dX0_install_112 : decode cX0_install 112 = .ok (.iload_n 2, 1) := by decide +kernel
theorem dX0_install_113 : decode cX0_install 113 = .ok (.iload_n 3, 1) := by decide +kernel
theorem dX0_install_114 : decode cX0_install 114 = .ok (.iastore, 1) := by decide +kernel
theorem dX0_install_115 : decode cX0_install 115 = .ok (.iinc 2 1, 3) := by decide +kernel
theorem dX0_install_118 : decode cX0_install 118 = .ok (.goto (-93), 3) := by decide +kernel
theorem dX0_install_121 : decode cX0_install 121 = .ok (.return_, 1) := by decide +kernel
theorem dX0_tidy_0 : decode cX0_tidy 0 = .ok (.iconst 0, 1) := by decide +kernel
theorem dX0_tidy_1 : decode cX0_tidy 1 = .ok (.istore_n 1, 1) := by decide +kernel
theorem dX0_tidy_2 : decode cX0_tidy 2 = .ok (.iload_n 1, 1) := by decide +kernel
theorem dX0_tidy_3 : decode cX0_tidy 3 = .ok (.bipush 16, 2) := by decide +kernel
theorem dX0_tidy_5 : decode cX0_tidy 5 = .ok (.if_icmp .ge 14, 3) := by decide +kernel
theorem dX0_tidy_8 : decode cX0_tidy 8 = .ok (.aload_n 0, 1) := by decide +kernel
theorem dX0_tidy_9 : decode cX0_tidy 9 = .ok (.iload_n 1, 1) := by decide +kernel
theorem dX0_tidy_10 : decode cX0_tidy 10 = .ok (.invokevirtual 76, 3) := by decide +kernel
theorem dX0_tidy_13 : decode cX0_tidy 13 = .ok (.iinc 1 1, 3) := by decide +kernel
theorem dX0_tidy_16 : decode cX0_tidy 16 = .ok (.goto (-14), 3) := by decide +kernel
theorem dX0_tidy_19 : decode cX0_tidy 19 = .ok (.return_, 1) := by decide +kernel
theorem dX0_prune_0 : decode cX0_prune 0 = .ok (.aload_n 0, 1) := by decide +kernel
theorem dX0_prune_1 : decode cX0_prune 1 = .ok (.getfield 19, 3) := by decide +kernel
theorem dX0_prune_4 : decode cX0_prune 4 = .ok (.iload_n 1, 1) := by decide +kernel
theorem dX0_prune_5 : decode cX0_prune 5 = .ok (.iaload, 1) := by decide +kernel
theorem dX0_prune_6 : decode cX0_prune 6 = .ok (.istore_n 2, 1) := by decide +kernel
theorem dX0_prune_7 : decode cX0_prune 7 = .ok (.iload_n 2, 1) := by decide +kernel
theorem dX0_prune_8 : decode cX0_prune 8 = .ok (.ifCond .ge 4, 3) := by decide +kernel
theorem dX0_prune_11 : decode cX0_prune 11 = .ok (.return_, 1) := by decide +kernel
theorem dX0_prune_12 : decode cX0_prune 12 = .ok (.aload_n 0, 1) := by decide +kernel
theorem dX0_prune_13 : decode cX0_prune 13 = .ok (.getfield 16, 3) := by decide +kernel
theorem dX0_prune_16 : decode cX0_prune 16 = .ok (.iload_n 2, 1) := by decide +kernel
theorem dX0_prune_17 : decode cX0_prune 17 = .ok (.iaload, 1) := by decide +kernel
theorem dX0_prune_18 : decode cX0_prune 18 = .ok (.istore_n 3, 1) := by decide +kernel
theorem dX0_prune_19 : decode cX0_prune 19 = .ok (.aload_n 0, 1) := by decide +kernel
theorem dX0_prune_20 : decode cX0_prune 20 = .ok (.getfield 13, 3) := by decide +kernel
theorem dX0_prune_23 : decode cX0_prune 23 = .ok (.iload_n 2, 1) := by decide +kernel
theorem dX0_prune_24 : decode cX0_prune 24 = .ok (.iaload, 1) := by decide +kernel
theorem dX0_prune_25 : decode cX0_prune 25 = .ok (.istore 4, 2) := by decide +kernel
theorem dX0_prune_27 : decode cX0_prune 27 = .ok (.iconst 0, 1) := by decide +kernel
theorem dX0_prune_28 : decode cX0_prune 28 = .ok (.istore 5, 2) := by decide +kernel
theorem dX0_prune_30 : decode cX0_prune 30 = .ok (.iload 5, 2) := by decide +kernel
theorem dX0_prune_32 : decode cX0_prune 32 = .ok (.sipush 144, 3) := by decide +kernel
theorem dX0_prune_35 : decode cX0_prune 35 = .ok (.if_icmp .ge 85, 3) := by decide +kernel
theorem dX0_prune_38 : decode cX0_prune 38 = .ok (.iload_n 3, 1) := by decide +kernel
theorem dX0_prune_39 : decode cX0_prune 39 = .ok (.ifCond .lt 81, 3) := by decide +kernel
theorem dX0_prune_42 : decode cX0_prune 42 = .ok (.aload_n 0, 1) := by decide +kernel
theorem dX0_prune_43 : decode cX0_prune 43 = .ok (.getfield 16, 3) := by decide +kernel
theorem dX0_prune_46 : decode cX0_prune 46 = .ok (.iload_n 3, 1) := by decide +kernel
theorem dX0_prune_47 : decode cX0_prune 47 = .ok (.iaload, 1) := by decide +kernel
theorem dX0_prune_48 : decode cX0_prune 48 = .ok (.istore 6, 2) := by decide +kernel
theorem dX0_prune_50 : decode cX0_prune 50 = .ok (.aload_n 0, 1) := by decide +kernel
theorem dX0_prune_51 : decode cX0_prune 51 = .ok (.getfield 13, 3) := by decide +kernel
theorem dX0_prune_54 : decode cX0_prune 54 = .ok (.iload_n 3, 1) := by decide +kernel
theorem dX0_prune_55 : decode cX0_prune 55 = .ok (.iaload, 1) := by decide +kernel
theorem dX0_prune_56 : decode cX0_prune 56 = .ok (.istore 7, 2) := by decide +kernel
theorem dX0_prune_58 : decode cX0_prune 58 = .ok (.aload_n 0, 1) := by decide +kernel
theorem dX0_prune_59 : decode cX0_prune 59 = .ok (.iload 7, 2) := by decide +kernel
theorem dX0_prune_61 : decode cX0_prune 61 = .ok (.iload 4, 2) := by decide +kernel
theorem dX0_prune_63 : decode cX0_prune 63 = .ok (.invokevirtual 85, 3) := by decide +kernel
theorem dX0_prune_66 : decode cX0_prune 66 = .ok (.ifCond .eq 8, 3) := by decide +kernel
theorem dX0_prune_69 : decode cX0_prune 69 = .ok (.iload_n 3, 1) := by decide +kernel
theorem dX0_prune_70 : decode cX0_prune 70 = .ok (.istore_n 2, 1) := by decide +kernel
theorem dX0_prune_71 : decode cX0_prune 71 = .ok (.goto 36, 3) := by decide +kernel
theorem dX0_prune_74 : decode cX0_prune 74 = .ok (.aload_n 0, 1) := by decide +kernel
theorem dX0_prune_75 : decode cX0_prune 75 = .ok (.getfield 16, 3) := by decide +kernel
theorem dX0_prune_78 : decode cX0_prune 78 = .ok (.iload_n 2, 1) := by decide +kernel
theorem dX0_prune_79 : decode cX0_prune 79 = .ok (.iload 6, 2) := by decide +kernel
theorem dX0_prune_81 : decode cX0_prune 81 = .ok (.iastore, 1) := by decide +kernel
theorem dX0_prune_82 : decode cX0_prune 82 = .ok (.aload_n 0, 1) := by decide +kernel
theorem dX0_prune_83 : decode cX0_prune 83 = .ok (.getfield 16, 3) := by decide +kernel
theorem dX0_prune_86 : decode cX0_prune 86 = .ok (.iload_n 3, 1) := by decide +kernel
theorem dX0_prune_87 : decode cX0_prune 87 = .ok (.aload_n 0, 1) := by decide +kernel
theorem dX0_prune_88 : decode cX0_prune 88 = .ok (.getfield 82, 3) := by decide +kernel
theorem dX0_prune_91 : decode cX0_prune 91 = .ok (.iastore, 1) := by decide +kernel
theorem dX0_prune_92 : decode cX0_prune 92 = .ok (.aload_n 0, 1) := by decide +kernel
theorem dX0_prune_93 : decode cX0_prune 93 = .ok (.iload_n 3, 1) := by decide +kernel
theorem dX0_prune_94 : decode cX0_prune 94 = .ok (.putfield 82, 3) := by decide +kernel
theorem dX0_prune_97 : decode cX0_prune 97 = .ok (.aload_n 0, 1) := by decide +kernel
theorem dX0_prune_98 : decode cX0_prune 98 = .ok (.dup, 1) := by decide +kernel
theorem dX0_prune_99 : decode cX0_prune 99 = .ok (.getfield 41, 3) := by decide +kernel
theorem dX0_prune_102 : decode cX0_prune 102 = .ok (.iconst 1, 1) := by decide +kernel
theorem dX0_prune_103 : decode cX0_prune 103 = .ok (.iadd, 1) := by decide +kernel
theorem dX0_prune_104 : decode cX0_prune 104 = .ok (.putfield 41, 3) := by decide +kernel
theorem dX0_prune_107 : decode cX0_prune 107 = .ok (.iload 7, 2) := by decide +kernel
theorem dX0_prune_109 : decode cX0_prune 109 = .ok (.istore 4, 2) := by decide +kernel
theorem dX0_prune_111 : decode cX0_prune 111 = .ok (.iload 6, 2) := by decide +kernel
theorem dX0_prune_113 : decode cX0_prune 113 = .ok (.istore_n 3, 1) := by decide +kernel
theorem dX0_prune_114 : decode cX0_prune 114 = .ok (.iinc 5 1, 3) := by decide +kernel
theorem dX0_prune_117 : decode cX0_prune 117 = .ok (.goto (-87), 3) := by decide +kernel
theorem dX0_prune_120 : decode cX0_prune 120 = .ok (.return_, 1) := by decide +kernel
theorem dX0_isSeen_0 : decode cX0_isSeen 0 = .ok (.iconst 0, 1) := by decide +kernel
theorem dX0_isSeen_1 : decode cX0_isSeen 1 = .ok (.istore_n 3, 1) := by decide +kernel
theorem dX0_isSeen_2 : decode cX0_isSeen 2 = .ok (.iload_n 3, 1) := by decide +kernel
theorem dX0_isSeen_3 : decode cX0_isSeen 3 = .ok (.bipush 6, 2) := by decide +kernel
theorem dX0_isSeen_5 : decode cX0_isSeen 5 = .ok (.if_icmp .ge 40, 3) := by decide +kernel
theorem dX0_isSeen_8 : decode cX0_isSeen 8 = .ok (.aload_n 0, 1) := by decide +kernel
theorem dX0_isSeen_9 : decode cX0_isSeen 9 = .ok (.getfield 22, 3) := by decide +kernel
theorem dX0_isSeen_12 : decode cX0_isSeen 12 = .ok (.iload_n 3, 1) := by decide +kernel
theorem dX0_isSeen_13 : decode cX0_isSeen 13 = .ok (.baload, 1) := by decide +kernel
theorem dX0_isSeen_14 : decode cX0_isSeen 14 = .ok (.ifCond .eq 25, 3) := by decide +kernel
theorem dX0_isSeen_17 : decode cX0_isSeen 17 = .ok (.aload_n 0, 1) := by decide +kernel
theorem dX0_isSeen_18 : decode cX0_isSeen 18 = .ok (.getfield 29, 3) := by decide +kernel
theorem dX0_isSeen_21 : decode cX0_isSeen 21 = .ok (.iload_n 3, 1) := by decide +kernel
theorem dX0_isSeen_22 : decode cX0_isSeen 22 = .ok (.iaload, 1) := by decide +kernel
theorem dX0_isSeen_23 : decode cX0_isSeen 23 = .ok (.iload_n 1, 1) := by decide +kernel
theorem dX0_isSeen_24 : decode cX0_isSeen 24 = .ok (.if_icmp .lt 15, 3) := by decide +kernel
theorem dX0_isSeen_27 : decode cX0_isSeen 27 = .ok (.aload_n 0, 1) := by decide +kernel
theorem dX0_isSeen_28 : decode cX0_isSeen 28 = .ok (.getfield 29, 3) := by decide +kernel
theorem dX0_isSeen_31 : decode cX0_isSeen 31 = .ok (.iload_n 3, 1) := by decide +kernel
theorem dX0_isSeen_32 : decode cX0_isSeen 32 = .ok (.iaload, 1) := by decide +kernel
theorem dX0_isSeen_33 : decode cX0_isSeen 33 = .ok (.iload_n 2, 1) := by decide +kernel
theorem dX0_isSeen_34 : decode cX0_isSeen 34 = .ok (.if_icmp .ge 5, 3) := by decide +kernel
theorem dX0_isSeen_37 : decode cX0_isSeen 37 = .ok (.iconst 1, 1) := by decide +kernel
theorem dX0_isSeen_38 : decode cX0_isSeen 38 = .ok (.ireturn, 1) := by decide +kernel
theorem dX0_isSeen_39 : decode cX0_isSeen 39 = .ok (.iinc 3 1, 3) := by decide +kernel
theorem dX0_isSeen_42 : decode cX0_isSeen 42 = .ok (.goto (-40), 3) := by decide +kernel
theorem dX0_isSeen_45 : decode cX0_isSeen 45 = .ok (.iconst 0, 1) := by decide +kernel
theorem dX0_isSeen_46 : decode cX0_isSeen 46 = .ok (.ireturn, 1) := by decide +kernel
theorem dX0_abort_0 : decode cX0_abort 0 = .ok (.aload_n 0, 1) := by decide +kernel
theorem dX0_abort_1 : decode cX0_abort 1 = .ok (.iload_n 1, 1) := by decide +kernel
theorem dX0_abort_2 : decode cX0_abort 2 = .ok (.invokevirtual 48, 3) := by decide +kernel
theorem dX0_abort_5 : decode cX0_abort 5 = .ok (.ifCond .ne 5, 3) := by decide +kernel
theorem dX0_abort_8 : decode cX0_abort 8 = .ok (.iconst (-1), 1) := by decide +kernel
theorem dX0_abort_9 : decode cX0_abort 9 = .ok (.ireturn, 1) := by decide +kernel
theorem dX0_abort_10 : decode cX0_abort 10 = .ok (.aload_n 0, 1) := by decide +kernel
theorem dX0_abort_11 : decode cX0_abort 11 = .ok (.getfield 22, 3) := by decide +kernel
theorem dX0_abort_14 : decode cX0_abort 14 = .ok (.iload_n 1, 1) := by decide +kernel
theorem dX0_abort_15 : decode cX0_abort 15 = .ok (.iconst 0, 1) := by decide +kernel
theorem dX0_abort_16 : decode cX0_abort 16 = .ok (.bastore, 1) := by decide +kernel
theorem dX0_abort_17 : decode cX0_abort 17 = .ok (.iconst 0, 1) := by decide +kernel
theorem dX0_abort_18 : decode cX0_abort 18 = .ok (.ireturn, 1) := by decide +kernel
theorem dX0_might_0 : decode cX0_might 0 = .ok (.aload_n 0, 1) := by decide +kernel
theorem dX0_might_1 : decode cX0_might 1 = .ok (.iload_n 1, 1) := by decide +kernel
theorem dX0_might_2 : decode cX0_might 2 = .ok (.invokevirtual 48, 3) := by decide +kernel
theorem dX0_might_5 : decode cX0_might 5 = .ok (.ifCond .ne 5, 3) := by decide +kernel
theorem dX0_might_8 : decode cX0_might 8 = .ok (.iconst (-1), 1) := by decide +kernel
theorem dX0_might_9 : decode cX0_might 9 = .ok (.ireturn, 1) := by decide +kernel
theorem dX0_might_10 : decode cX0_might 10 = .ok (.aload_n 0, 1) := by decide +kernel
theorem dX0_might_11 : decode cX0_might 11 = .ok (.iload_n 1, 1) := by decide +kernel
theorem dX0_might_12 : decode cX0_might 12 = .ok (.invokevirtual 66, 3) := by decide +kernel
theorem dX0_might_15 : decode cX0_might 15 = .ok (.ifCond .eq 7, 3) := by decide +kernel
theorem dX0_might_18 : decode cX0_might 18 = .ok (.iconst 1, 1) := by decide +kernel
theorem dX0_might_19 : decode cX0_might 19 = .ok (.goto 4, 3) := by decide +kernel
theorem dX0_might_22 : decode cX0_might 22 = .ok (.iconst 0, 1) := by decide +kernel
theorem dX0_might_23 : decode cX0_might 23 = .ok (.ireturn, 1) := by decide +kernel
theorem dX0_committed_0 : decode cX0_committed 0 = .ok (.iload_n 1, 1) := by decide +kernel
theorem dX0_committed_1 : decode cX0_committed 1 = .ok (.invokestatic 51, 3) := by decide +kernel
theorem dX0_committed_4 : decode cX0_committed 4 = .ok (.ifCond .eq 15, 3) := by decide +kernel
theorem dX0_committed_7 : decode cX0_committed 7 = .ok (.aload_n 0, 1) := by decide +kernel
theorem dX0_committed_8 : decode cX0_committed 8 = .ok (.iload_n 1, 1) := by decide +kernel
theorem dX0_committed_9 : decode cX0_committed 9 = .ok (.aload_n 0, 1) := by decide +kernel
theorem dX0_committed_10 : decode cX0_committed 10 = .ok (.getfield 45, 3) := by decide +kernel
theorem dX0_committed_13 : decode cX0_committed 13 = .ok (.invokevirtual 73, 3) := by decide +kernel
theorem dX0_committed_16 : decode cX0_committed 16 = .ok (.goto 4, 3) := by decide +kernel
theorem dX0_committed_19 : decode cX0_committed 19 = .ok (.iconst 0, 1) := by decide +kernel
theorem dX0_committed_20 : decode cX0_committed 20 = .ok (.ireturn, 1) := by decide +kernel
theorem dX0_sum_0 : decode cX0_sum 0 = .ok (.aload_n 0, 1) := by decide +kernel
theorem dX0_sum_1 : decode cX0_sum 1 = .ok (.iload_n 1, 1) := by decide +kernel
theorem dX0_sum_2 : decode cX0_sum 2 = .ok (.invokevirtual 48, 3) := by decide +kernel
theorem dX0_sum_5 : decode cX0_sum 5 = .ok (.ifCond .ne 5, 3) := by decide +kernel
theorem dX0_sum_8 : decode cX0_sum 8 = .ok (.iconst 0, 1) := by decide +kernel
theorem dX0_sum_9 : decode cX0_sum 9 = .ok (.ireturn, 1) := by decide +kernel
theorem dX0_sum_10 : decode cX0_sum 10 = .ok (.iconst 0, 1) := by decide +kernel
theorem dX0_sum_11 : decode cX0_sum 11 = .ok (.istore 4, 2) := by decide +kernel
theorem dX0_sum_13 : decode cX0_sum 13 = .ok (.iconst 0, 1) := by decide +kernel
theorem dX0_sum_14 : decode cX0_sum 14 = .ok (.istore 5, 2) := by decide +kernel
theorem dX0_sum_16 : decode cX0_sum 16 = .ok (.iload 5, 2) := by decide +kernel
theorem dX0_sum_18 : decode cX0_sum 18 = .ok (.bipush 16, 2) := by decide +kernel
theorem dX0_sum_20 : decode cX0_sum 20 = .ok (.if_icmp .ge 33, 3) := by decide +kernel
theorem dX0_sum_23 : decode cX0_sum 23 = .ok (.iload_n 2, 1) := by decide +kernel
theorem dX0_sum_24 : decode cX0_sum 24 = .ok (.iload 5, 2) := by decide +kernel
theorem dX0_sum_26 : decode cX0_sum 26 = .ok (.if_icmp .gt 21, 3) := by decide +kernel
theorem dX0_sum_29 : decode cX0_sum 29 = .ok (.iload 5, 2) := by decide +kernel
theorem dX0_sum_31 : decode cX0_sum 31 = .ok (.iload_n 3, 1) := by decide +kernel
theorem dX0_sum_32 : decode cX0_sum 32 = .ok (.if_icmp .gt 15, 3) := by decide +kernel
theorem dX0_sum_35 : decode cX0_sum 35 = .ok (.iload 4, 2) := by decide +kernel
theorem dX0_sum_37 : decode cX0_sum 37 = .ok (.aload_n 0, 1) := by decide +kernel
theorem dX0_sum_38 : decode cX0_sum 38 = .ok (.iload_n 1, 1) := by decide +kernel
theorem dX0_sum_39 : decode cX0_sum 39 = .ok (.iload 5, 2) := by decide +kernel
theorem dX0_sum_41 : decode cX0_sum 41 = .ok (.invokevirtual 58, 3) := by decide +kernel
theorem dX0_sum_44 : decode cX0_sum 44 = .ok (.iadd, 1) := by decide +kernel
theorem dX0_sum_45 : decode cX0_sum 45 = .ok (.istore 4, 2) := by decide +kernel
theorem dX0_sum_47 : decode cX0_sum 47 = .ok (.iinc 5 1, 3) := by decide +kernel
theorem dX0_sum_50 : decode cX0_sum 50 = .ok (.goto (-34), 3) := by decide +kernel
theorem dX0_sum_53 : decode cX0_sum 53 = .ok (.iload 4, 2) := by decide +kernel
theorem dX0_sum_55 : decode cX0_sum 55 = .ok (.ireturn, 1) := by decide +kernel
theorem dX0_open_0 : decode cX0_open 0 = .ok (.iconst 0, 1) := by decide +kernel
theorem dX0_open_1 : decode cX0_open 1 = .ok (.istore_n 1, 1) := by decide +kernel
theorem dX0_open_2 : decode cX0_open 2 = .ok (.iconst 0, 1) := by decide +kernel
theorem dX0_open_3 : decode cX0_open 3 = .ok (.istore_n 2, 1) := by decide +kernel
theorem dX0_open_4 : decode cX0_open 4 = .ok (.iload_n 2, 1) := by decide +kernel
theorem dX0_open_5 : decode cX0_open 5 = .ok (.bipush 6, 2) := by decide +kernel
theorem dX0_open_7 : decode cX0_open 7 = .ok (.if_icmp .ge 26, 3) := by decide +kernel
theorem dX0_open_10 : decode cX0_open 10 = .ok (.iload_n 1, 1) := by decide +kernel
theorem dX0_open_11 : decode cX0_open 11 = .ok (.aload_n 0, 1) := by decide +kernel
theorem dX0_open_12 : decode cX0_open 12 = .ok (.getfield 22, 3) := by decide +kernel
theorem dX0_open_15 : decode cX0_open 15 = .ok (.iload_n 2, 1) := by decide +kernel
theorem dX0_open_16 : decode cX0_open 16 = .ok (.baload, 1) := by decide +kernel
theorem dX0_open_17 : decode cX0_open 17 = .ok (.ifCond .eq 7, 3) := by decide +kernel
theorem dX0_open_20 : decode cX0_open 20 = .ok (.iconst 1, 1) := by decide +kernel
theorem dX0_open_21 : decode cX0_open 21 = .ok (.goto 4, 3) := by decide +kernel
theorem dX0_open_24 : decode cX0_open 24 = .ok (.iconst 0, 1) := by decide +kernel
theorem dX0_open_25 : decode cX0_open 25 = .ok (.iadd, 1) := by decide +kernel
theorem dX0_open_26 : decode cX0_open 26 = .ok (.istore_n 1, 1) := by decide +kernel
theorem dX0_open_27 : decode cX0_open 27 = .ok (.iinc 2 1, 3) := by decide +kernel
theorem dX0_open_30 : decode cX0_open 30 = .ok (.goto (-26), 3) := by decide +kernel
theorem dX0_open_33 : decode cX0_open 33 = .ok (.iload_n 1, 1) := by decide +kernel
theorem dX0_open_34 : decode cX0_open 34 = .ok (.ireturn, 1) := by decide +kernel
end
section
/-! VersionStoreModel -/
set_option maxRecDepth 100000
def RX1 : String := "VersionStoreModel"
def TX1 : u_T := fun k => match k with
  | 0 => ("VersionStoreModel", "state", "[I", true)
  | 1 => ("VersionStoreModel", "written", "[I", true)
  | 2 => ("VersionStoreModel", "commits", "I", false)
  | 3 => ("VersionStoreModel", "live", "[Z", true)
  | 4 => ("VersionStoreModel", "serials", "[Z", true)
  | 5 => ("VersionStoreModel", "began", "[I", true)
  | 6 => ("VersionStoreModel", "view", "[I", true)
  | 7 => ("VersionStoreModel", "wrote", "[Z", true)
  | 8 => ("VersionStoreModel", "own", "[I", true)
  | _ => ("VersionStoreModel", "looked", "[Z", true)
def tyX1 : Nat → FieldType := fun k => match k with
  | 0 => .array .int
  | 1 => .array .int
  | 2 => .int
  | 3 => .array .boolean
  | 4 => .array .boolean
  | 5 => .array .int
  | 6 => .array .int
  | 7 => .array .boolean
  | 8 => .array .int
  | _ => .array .boolean
abbrev wsX10 : List Cond := u_ws RX1 TX1 10
theorem nmX1 : ∀ a, a < 10 → ∀ b, b < 10 → a ≠ b → (TX1 a).2.1 ≠ (TX1 b).2.1 := by decide +kernel
theorem tyX1_ok : ∀ k, k < 10 → parseFieldDescriptor (TX1 k).2.2.1 = some (tyX1 k) := by decide +kernel
abbrev cX1_init : ByteArray := prog_3_method_1_code
def yX1_init : MethodName := ⟨RX1, "<init>", "()V"⟩
theorem dX1_init_0 : decode cX1_init 0 = .ok (.aload_n 0, 1) := by decide +kernel
theorem dX1_init_1 : decode cX1_init 1 = .ok (.invokespecial 1, 3) := by decide +kernel
theorem dX1_init_4 : decode cX1_init 4 = .ok (.aload_n 0, 1) := by decide +kernel
theorem dX1_init_5 : decode cX1_init 5 = .ok (.bipush 16, 2) := by decide +kernel
theorem dX1_init_7 : decode cX1_init 7 = .ok (.newarray .int, 2) := by decide +kernel
theorem dX1_init_9 : decode cX1_init 9 = .ok (.putfield 7, 3) := by decide +kernel
theorem dX1_init_12 : decode cX1_init 12 = .ok (.aload_n 0, 1) := by decide +kernel
theorem dX1_init_13 : decode cX1_init 13 = .ok (.bipush 16, 2) := by decide +kernel
theorem dX1_init_15 : decode cX1_init 15 = .ok (.newarray .int, 2) := by decide +kernel
theorem dX1_init_17 : decode cX1_init 17 = .ok (.putfield 13, 3) := by decide +kernel
theorem dX1_init_20 : decode cX1_init 20 = .ok (.aload_n 0, 1) := by decide +kernel
theorem dX1_init_21 : decode cX1_init 21 = .ok (.bipush 6, 2) := by decide +kernel
theorem dX1_init_23 : decode cX1_init 23 = .ok (.newarray .boolean, 2) := by decide +kernel
theorem dX1_init_25 : decode cX1_init 25 = .ok (.putfield 16, 3) := by decide +kernel
theorem dX1_init_28 : decode cX1_init 28 = .ok (.aload_n 0, 1) := by decide +kernel
theorem dX1_init_29 : decode cX1_init 29 = .ok (.bipush 6, 2) := by decide +kernel
theorem dX1_init_31 : decode cX1_init 31 = .ok (.newarray .boolean, 2) := by decide +kernel
theorem dX1_init_33 : decode cX1_init 33 = .ok (.putfield 20, 3) := by decide +kernel
theorem dX1_init_36 : decode cX1_init 36 = .ok (.aload_n 0, 1) := by decide +kernel
theorem dX1_init_37 : decode cX1_init 37 = .ok (.bipush 6, 2) := by decide +kernel
theorem dX1_init_39 : decode cX1_init 39 = .ok (.newarray .int, 2) := by decide +kernel
theorem dX1_init_41 : decode cX1_init 41 = .ok (.putfield 23, 3) := by decide +kernel
theorem dX1_init_44 : decode cX1_init 44 = .ok (.aload_n 0, 1) := by decide +kernel
theorem dX1_init_45 : decode cX1_init 45 = .ok (.bipush 96, 2) := by decide +kernel
theorem dX1_init_47 : decode cX1_init 47 = .ok (.newarray .int, 2) := by decide +kernel
theorem dX1_init_49 : decode cX1_init 49 = .ok (.putfield 26, 3) := by decide +kernel
theorem dX1_init_52 : decode cX1_init 52 = .ok (.aload_n 0, 1) := by decide +kernel
theorem dX1_init_53 : decode cX1_init 53 = .ok (.bipush 96, 2) := by decide +kernel
theorem dX1_init_55 : decode cX1_init 55 = .ok (.newarray .boolean, 2) := by decide +kernel
theorem dX1_init_57 : decode cX1_init 57 = .ok (.putfield 29, 3) := by decide +kernel
theorem dX1_init_60 : decode cX1_init 60 = .ok (.aload_n 0, 1) := by decide +kernel
theorem dX1_init_61 : decode cX1_init 61 = .ok (.bipush 96, 2) := by decide +kernel
theorem dX1_init_63 : decode cX1_init 63 = .ok (.newarray .int, 2) := by decide +kernel
theorem dX1_init_65 : decode cX1_init 65 = .ok (.putfield 32, 3) := by decide +kernel
theorem dX1_init_68 : decode cX1_init 68 = .ok (.aload_n 0, 1) := by decide +kernel
theorem dX1_init_69 : decode cX1_init 69 = .ok (.bipush 96, 2) := by decide +kernel
theorem dX1_init_71 : decode cX1_init 71 = .ok (.newarray .boolean, 2) := by decide +kernel
theorem dX1_init_73 : decode cX1_init 73 = .ok (.putfield 35, 3) := by decide +kernel
theorem dX1_init_76 : decode cX1_init 76 = .ok (.return_, 1) := by decide +kernel
abbrev cX1_begin : ByteArray := prog_3_method_2_code
def yX1_begin : MethodName := ⟨RX1, "begin", "(Z)I"⟩
theorem dX1_begin_0 : decode cX1_begin 0 = .ok (.iconst 0, 1) := by decide +kernel
theorem dX1_begin_1 : decode cX1_begin 1 = .ok (.istore_n 2, 1) := by decide +kernel
theorem dX1_begin_2 : decode cX1_begin 2 = .ok (.iload_n 2, 1) := by decide +kernel
theorem dX1_begin_3 : decode cX1_begin 3 = .ok (.bipush 6, 2) := by decide +kernel
theorem dX1_begin_5 : decode cX1_begin 5 = .ok (.if_icmp .ge 99, 3) := by decide +kernel
theorem dX1_begin_8 : decode cX1_begin 8 = .ok (.aload_n 0, 1) := by decide +kernel
theorem dX1_begin_9 : decode cX1_begin 9 = .ok (.getfield 16, 3) := by decide +kernel
theorem dX1_begin_12 : decode cX1_begin 12 = .ok (.iload_n 2, 1) := by decide +kernel
theorem dX1_begin_13 : decode cX1_begin 13 = .ok (.baload, 1) := by decide +kernel
theorem dX1_begin_14 : decode cX1_begin 14 = .ok (.ifCond .ne 84, 3) := by decide +kernel
theorem dX1_begin_17 : decode cX1_begin 17 = .ok (.aload_n 0, 1) := by decide +kernel
theorem dX1_begin_18 : decode cX1_begin 18 = .ok (.getfield 16, 3) := by decide +kernel
theorem dX1_begin_21 : decode cX1_begin 21 = .ok (.iload_n 2, 1) := by decide +kernel
theorem dX1_begin_22 : decode cX1_begin 22 = .ok (.iconst 1, 1) := by decide +kernel
theorem dX1_begin_23 : decode cX1_begin 23 = .ok (.bastore, 1) := by decide +kernel
theorem dX1_begin_24 : decode cX1_begin 24 = .ok (.aload_n 0, 1) := by decide +kernel
theorem dX1_begin_25 : decode cX1_begin 25 = .ok (.getfield 20, 3) := by decide +kernel
theorem dX1_begin_28 : decode cX1_begin 28 = .ok (.iload_n 2, 1) := by decide +kernel
theorem dX1_begin_29 : decode cX1_begin 29 = .ok (.iload_n 1, 1) := by decide +kernel
theorem dX1_begin_30 : decode cX1_begin 30 = .ok (.bastore, 1) := by decide +kernel
theorem dX1_begin_31 : decode cX1_begin 31 = .ok (.aload_n 0, 1) := by decide +kernel
theorem dX1_begin_32 : decode cX1_begin 32 = .ok (.getfield 23, 3) := by decide +kernel
theorem dX1_begin_35 : decode cX1_begin 35 = .ok (.iload_n 2, 1) := by decide +kernel
theorem dX1_begin_36 : decode cX1_begin 36 = .ok (.aload_n 0, 1) := by decide +kernel
theorem dX1_begin_37 : decode cX1_begin 37 = .ok (.getfield 38, 3) := by decide +kernel
theorem dX1_begin_40 : decode cX1_begin 40 = .ok (.iastore, 1) := by decide +kernel
theorem dX1_begin_41 : decode cX1_begin 41 = .ok (.iconst 0, 1) := by decide +kernel
theorem dX1_begin_42 : decode cX1_begin 42 = .ok (.istore_n 3, 1) := by decide +kernel
theorem dX1_begin_43 : decode cX1_begin 43 = .ok (.iload_n 3, 1) := by decide +kernel
theorem dX1_begin_44 : decode cX1_begin 44 = .ok (.bipush 16, 2) := by decide +kernel
theorem dX1_begin_46 : decode cX1_begin 46 = .ok (.if_icmp .ge 50, 3) := by decide +kernel
theorem dX1_begin_49 : decode cX1_begin 49 = .ok (.aload_n 0, 1) := by decide +kernel
theorem dX1_begin_50 : decode cX1_begin 50 = .ok (.getfield 26, 3) := by decide +kernel
theorem dX1_begin_53 : decode cX1_begin 53 = .ok (.bipush 16, 2) := by decide +kernel
theorem dX1_begin_55 : decode cX1_begin 55 = .ok (.iload_n 2, 1) := by decide +kernel
theorem dX1_begin_56 : decode cX1_begin 56 = .ok (.imul, 1) := by decide +kernel
theorem dX1_begin_57 : decode cX1_begin 57 = .ok (.iload_n 3, 1) := by decide +kernel
theorem dX1_begin_58 : decode cX1_begin 58 = .ok (.iadd, 1) := by decide +kernel
theorem dX1_begin_59 : decode cX1_begin 59 = .ok (.aload_n 0, 1) := by decide +kernel
theorem dX1_begin_60 : decode cX1_begin 60 = .ok (.getfield 7, 3) := by decide +kernel
theorem dX1_begin_63 : decode cX1_begin 63 = .ok (.iload_n 3, 1) := by decide +kernel
theorem dX1_begin_64 : decode cX1_begin 64 = .ok (.iaload, 1) := by decide +kernel
theorem dX1_begin_65 : decode cX1_begin 65 = .ok (.iastore, 1) := by decide +kernel
theorem dX1_begin_66 : decode cX1_begin 66 = .ok (.aload_n 0, 1) := by decide +kernel
theorem dX1_begin_67 : decode cX1_begin 67 = .ok (.getfield 29, 3) := by decide +kernel
theorem dX1_begin_70 : decode cX1_begin 70 = .ok (.bipush 16, 2) := by decide +kernel
theorem dX1_begin_72 : decode cX1_begin 72 = .ok (.iload_n 2, 1) := by decide +kernel
theorem dX1_begin_73 : decode cX1_begin 73 = .ok (.imul, 1) := by decide +kernel
theorem dX1_begin_74 : decode cX1_begin 74 = .ok (.iload_n 3, 1) := by decide +kernel
theorem dX1_begin_75 : decode cX1_begin 75 = .ok (.iadd, 1) := by decide +kernel
theorem dX1_begin_76 : decode cX1_begin 76 = .ok (.iconst 0, 1) := by decide +kernel
theorem dX1_begin_77 : decode cX1_begin 77 = .ok (.bastore, 1) := by decide +kernel
theorem dX1_begin_78 : decode cX1_begin 78 = .ok (.aload_n 0, 1) := by decide +kernel
theorem dX1_begin_79 : decode cX1_begin 79 = .ok (.getfield 35, 3) := by decide +kernel
theorem dX1_begin_82 : decode cX1_begin 82 = .ok (.bipush 16, 2) := by decide +kernel
theorem dX1_begin_84 : decode cX1_begin 84 = .ok (.iload_n 2, 1) := by decide +kernel
theorem dX1_begin_85 : decode cX1_begin 85 = .ok (.imul, 1) := by decide +kernel
theorem dX1_begin_86 : decode cX1_begin 86 = .ok (.iload_n 3, 1) := by decide +kernel
theorem dX1_begin_87 : decode cX1_begin 87 = .ok (.iadd, 1) := by decide +kernel
theorem dX1_begin_88 : decode cX1_begin 88 = .ok (.iconst 0, 1) := by decide +kernel
theorem dX1_begin_89 : decode cX1_begin 89 = .ok (.bastore, 1) := by decide +kernel
theorem dX1_begin_90 : decode cX1_begin 90 = .ok (.iinc 3 1, 3) := by decide +kernel
theorem dX1_begin_93 : decode cX1_begin 93 = .ok (.goto (-50), 3) := by decide +kernel
theorem dX1_begin_96 : decode cX1_begin 96 = .ok (.iload_n 2, 1) := by decide +kernel
theorem dX1_begin_97 : decode cX1_begin 97 = .ok (.ireturn, 1) := by decide +kernel
theorem dX1_begin_98 : decode cX1_begin 98 = .ok (.iinc 2 1, 3) := by decide +kernel
theorem dX1_begin_101 : decode cX1_begin 101 = .ok (.goto (-99), 3) := by decide +kernel
theorem dX1_begin_104 : decode cX1_begin 104 = .ok (.iconst (-1), 1) := by decide +kernel
theorem dX1_begin_105 : decode cX1_begin 105 = .ok (.ireturn, 1) := by decide +kernel
abbrev cX1_read : ByteArray := prog_3_method_6_code
def yX1_read : MethodName := ⟨RX1, "read", "(II)I"⟩
theorem dX1_read_0 : decode cX1_read 0 = .ok (.aload_n 0, 1) := by decide +kernel
theorem dX1_read_1 : decode cX1_read 1 = .ok (.iload_n 1, 1) := by decide +kernel
theorem dX1_read_2 : decode cX1_read 2 = .ok (.invokevirtual 42, 3) := by decide +kernel
theorem dX1_read_5 : decode cX1_read 5 = .ok (.ifCond .ne 10, 3) := by decide +kernel
theorem dX1_read_8 : decode cX1_read 8 = .ok (.iload_n 2, 1) := by decide +kernel
theorem dX1_read_9 : decode cX1_read 9 = .ok (.invokestatic 46, 3) := by decide +kernel
theorem dX1_read_12 : decode cX1_read 12 = .ok (.ifCond .eq 5, 3) := by decide +kernel
theorem dX1_read_15 : decode cX1_read 15 = .ok (.iconst 0, 1) := by decide +kernel
theorem dX1_read_16 : decode cX1_read 16 = .ok (.ireturn, 1) := by decide +kernel
theorem dX1_read_17 : decode cX1_read 17 = .ok (.bipush 16, 2) := by decide +kernel
theorem dX1_read_19 : decode cX1_read 19 = .ok (.iload_n 1, 1) := by decide +kernel
theorem dX1_read_20 : decode cX1_read 20 = .ok (.imul, 1) := by decide +kernel
theorem dX1_read_21 : decode cX1_read 21 = .ok (.iload_n 2, 1) := by decide +kernel
theorem dX1_read_22 : decode cX1_read 22 = .ok (.iadd, 1) := by decide +kernel
theorem dX1_read_23 : decode cX1_read 23 = .ok (.istore_n 3, 1) := by decide +kernel
theorem dX1_read_24 : decode cX1_read 24 = .ok (.aload_n 0, 1) := by decide +kernel
theorem dX1_read_25 : decode cX1_read 25 = .ok (.getfield 29, 3) := by decide +kernel
theorem dX1_read_28 : decode cX1_read 28 = .ok (.iload_n 3, 1) := by decide +kernel
theorem dX1_read_29 : decode cX1_read 29 = .ok (.baload, 1) := by decide +kernel
theorem dX1_read_30 : decode cX1_read 30 = .ok (.ifCond .ne 10, 3) := by decide +kernel
theorem dX1_read_33 : decode cX1_read 33 = .ok (.aload_n 0, 1) := by decide +kernel
theorem dX1_read_34 : decode cX1_read 34 = .ok (.getfield 35, 3) := by decide +kernel
theorem dX1_read_37 : decode cX1_read 37 = .ok (.iload_n 3, 1) := by decide +kernel
theorem dX1_read_38 : decode cX1_read 38 = .ok (.iconst 1, 1) := by decide +kernel
theorem dX1_read_39 : decode cX1_read 39 = .ok (.bastore, 1) := by decide +kernel
theorem dX1_read_40 : decode cX1_read 40 = .ok (.aload_n 0, 1) := by decide +kernel
theorem dX1_read_41 : decode cX1_read 41 = .ok (.iload_n 3, 1) := by decide +kernel
theorem dX1_read_42 : decode cX1_read 42 = .ok (.invokevirtual 49, 3) := by decide +kernel
theorem dX1_read_45 : decode cX1_read 45 = .ok (.ireturn, 1) := by decide +kernel
abbrev cX1_bad : ByteArray := prog_3_method_3_code
def yX1_bad : MethodName := ⟨RX1, "bad", "(I)Z"⟩
theorem dX1_bad_0 : decode cX1_bad 0 = .ok (.iload_n 1, 1) := by decide +kernel
theorem dX1_bad_1 : decode cX1_bad 1 = .ok (.ifCond .lt 17, 3) := by decide +kernel
theorem dX1_bad_4 : decode cX1_bad 4 = .ok (.iload_n 1, 1) := by decide +kernel
theorem dX1_bad_5 : decode cX1_bad 5 = .ok (.iconst 5, 1) := by decide +kernel
theorem dX1_bad_6 : decode cX1_bad 6 = .ok (.if_icmp .gt 12, 3) := by decide +kernel
theorem dX1_bad_9 : decode cX1_bad 9 = .ok (.aload_n 0, 1) := by decide +kernel
theorem dX1_bad_10 : decode cX1_bad 10 = .ok (.getfield 16, 3) := by decide +kernel
theorem dX1_bad_13 : decode cX1_bad 13 = .ok (.iload_n 1, 1) := by decide +kernel
theorem dX1_bad_14 : decode cX1_bad 14 = .ok (.baload, 1) := by decide +kernel
theorem dX1_bad_15 : decode cX1_bad 15 = .ok (.ifCond .ne 7, 3) := by decide +kernel
theorem dX1_bad_18 : decode cX1_bad 18 = .ok (.iconst 1, 1) := by decide +kernel
theorem dX1_bad_19 : decode cX1_bad 19 = .ok (.goto 4, 3) := by decide +kernel
theorem dX1_bad_22 : decode cX1_bad 22 = .ok (.iconst 0, 1) := by decide +kernel
theorem dX1_bad_23 : decode cX1_bad 23 = .ok (.ireturn, 1) := by decide +kernel
abbrev cX1_badCell : ByteArray := prog_3_method_4_code
def yX1_badCell : MethodName := ⟨RX1, "badCell", "(I)Z"⟩
theorem dX1_badCell_0 : decode cX1_badCell 0 = .ok (.iload_n 0, 1) := by decide +kernel
theorem dX1_badCell_1 : decode cX1_badCell 1 = .ok (.ifCond .lt 9, 3) := by decide +kernel
theorem dX1_badCell_4 : decode cX1_badCell 4 = .ok (.iload_n 0, 1) := by decide +kernel
theorem dX1_badCell_5 : decode cX1_badCell 5 = .ok (.bipush 15, 2) := by decide +kernel
theorem dX1_badCell_7 : decode cX1_badCell 7 = .ok (.if_icmp .le 7, 3) := by decide +kernel
theorem dX1_badCell_10 : decode cX1_badCell 10 = .ok (.iconst 1, 1) := by decide +kernel
theorem dX1_badCell_11 : decode cX1_badCell 11 = .ok (.goto 4, 3) := by decide +kernel
theorem dX1_badCell_14 : decode cX1_badCell 14 = .ok (.iconst 0, 1) := by decide +kernel
theorem dX1_badCell_15 : decode cX1_badCell 15 = .ok (.ireturn, 1) := by decide +kernel
abbrev cX1_seen : ByteArray := prog_3_method_5_code
def yX1_seen : MethodName := ⟨RX1, "seen", "(I)I"⟩
theorem dX1_seen_0 : decode cX1_seen 0 = .ok (.aload_n 0, 1) := by decide +kernel
theorem dX1_seen_1 : decode cX1_seen 1 = .ok (.getfield 29, 3) := by decide +kernel
theorem dX1_seen_4 : decode cX1_seen 4 = .ok (.iload_n 1, 1) := by decide +kernel
theorem dX1_seen_5 : decode cX1_seen 5 = .ok (.baload, 1) := by decide +kernel
theorem dX1_seen_6 : decode cX1_seen 6 = .ok (.ifCond .eq 12, 3) := by decide +kernel
theorem dX1_seen_9 : decode cX1_seen 9 = .ok (.aload_n 0, 1) := by decide +kernel
theorem dX1_seen_10 : decode cX1_seen 10 = .ok (.getfield 32, 3) := by decide +kernel
theorem dX1_seen_13 : decode cX1_seen 13 = .ok (.iload_n 1, 1) := by decide +kernel
theorem dX1_seen_14 : decode cX1_seen 14 = .ok (.iaload, 1) := by decide +kernel
theorem dX1_seen_15 : decode cX1_seen 15 = .ok (.goto 9, 3) := by decide +kernel
theorem dX1_seen_18 : decode cX1_seen 18 = .ok (.aload_n 0, 1) := by decide +kernel
theorem dX1_seen_19 : decode cX1_seen 19 = .ok (.getfield 26, 3) := by decide +kernel
theorem dX1_seen_22 : decode cX1_seen 22 = .ok (.iload_n 1, 1) := by decide +kernel
theorem dX1_seen_23 : decode cX1_seen 23 = .ok (.iaload, 1) := by decide +kernel
theorem dX1_seen_24 : decode cX1_seen 24 = .ok (.ireturn, 1) := by decide +kernel
abbrev cX1_write : ByteArray := prog_3_method_7_code
def yX1_write : MethodName := ⟨RX1, "write", "(III)I"⟩
theorem dX1_write_0 : decode cX1_write 0 = .ok (.aload_n 0, 1) := by decide +kernel
theorem dX1_write_1 : decode cX1_write 1 = .ok (.iload_n 1, 1) := by decide +kernel
theorem dX1_write_2 : decode cX1_write 2 = .ok (.invokevirtual 42, 3) := by decide +kernel
theorem dX1_write_5 : decode cX1_write 5 = .ok (.ifCond .ne 10, 3) := by decide +kernel
theorem dX1_write_8 : decode cX1_write 8 = .ok (.iload_n 2, 1) := by decide +kernel
theorem dX1_write_9 : decode cX1_write 9 = .ok (.invokestatic 46, 3) := by decide +kernel
theorem dX1_write_12 : decode cX1_write 12 = .ok (.ifCond .eq 5, 3) := by decide +kernel
theorem dX1_write_15 : decode cX1_write 15 = .ok (.iconst (-1), 1) := by decide +kernel
theorem dX1_write_16 : decode cX1_write 16 = .ok (.ireturn, 1) := by decide +kernel
theorem dX1_write_17 : decode cX1_write 17 = .ok (.bipush 16, 2) := by decide +kernel
theorem dX1_write_19 : decode cX1_write 19 = .ok (.iload_n 1, 1) := by decide +kernel
theorem dX1_write_20 : decode cX1_write 20 = .ok (.imul, 1) := by decide +kernel
theorem dX1_write_21 : decode cX1_write 21 = .ok (.iload_n 2, 1) := by decide +kernel
theorem dX1_write_22 : decode cX1_write 22 = .ok (.iadd, 1) := by decide +kernel
theorem dX1_write_23 : decode cX1_write 23 = .ok (.istore 4, 2) := by decide +kernel
theorem dX1_write_25 : decode cX1_write 25 = .ok (.aload_n 0, 1) := by decide +kernel
theorem dX1_write_26 : decode cX1_write 26 = .ok (.getfield 29, 3) := by decide +kernel
theorem dX1_write_29 : decode cX1_write 29 = .ok (.iload 4, 2) := by decide +kernel
theorem dX1_write_31 : decode cX1_write 31 = .ok (.iconst 1, 1) := by decide +kernel
theorem dX1_write_32 : decode cX1_write 32 = .ok (.bastore, 1) := by decide +kernel
theorem dX1_write_33 : decode cX1_write 33 = .ok (.aload_n 0, 1) := by decide +kernel
theorem dX1_write_34 : decode cX1_write 34 = .ok (.getfield 32, 3) := by decide +kernel
theorem dX1_write_37 : decode cX1_write 37 = .ok (.iload 4, 2) := by decide +kernel
theorem dX1_write_39 : decode cX1_write 39 = .ok (.iload_n 3, 1) := by decide +kernel
theorem dX1_write_40 : decode cX1_write 40 = .ok (.iastore, 1) := by decide +kernel
theorem dX1_write_41 : decode cX1_write 41 = .ok (.iconst 0, 1) := by decide +kernel
theorem dX1_write_42 : decode cX1_write 42 = .ok (.ireturn, 1) := by decide +kernel
abbrev cX1_add : ByteArray := prog_3_method_8_code
def yX1_add : MethodName := ⟨RX1, "add", "(III)I"⟩
theorem dX1_add_0 : decode cX1_add 0 = .ok (.aload_n 0, 1) := by decide +kernel
theorem dX1_add_1 : decode cX1_add 1 = .ok (.iload_n 1, 1) := by decide +kernel
theorem dX1_add_2 : decode cX1_add 2 = .ok (.invokevirtual 42, 3) := by decide +kernel
theorem dX1_add_5 : decode cX1_add 5 = .ok (.ifCond .ne 10, 3) := by decide +kernel
theorem dX1_add_8 : decode cX1_add 8 = .ok (.iload_n 2, 1) := by decide +kernel
theorem dX1_add_9 : decode cX1_add 9 = .ok (.invokestatic 46, 3) := by decide +kernel
theorem dX1_add_12 : decode cX1_add 12 = .ok (.ifCond .eq 5, 3) := by decide +kernel
theorem dX1_add_15 : decode cX1_add 15 = .ok (.iconst 0, 1) := by decide +kernel
theorem dX1_add_16 : decode cX1_add 16 = .ok (.ireturn, 1) := by decide +kernel
theorem dX1_add_17 : decode cX1_add 17 = .ok (.aload_n 0, 1) := by decide +kernel
theorem dX1_add_18 : decode cX1_add 18 = .ok (.iload_n 1, 1) := by decide +kernel
theorem dX1_add_19 : decode cX1_add 19 = .ok (.iload_n 2, 1) := by decide +kernel
theorem dX1_add_20 : decode cX1_add 20 = .ok (.invokevirtual 53, 3) := by decide +kernel
theorem dX1_add_23 : decode cX1_add 23 = .ok (.iload_n 3, 1) := by decide +kernel
theorem dX1_add_24 : decode cX1_add 24 = .ok (.iadd, 1) := by decide +kernel
theorem dX1_add_25 : decode cX1_add 25 = .ok (.istore 4, 2) := by decide +kernel
theorem dX1_add_27 : decode cX1_add 27 = .ok (.aload_n 0, 1) := by decide +kernel
theorem dX1_add_28 : decode cX1_add 28 = .ok (.iload_n 1, 1) := by decide +kernel
theorem dX1_add_29 : decode cX1_add 29 = .ok (.iload_n 2, 1) := by decide +kernel
theorem dX1_add_30 : decode cX1_add 30 = .ok (.iload 4, 2) := by decide +kernel
theorem dX1_add_32 : decode cX1_add 32 = .ok (.invokevirtual 57, 3) := by decide +kernel
theorem dX1_add_35 : decode cX1_add 35 = .ok (.pop, 1) := by decide +kernel
theorem dX1_add_36 : decode cX1_add 36 = .ok (.iload 4, 2) := by decide +kernel
theorem dX1_add_38 : decode cX1_add 38 = .ok (.ireturn, 1) := by decide +kernel
abbrev cX1_commit : ByteArray := prog_3_method_10_code
def yX1_commit : MethodName := ⟨RX1, "commit", "(I)I"⟩
theorem dX1_commit_0 : decode cX1_commit 0 = .ok (.aload_n 0, 1) := by decide +kernel
theorem dX1_commit_1 : decode cX1_commit 1 = .ok (.iload_n 1, 1) := by decide +kernel
theorem dX1_commit_2 : decode cX1_commit 2 = .ok (.invokevirtual 42, 3) := by decide +kernel
theorem dX1_commit_5 : decode cX1_commit 5 = .ok (.ifCond .eq 5, 3) := by decide +kernel
theorem dX1_commit_8 : decode cX1_commit 8 = .ok (.iconst (-1), 1) := by decide +kernel
theorem dX1_commit_9 : decode cX1_commit 9 = .ok (.ireturn, 1) := by decide +kernel
theorem dX1_commit_10 : decode cX1_commit 10 = .ok (.aload_n 0, 1) := by decide +kernel
theorem dX1_commit_11 : decode cX1_commit 11 = .ok (.getfield 16, 3) := by decide +kernel
theorem dX1_commit_14 : decode cX1_commit 14 = .ok (.iload_n 1, 1) := by decide +kernel
theorem dX1_commit_15 : decode cX1_commit 15 = .ok (.iconst 0, 1) := by decide +kernel
theorem dX1_commit_16 : decode cX1_commit 16 = .ok (.bastore, 1) := by decide +kernel
theorem dX1_commit_17 : decode cX1_commit 17 = .ok (.aload_n 0, 1) := by decide +kernel
theorem dX1_commit_18 : decode cX1_commit 18 = .ok (.iload_n 1, 1) := by decide +kernel
theorem dX1_commit_19 : decode cX1_commit 19 = .ok (.invokevirtual 61, 3) := by decide +kernel
theorem dX1_commit_22 : decode cX1_commit 22 = .ok (.ifCond .eq 5, 3) := by decide +kernel
theorem dX1_commit_25 : decode cX1_commit 25 = .ok (.iconst 1, 1) := by decide +kernel
theorem dX1_commit_26 : decode cX1_commit 26 = .ok (.ireturn, 1) := by decide +kernel
theorem dX1_commit_27 : decode cX1_commit 27 = .ok (.aload_n 0, 1) := by decide +kernel
theorem dX1_commit_28 : decode cX1_commit 28 = .ok (.dup, 1) := by decide +kernel
theorem dX1_commit_29 : decode cX1_commit 29 = .ok (.getfield 38, 3) := by decide +kernel
theorem dX1_commit_32 : decode cX1_commit 32 = .ok (.iconst 1, 1) := by decide +kernel
theorem dX1_commit_33 : decode cX1_commit 33 = .ok (.iadd, 1) := by decide +kernel
theorem dX1_commit_34 : decode cX1_commit 34 = .ok (.putfield 38, 3) := by decide +kernel
theorem dX1_commit_37 : decode cX1_commit 37 = .ok (.iconst 0, 1) := by decide +kernel
theorem dX1_commit_38 : decode cX1_commit 38 = .ok (.istore_n 2, 1) := by decide +kernel
theorem dX1_commit_39 : decode cX1_commit 39 = .ok (.iload_n 2, 1) := by decide +kernel
theorem dX1_commit_40 : decode cX1_commit 40 = .ok (.bipush 16, 2) := by decide +kernel
theorem dX1_commit_42 : decode cX1_commit 42 = .ok (.if_icmp .ge 50, 3) := by decide +kernel
theorem dX1_commit_45 : decode cX1_commit 45 = .ok (.aload_n 0, 1) := by decide +kernel
theorem dX1_commit_46 : decode cX1_commit 46 = .ok (.getfield 29, 3) := by decide +kernel
theorem dX1_commit_49 : decode cX1_commit 49 = .ok (.bipush 16, 2) := by decide +kernel
theorem dX1_commit_51 : decode cX1_commit 51 = .ok (.iload_n 1, 1) := by decide +kernel
theorem dX1_commit_52 : decode cX1_commit 52 = .ok (.imul, 1) := by decide +kernel
theorem dX1_commit_53 : decode cX1_commit 53 = .ok (.iload_n 2, 1) := by decide +kernel
theorem dX1_commit_54 : decode cX1_commit 54 = .ok (.iadd, 1) := by decide +kernel
theorem dX1_commit_55 : decode cX1_commit 55 = .ok (.baload, 1) := by decide +kernel
theorem dX1_commit_56 : decode cX1_commit 56 = .ok (.ifCond .eq 30, 3) := by decide +kernel
theorem dX1_commit_59 : decode cX1_commit 59 = .ok (.aload_n 0, 1) := by decide +kernel
theorem dX1_commit_60 : decode cX1_commit 60 = .ok (.getfield 7, 3) := by decide +kernel
theorem dX1_commit_63 : decode cX1_commit 63 = .ok (.iload_n 2, 1) := by decide +kernel
theorem dX1_commit_64 : decode cX1_commit 64 = .ok (.aload_n 0, 1) := by decide +kernel
theorem dX1_commit_65 : decode cX1_commit 65 = .ok (.getfield 32, 3) := by decide +kernel
theorem dX1_commit_68 : decode cX1_commit 68 = .ok (.bipush 16, 2) := by decide +kernel
theorem dX1_commit_70 : decode cX1_commit 70 = .ok (.iload_n 1, 1) := by decide +kernel
theorem dX1_commit_71 : decode cX1_commit 71 = .ok (.imul, 1) := by decide +kernel
theorem dX1_commit_72 : decode cX1_commit 72 = .ok (.iload_n 2, 1) := by decide +kernel
theorem dX1_commit_73 : decode cX1_commit 73 = .ok (.iadd, 1) := by decide +kernel
theorem dX1_commit_74 : decode cX1_commit 74 = .ok (.iaload, 1) := by decide +kernel
theorem dX1_commit_75 : decode cX1_commit 75 = .ok (.iastore, 1) := by decide +kernel
theorem dX1_commit_76 : decode cX1_commit 76 = .ok (.aload_n 0, 1) := by decide +kernel
theorem dX1_commit_77 : decode cX1_commit 77 = .ok (.getfield 13, 3) := by decide +kernel
theorem dX1_commit_80 : decode cX1_commit 80 = .ok (.iload_n 2, 1) := by decide +kernel
theorem dX1_commit_81 : decode cX1_commit 81 = .ok (.aload_n 0, 1) := by decide +kernel
theorem dX1_commit_82 : decode cX1_commit 82 = .ok (.getfield 38, 3) := by decide +kernel
theorem dX1_commit_85 : decode cX1_commit 85 = .ok (.iastore, 1) := by decide +kernel
theorem dX1_commit_86 : decode cX1_commit 86 = .ok (.iinc 2 1, 3) := by decide +kernel
theorem dX1_commit_89 : decode cX1_commit 89 = .ok (.goto (-50), 3) := by decide +kernel
theorem dX1_commit_92 : decode cX1_commit 92 = .ok (.iconst 0, 1) := by decide +kernel
theorem dX1_commit_93 : decode cX1_commit 93 = .ok (.ireturn, 1) := by decide +kernel
abbrev cX1_overtaken : ByteArray := prog_3_method_9_code
def yX1_overtaken : MethodName := ⟨RX1, "overtaken", "(I)Z"⟩
theorem dX1_overtaken_0 : decode cX1_overtaken 0 = .ok (.iconst 0, 1) := by decide +kernel
theorem dX1_overtaken_1 : decode cX1_overtaken 1 = .ok (.istore_n 2, 1) := by decide +kernel
theorem dX1_overtaken_2 : decode cX1_overtaken 2 = .ok (.iload_n 2, 1) := by decide +kernel
theorem dX1_overtaken_3 : decode cX1_overtaken 3 = .ok (.bipush 16, 2) := by decide +kernel
theorem dX1_overtaken_5 : decode cX1_overtaken 5 = .ok (.if_icmp .ge 73, 3) := by decide +kernel
theorem dX1_overtaken_8 : decode cX1_overtaken 8 = .ok (.aload_n 0, 1) := by decide +kernel
theorem dX1_overtaken_9 : decode cX1_overtaken 9 = .ok (.getfield 29, 3) := by decide +kernel
theorem dX1_overtaken_12 : decode cX1_overtaken 12 = .ok (.bipush 16, 2) := by decide +kernel
theorem dX1_overtaken_14 : decode cX1_overtaken 14 = .ok (.iload_n 1, 1) := by decide +kernel
theorem dX1_overtaken_15 : decode cX1_overtaken 15 = .ok (.imul, 1) := by decide +kernel
theorem dX1_overtaken_16 : decode cX1_overtaken 16 = .ok (.iload_n 2, 1) := by decide +kernel
theorem dX1_overtaken_17 : decode cX1_overtaken 17 = .ok (.iadd, 1) := by decide +kernel
theorem dX1_overtaken_18 : decode cX1_overtaken 18 = .ok (.baload, 1) := by decide +kernel
theorem dX1_overtaken_19 : decode cX1_overtaken 19 = .ok (.ifCond .ne 26, 3) := by decide +kernel
theorem dX1_overtaken_22 : decode cX1_overtaken 22 = .ok (.aload_n 0, 1) := by decide +kernel
theorem dX1_overtaken_23 : decode cX1_overtaken 23 = .ok (.getfield 20, 3) := by decide +kernel
theorem dX1_overtaken_26 : decode cX1_overtaken 26 = .ok (.iload_n 1, 1) := by decide +kernel
theorem dX1_overtaken_27 : decode cX1_overtaken 27 = .ok (.baload, 1) := by decide +kernel
theorem dX1_overtaken_28 : decode cX1_overtaken 28 = .ok (.ifCond .eq 21, 3) := by decide +kernel
theorem dX1_overtaken_31 : decode cX1_overtaken 31 = .ok (.aload_n 0, 1) := by decide +kernel
theorem dX1_overtaken_32 : decode cX1_overtaken 32 = .ok (.getfield 35, 3) := by decide +kernel
theorem dX1_overtaken_35 : decode cX1_overtaken 35 = .ok (.bipush 16, 2) := by decide +kernel
theorem dX1_overtaken_37 : decode cX1_overtaken 37 = .ok (.iload_n 1, 1) := by decide +kernel
theorem dX1_overtaken_38 : decode cX1_overtaken 38 = .ok (.imul, 1) := by decide +kernel
theorem dX1_overtaken_39 : decode cX1_overtaken 39 = .ok (.iload_n 2, 1) := by decide +kernel
theorem dX1_overtaken_40 : decode cX1_overtaken 40 = .ok (.iadd, 1) := by decide +kernel
theorem dX1_overtaken_41 : decode cX1_overtaken 41 = .ok (.baload, 1) := by decide +kernel
theorem dX1_overtaken_42 : decode cX1_overtaken 42 = .ok (.ifCond .eq 7, 3) := by decide +kernel
theorem dX1_overtaken_45 : decode cX1_overtaken 45 = .ok (.iconst 1, 1) := by decide +kernel
theorem dX1_overtaken_46 : decode cX1_overtaken 46 = .ok (.goto 4, 3) := by decide +kernel
theorem dX1_overtaken_49 : decode cX1_overtaken 49 = .ok (.iconst 0, 1) := by decide +kernel
theorem dX1_overtaken_50 : decode cX1_overtaken 50 = .ok (.istore_n 3, 1) := by decide +kernel
theorem dX1_overtaken_51 : decode cX1_overtaken 51 = .ok (.iload_n 3, 1) := by decide +kernel
theorem dX1_overtaken_52 : decode cX1_overtaken 52 = .ok (.ifCond .eq 20, 3) := by decide +kernel
theorem dX1_overtaken_55 : decode cX1_overtaken 55 = .ok (.aload_n 0, 1) := by decide +kernel
theorem dX1_overtaken_56 : decode cX1_overtaken 56 = .ok (.getfield 13, 3) := by decide +kernel
theorem dX1_overtaken_59 : decode cX1_overtaken 59 = .ok (.iload_n 2, 1) := by decide +kernel
theorem dX1_overtaken_60 : decode cX1_overtaken 60 = .ok (.iaload, 1) := by decide +kernel
theorem dX1_overtaken_61 : decode cX1_overtaken 61 = .ok (.aload_n 0, 1) := by decide +kernel
theorem dX1_overtaken_62 : decode cX1_overtaken 62 = .ok (.getfield 23, 3) := by decide +kernel
theorem dX1_overtaken_65 : decode cX1_overtaken 65 = .ok (.iload_n 1, 1) := by decide +kernel
theorem dX1_overtaken_66 : decode cX1_overtaken 66 = .ok (.iaload, 1) := by decide +kernel
theorem dX1_overtaken_67 : decode cX1_overtaken 67 = .ok (.if_icmp .le 5, 3) := by decide +kernel
theorem dX1_overtaken_70 : decode cX1_overtaken 70 = .ok (.iconst 1, 1) := by decide +kernel
theorem dX1_overtaken_71 : decode cX1_overtaken 71 = .ok (.ireturn, 1) := by decide +kernel
theorem dX1_overtaken_72 : decode cX1_overtaken 72 = .ok (.iinc 2 1, 3) := by decide +kernel
theorem dX1_overtaken_75 : decode cX1_overtaken 75 = .ok (.goto (-73), 3) := by decide +kernel
theorem dX1_overtaken_78 : decode cX1_overtaken 78 = .ok (.iconst 0, 1) := by decide +kernel
theorem dX1_overtaken_79 : decode cX1_overtaken 79 = .ok (.ireturn, 1) := by decide +kernel
abbrev cX1_abort : ByteArray := prog_3_method_11_code
def yX1_abort : MethodName := ⟨RX1, "abort", "(I)I"⟩
theorem dX1_abort_0 : decode cX1_abort 0 = .ok (.aload_n 0, 1) := by decide +kernel
theorem dX1_abort_1 : decode cX1_abort 1 = .ok (.iload_n 1, 1) := by decide +kernel
theorem dX1_abort_2 : decode cX1_abort 2 = .ok (.invokevirtual 42, 3) := by decide +kernel
theorem dX1_abort_5 : decode cX1_abort 5 = .ok (.ifCond .eq 5, 3) := by decide +kernel
theorem dX1_abort_8 : decode cX1_abort 8 = .ok (.iconst (-1), 1) := by decide +kernel
theorem dX1_abort_9 : decode cX1_abort 9 = .ok (.ireturn, 1) := by decide +kernel
theorem dX1_abort_10 : decode cX1_abort 10 = .ok (.aload_n 0, 1) := by decide +kernel
theorem dX1_abort_11 : decode cX1_abort 11 = .ok (.getfield 16, 3) := by decide +kernel
theorem dX1_abort_14 : decode cX1_abort 14 = .ok (.iload_n 1, 1) := by decide +kernel
theorem dX1_abort_15 : decode cX1_abort 15 = .ok (.iconst 0, 1) := by decide +kernel
theorem dX1_abort_16 : decode cX1_abort 16 = .ok (.bastore, 1) := by decide +kernel
theorem dX1_abort_17 : decode cX1_abort 17 = .ok (.iconst 0, 1) := by decide +kernel
theorem dX1_abort_18 : decode cX1_abort 18 = .ok (.ireturn, 1) := by decide +kernel
abbrev cX1_might : ByteArray := prog_3_method_12_code
def yX1_might : MethodName := ⟨RX1, "might", "(I)I"⟩
theorem dX1_might_0 : decode cX1_might 0 = .ok (.aload_n 0, 1) := by decide +kernel
theorem dX1_might_1 : decode cX1_might 1 = .ok (.iload_n 1, 1) := by decide +kernel
theorem dX1_might_2 : decode cX1_might 2 = .ok (.invokevirtual 42, 3) := by decide +kernel
theorem dX1_might_5 : decode cX1_might 5 = .ok (.ifCond .eq 5, 3) := by decide +kernel
theorem dX1_might_8 : decode cX1_might 8 = .ok (.iconst (-1), 1) := by decide +kernel
theorem dX1_might_9 : decode cX1_might 9 = .ok (.ireturn, 1) := by decide +kernel
theorem dX1_might_10 : decode cX1_might 10 = .ok (.aload_n 0, 1) := by decide +kernel
theorem dX1_might_11 : decode cX1_might 11 = .ok (.iload_n 1, 1) := by decide +kernel
theorem dX1_might_12 : decode cX1_might 12 = .ok (.invokevirtual 61, 3) := by decide +kernel
theorem dX1_might_15 : decode cX1_might 15 = .ok (.ifCond .eq 7, 3) := by decide +kernel
theorem dX1_might_18 : decode cX1_might 18 = .ok (.iconst 0, 1) := by decide +kernel
theorem dX1_might_19 : decode cX1_might 19 = .ok (.goto 4, 3) := by decide +kernel
theorem dX1_might_22 : decode cX1_might 22 = .ok (.iconst 1, 1) := by decide +kernel
theorem dX1_might_23 : decode cX1_might 23 = .ok (.ireturn, 1) := by decide +kernel
abbrev cX1_committed : ByteArray := prog_3_method_13_code
def yX1_committed : MethodName := ⟨RX1, "committed", "(I)I"⟩
theorem dX1_committed_0 : decode cX1_committed 0 = .ok (.iload_n 1, 1) := by decide +kernel
theorem dX1_committed_1 : decode cX1_committed 1 = .ok (.invokestatic 46, 3) := by decide +kernel
theorem dX1_committed_4 : decode cX1_committed 4 = .ok (.ifCond .eq 7, 3) := by decide +kernel
theorem dX1_committed_7 : decode cX1_committed 7 = .ok (.iconst 0, 1) := by decide +kernel
theorem dX1_committed_8 : decode cX1_committed 8 = .ok (.goto 9, 3) := by decide +kernel
theorem dX1_committed_11 : decode cX1_committed 11 = .ok (.aload_n 0, 1) := by decide +kernel
theorem dX1_committed_12 : decode cX1_committed 12 = .ok (.getfield 7, 3) := by decide +kernel
theorem dX1_committed_15 : decode cX1_committed 15 = .ok (.iload_n 1, 1) := by decide +kernel
theorem dX1_committed_16 : decode cX1_committed 16 = .ok (.iaload, 1) := by decide +kernel
theorem dX1_committed_17 : decode cX1_committed 17 = .ok (.ireturn, 1) := by decide +kernel
abbrev cX1_sum : ByteArray := prog_3_method_14_code
def yX1_sum : MethodName := ⟨RX1, "sum", "(III)I"⟩
theorem dX1_sum_0 : decode cX1_sum 0 = .ok (.aload_n 0, 1) := by decide +kernel
theorem dX1_sum_1 : decode cX1_sum 1 = .ok (.iload_n 1, 1) := by decide +kernel
theorem dX1_sum_2 : decode cX1_sum 2 = .ok (.invokevirtual 42, 3) := by decide +kernel
theorem dX1_sum_5 : decode cX1_sum 5 = .ok (.ifCond .eq 5, 3) := by decide +kernel
theorem dX1_sum_8 : decode cX1_sum 8 = .ok (.iconst 0, 1) := by decide +kernel
theorem dX1_sum_9 : decode cX1_sum 9 = .ok (.ireturn, 1) := by decide +kernel
theorem dX1_sum_10 : decode cX1_sum 10 = .ok (.iconst 0, 1) := by decide +kernel
theorem dX1_sum_11 : decode cX1_sum 11 = .ok (.istore 4, 2) := by decide +kernel
theorem dX1_sum_13 : decode cX1_sum 13 = .ok (.iconst 0, 1) := by decide +kernel
theorem dX1_sum_14 : decode cX1_sum 14 = .ok (.istore 5, 2) := by decide +kernel
theorem dX1_sum_16 : decode cX1_sum 16 = .ok (.iload 5, 2) := by decide +kernel
theorem dX1_sum_18 : decode cX1_sum 18 = .ok (.bipush 16, 2) := by decide +kernel
theorem dX1_sum_20 : decode cX1_sum 20 = .ok (.if_icmp .ge 37, 3) := by decide +kernel
theorem dX1_sum_23 : decode cX1_sum 23 = .ok (.iload 5, 2) := by decide +kernel
theorem dX1_sum_25 : decode cX1_sum 25 = .ok (.iload_n 2, 1) := by decide +kernel
theorem dX1_sum_26 : decode cX1_sum 26 = .ok (.if_icmp .lt 25, 3) := by decide +kernel
theorem dX1_sum_29 : decode cX1_sum 29 = .ok (.iload 5, 2) := by decide +kernel
theorem dX1_sum_31 : decode cX1_sum 31 = .ok (.iload_n 3, 1) := by decide +kernel
theorem dX1_sum_32 : decode cX1_sum 32 = .ok (.if_icmp .gt 19, 3) := by decide +kernel
theorem dX1_sum_35 : decode cX1_sum 35 = .ok (.iload 4, 2) := by decide +kernel
theorem dX1_sum_37 : decode cX1_sum 37 = .ok (.aload_n 0, 1) := by decide +kernel
theorem dX1_sum_38 : decode cX1_sum 38 = .ok (.bipush 16, 2) := by decide +kernel
theorem dX1_sum_40 : decode cX1_sum 40 = .ok (.iload_n 1, 1) := by decide +kernel
theorem dX1_sum_41 : decode cX1_sum 41 = .ok (.imul, 1) := by decide +kernel
theorem dX1_sum_42 : decode cX1_sum 42 = .ok (.iload 5, 2) := by decide +kernel
theorem dX1_sum_44 : decode cX1_sum 44 = .ok (.iadd, 1) := by decide +kernel
theorem dX1_sum_45 : decode cX1_sum 45 = .ok (.invokevirtual 49, 3) := by decide +kernel
theorem dX1_sum_48 : decode cX1_sum 48 = .ok (.iadd, 1) := by decide +kernel
theorem dX1_sum_49 : decode cX1_sum 49 = .ok (.istore 4, 2) := by decide +kernel
theorem dX1_sum_51 : decode cX1_sum 51 = .ok (.iinc 5 1, 3) := by decide +kernel
theorem dX1_sum_54 : decode cX1_sum 54 = .ok (.goto (-38), 3) := by decide +kernel
theorem dX1_sum_57 : decode cX1_sum 57 = .ok (.iload 4, 2) := by decide +kernel
theorem dX1_sum_59 : decode cX1_sum 59 = .ok (.ireturn, 1) := by decide +kernel
abbrev cX1_tidy : ByteArray := prog_3_method_15_code
def yX1_tidy : MethodName := ⟨RX1, "tidy", "()V"⟩
theorem dX1_tidy_0 : decode cX1_tidy 0 = .ok (.return_, 1) := by decide +kernel
abbrev cX1_open : ByteArray := prog_3_method_16_code
def yX1_open : MethodName := ⟨RX1, "open", "()I"⟩
theorem dX1_open_0 : decode cX1_open 0 = .ok (.iconst 0, 1) := by decide +kernel
theorem dX1_open_1 : decode cX1_open 1 = .ok (.istore_n 1, 1) := by decide +kernel
theorem dX1_open_2 : decode cX1_open 2 = .ok (.iconst 0, 1) := by decide +kernel
theorem dX1_open_3 : decode cX1_open 3 = .ok (.istore_n 2, 1) := by decide +kernel
theorem dX1_open_4 : decode cX1_open 4 = .ok (.iload_n 2, 1) := by decide +kernel
theorem dX1_open_5 : decode cX1_open 5 = .ok (.bipush 6, 2) := by decide +kernel
theorem dX1_open_7 : decode cX1_open 7 = .ok (.if_icmp .ge 21, 3) := by decide +kernel
theorem dX1_open_10 : decode cX1_open 10 = .ok (.aload_n 0, 1) := by decide +kernel
theorem dX1_open_11 : decode cX1_open 11 = .ok (.getfield 16, 3) := by decide +kernel
theorem dX1_open_14 : decode cX1_open 14 = .ok (.iload_n 2, 1) := by decide +kernel
theorem dX1_open_15 : decode cX1_open 15 = .ok (.baload, 1) := by decide +kernel
theorem dX1_open_16 : decode cX1_open 16 = .ok (.ifCond .eq 6, 3) := by decide +kernel
theorem dX1_open_19 : decode cX1_open 19 = .ok (.iinc 1 1, 3) := by decide +kernel
theorem dX1_open_22 : decode cX1_open 22 = .ok (.iinc 2 1, 3) := by decide +kernel
theorem dX1_open_25 : decode cX1_open 25 = .ok (.goto (-21), 3) := by decide +kernel
theorem dX1_open_28 : decode cX1_open 28 = .ok (.iload_n 1, 1) := by decide +kernel
theorem dX1_open_29 : decode cX1_open 29 = .ok (.ireturn, 1) := by decide +kernel
theorem q13 : (Jvm.Cond.initialized "VersionStoreModel") ∈ lw_all := lw_g (lw_at lw_m0 2 rfl) rfl
theorem q146 : (Jvm.Cond.instantiable "VersionStoreModel" (10 : Nat)) ∈ lw_all := lw_g (lw_at lw_m0 135 rfl) rfl
theorem q148 : (Jvm.Cond.instanceMethod ({ cls := "VersionStoreModel", name := "<init>", desc := "()V" } : Jvm.MethodName)) ∈ lw_all := lw_g (lw_at lw_m0 137 rfl) rfl
theorem q149 : (Jvm.Cond.code ({ cls := "VersionStoreModel", name := "<init>", desc := "()V" } : Jvm.MethodName) prog_3_method_1_code (1 : Nat) (Option.none : Option Jvm.ClassFile.FieldType)) ∈ lw_all := lw_g (lw_at lw_m0 138 rfl) rfl
theorem q150 : (Jvm.Cond.methodLink "VersionStoreModel" (1 : Nat) ({ cls := "java/lang/Object", name := "<init>", desc := "()V" } : Jvm.MethodName)) ∈ lw_all := lw_g (lw_at lw_m0 139 rfl) rfl
theorem q151 : (Jvm.Cond.fieldLink "VersionStoreModel" (7 : Nat) "VersionStoreModel" "state" "[I") ∈ lw_all := lw_g (lw_at lw_m0 140 rfl) rfl
theorem q152 : (Jvm.Cond.fieldLink "VersionStoreModel" (13 : Nat) "VersionStoreModel" "written" "[I") ∈ lw_all := lw_g (lw_at lw_m0 141 rfl) rfl
theorem q153 : (Jvm.Cond.fieldLink "VersionStoreModel" (38 : Nat) "VersionStoreModel" "commits" "I") ∈ lw_all := lw_g (lw_at lw_m0 142 rfl) rfl
theorem q154 : (Jvm.Cond.fieldLink "VersionStoreModel" (16 : Nat) "VersionStoreModel" "live" "[Z") ∈ lw_all := lw_g (lw_at lw_m0 143 rfl) rfl
theorem q155 : (Jvm.Cond.fieldLink "VersionStoreModel" (20 : Nat) "VersionStoreModel" "serials" "[Z") ∈ lw_all := lw_g (lw_at lw_m0 144 rfl) rfl
theorem q156 : (Jvm.Cond.fieldLink "VersionStoreModel" (23 : Nat) "VersionStoreModel" "began" "[I") ∈ lw_all := lw_g (lw_at lw_m0 145 rfl) rfl
theorem q157 : (Jvm.Cond.fieldLink "VersionStoreModel" (26 : Nat) "VersionStoreModel" "view" "[I") ∈ lw_all := lw_g (lw_at lw_m0 146 rfl) rfl
theorem q158 : (Jvm.Cond.fieldLink "VersionStoreModel" (29 : Nat) "VersionStoreModel" "wrote" "[Z") ∈ lw_all := lw_g (lw_at lw_m0 147 rfl) rfl
theorem q159 : (Jvm.Cond.fieldLink "VersionStoreModel" (32 : Nat) "VersionStoreModel" "own" "[I") ∈ lw_all := lw_g (lw_at lw_m0 148 rfl) rfl
theorem q160 : (Jvm.Cond.fieldLink "VersionStoreModel" (35 : Nat) "VersionStoreModel" "looked" "[Z") ∈ lw_all := lw_g (lw_at lw_m0 149 rfl) rfl
theorem q161 : (Jvm.Cond.laysFinal "VersionStoreModel" "VersionStoreModel" "state" "[I") ∈ lw_all := lw_g (lw_at lw_m0 150 rfl) rfl
theorem q162 : (Jvm.Cond.soleField "VersionStoreModel" "state") ∈ lw_all := lw_g (lw_at lw_m0 151 rfl) rfl
theorem q163 : (Jvm.Cond.laysFinal "VersionStoreModel" "VersionStoreModel" "written" "[I") ∈ lw_all := lw_g (lw_at lw_m0 152 rfl) rfl
theorem q164 : (Jvm.Cond.soleField "VersionStoreModel" "written") ∈ lw_all := lw_g (lw_at lw_m0 153 rfl) rfl
theorem q165 : (Jvm.Cond.lays "VersionStoreModel" "VersionStoreModel" "commits" "I") ∈ lw_all := lw_g (lw_at lw_m0 154 rfl) rfl
theorem q166 : (Jvm.Cond.soleField "VersionStoreModel" "commits") ∈ lw_all := lw_g (lw_at lw_m0 155 rfl) rfl
theorem q167 : (Jvm.Cond.laysFinal "VersionStoreModel" "VersionStoreModel" "live" "[Z") ∈ lw_all := lw_g (lw_at lw_m0 156 rfl) rfl
theorem q168 : (Jvm.Cond.soleField "VersionStoreModel" "live") ∈ lw_all := lw_g (lw_at lw_m0 157 rfl) rfl
theorem q169 : (Jvm.Cond.laysFinal "VersionStoreModel" "VersionStoreModel" "serials" "[Z") ∈ lw_all := lw_g (lw_at lw_m0 158 rfl) rfl
theorem q170 : (Jvm.Cond.soleField "VersionStoreModel" "serials") ∈ lw_all := lw_g (lw_at lw_m0 159 rfl) rfl
theorem q171 : (Jvm.Cond.laysFinal "VersionStoreModel" "VersionStoreModel" "began" "[I") ∈ lw_all := lw_g (lw_at lw_m0 160 rfl) rfl
theorem q172 : (Jvm.Cond.soleField "VersionStoreModel" "began") ∈ lw_all := lw_g (lw_at lw_m0 161 rfl) rfl
theorem q173 : (Jvm.Cond.laysFinal "VersionStoreModel" "VersionStoreModel" "view" "[I") ∈ lw_all := lw_g (lw_at lw_m0 162 rfl) rfl
theorem q174 : (Jvm.Cond.soleField "VersionStoreModel" "view") ∈ lw_all := lw_g (lw_at lw_m0 163 rfl) rfl
theorem q175 : (Jvm.Cond.laysFinal "VersionStoreModel" "VersionStoreModel" "wrote" "[Z") ∈ lw_all := lw_g (lw_at lw_m0 164 rfl) rfl
theorem q176 : (Jvm.Cond.soleField "VersionStoreModel" "wrote") ∈ lw_all := lw_g (lw_at lw_m0 165 rfl) rfl
theorem q177 : (Jvm.Cond.laysFinal "VersionStoreModel" "VersionStoreModel" "own" "[I") ∈ lw_all := lw_g (lw_at lw_m0 166 rfl) rfl
theorem q178 : (Jvm.Cond.soleField "VersionStoreModel" "own") ∈ lw_all := lw_g (lw_at lw_m0 167 rfl) rfl
theorem q179 : (Jvm.Cond.laysFinal "VersionStoreModel" "VersionStoreModel" "looked" "[Z") ∈ lw_all := lw_g (lw_at lw_m0 168 rfl) rfl
theorem q180 : (Jvm.Cond.soleField "VersionStoreModel" "looked") ∈ lw_all := lw_g (lw_at lw_m0 169 rfl) rfl
theorem q181 : (Jvm.Cond.superclass "VersionStoreModel" "java/lang/Object") ∈ lw_all := lw_g (lw_at lw_m0 170 rfl) rfl
theorem q183 : (Jvm.Cond.instanceMethod ({ cls := "VersionStoreModel", name := "begin", desc := "(Z)I" } : Jvm.MethodName)) ∈ lw_all := lw_g (lw_at lw_m0 172 rfl) rfl
theorem q184 : (Jvm.Cond.selects "VersionStoreModel" ({ cls := "VersionStoreModel", name := "begin", desc := "(Z)I" } : Jvm.MethodName) ({ cls := "VersionStoreModel", name := "begin", desc := "(Z)I" } : Jvm.MethodName)) ∈ lw_all := lw_g (lw_at lw_m0 173 rfl) rfl
theorem q185 : (Jvm.Cond.code ({ cls := "VersionStoreModel", name := "begin", desc := "(Z)I" } : Jvm.MethodName) prog_3_method_2_code (4 : Nat) (Option.some Jvm.ClassFile.FieldType.int)) ∈ lw_all := lw_g (lw_at lw_m0 174 rfl) rfl
theorem q187 : (Jvm.Cond.instanceMethod ({ cls := "VersionStoreModel", name := "read", desc := "(II)I" } : Jvm.MethodName)) ∈ lw_all := lw_g (lw_at lw_m0 176 rfl) rfl
theorem q188 : (Jvm.Cond.selects "VersionStoreModel" ({ cls := "VersionStoreModel", name := "read", desc := "(II)I" } : Jvm.MethodName) ({ cls := "VersionStoreModel", name := "read", desc := "(II)I" } : Jvm.MethodName)) ∈ lw_all := lw_g (lw_at lw_m0 177 rfl) rfl
theorem q189 : (Jvm.Cond.code ({ cls := "VersionStoreModel", name := "read", desc := "(II)I" } : Jvm.MethodName) prog_3_method_6_code (4 : Nat) (Option.some Jvm.ClassFile.FieldType.int)) ∈ lw_all := lw_g (lw_at lw_m0 178 rfl) rfl
theorem q190 : (Jvm.Cond.methodLink "VersionStoreModel" (42 : Nat) ({ cls := "VersionStoreModel", name := "bad", desc := "(I)Z" } : Jvm.MethodName)) ∈ lw_all := lw_g (lw_at lw_m0 179 rfl) rfl
theorem q191 : (Jvm.Cond.privateMethod ({ cls := "VersionStoreModel", name := "bad", desc := "(I)Z" } : Jvm.MethodName)) ∈ lw_tbl := lw_at lw_m0 180 rfl
theorem q192 : (Jvm.Cond.instanceMethod ({ cls := "VersionStoreModel", name := "bad", desc := "(I)Z" } : Jvm.MethodName)) ∈ lw_all := lw_g (lw_at lw_m0 181 rfl) rfl
theorem q193 : (Jvm.Cond.code ({ cls := "VersionStoreModel", name := "bad", desc := "(I)Z" } : Jvm.MethodName) prog_3_method_3_code (2 : Nat) (Option.some Jvm.ClassFile.FieldType.boolean)) ∈ lw_all := lw_g (lw_at lw_m0 182 rfl) rfl
theorem q194 : (Jvm.Cond.methodLink "VersionStoreModel" (46 : Nat) ({ cls := "VersionStoreModel", name := "badCell", desc := "(I)Z" } : Jvm.MethodName)) ∈ lw_all := lw_g (lw_at lw_m0 183 rfl) rfl
theorem q195 : (Jvm.Cond.static ({ cls := "VersionStoreModel", name := "badCell", desc := "(I)Z" } : Jvm.MethodName)) ∈ lw_all := lw_g (lw_at lw_m0 184 rfl) rfl
theorem q196 : (Jvm.Cond.code ({ cls := "VersionStoreModel", name := "badCell", desc := "(I)Z" } : Jvm.MethodName) prog_3_method_4_code (1 : Nat) (Option.some Jvm.ClassFile.FieldType.boolean)) ∈ lw_all := lw_g (lw_at lw_m0 185 rfl) rfl
theorem q197 : (Jvm.Cond.methodLink "VersionStoreModel" (49 : Nat) ({ cls := "VersionStoreModel", name := "seen", desc := "(I)I" } : Jvm.MethodName)) ∈ lw_all := lw_g (lw_at lw_m0 186 rfl) rfl
theorem q198 : (Jvm.Cond.privateMethod ({ cls := "VersionStoreModel", name := "seen", desc := "(I)I" } : Jvm.MethodName)) ∈ lw_tbl := lw_at lw_m0 187 rfl
theorem q199 : (Jvm.Cond.instanceMethod ({ cls := "VersionStoreModel", name := "seen", desc := "(I)I" } : Jvm.MethodName)) ∈ lw_all := lw_g (lw_at lw_m0 188 rfl) rfl
theorem q200 : (Jvm.Cond.code ({ cls := "VersionStoreModel", name := "seen", desc := "(I)I" } : Jvm.MethodName) prog_3_method_5_code (2 : Nat) (Option.some Jvm.ClassFile.FieldType.int)) ∈ lw_all := lw_g (lw_at lw_m0 189 rfl) rfl
theorem q202 : (Jvm.Cond.instanceMethod ({ cls := "VersionStoreModel", name := "write", desc := "(III)I" } : Jvm.MethodName)) ∈ lw_all := lw_g (lw_at lw_m0 191 rfl) rfl
theorem q203 : (Jvm.Cond.selects "VersionStoreModel" ({ cls := "VersionStoreModel", name := "write", desc := "(III)I" } : Jvm.MethodName) ({ cls := "VersionStoreModel", name := "write", desc := "(III)I" } : Jvm.MethodName)) ∈ lw_all := lw_g (lw_at lw_m0 192 rfl) rfl
theorem q204 : (Jvm.Cond.code ({ cls := "VersionStoreModel", name := "write", desc := "(III)I" } : Jvm.MethodName) prog_3_method_7_code (5 : Nat) (Option.some Jvm.ClassFile.FieldType.int)) ∈ lw_all := lw_g (lw_at lw_m0 193 rfl) rfl
theorem q206 : (Jvm.Cond.instanceMethod ({ cls := "VersionStoreModel", name := "add", desc := "(III)I" } : Jvm.MethodName)) ∈ lw_all := lw_g (lw_at lw_m0 195 rfl) rfl
theorem q207 : (Jvm.Cond.selects "VersionStoreModel" ({ cls := "VersionStoreModel", name := "add", desc := "(III)I" } : Jvm.MethodName) ({ cls := "VersionStoreModel", name := "add", desc := "(III)I" } : Jvm.MethodName)) ∈ lw_all := lw_g (lw_at lw_m0 196 rfl) rfl
theorem q208 : (Jvm.Cond.code ({ cls := "VersionStoreModel", name := "add", desc := "(III)I" } : Jvm.MethodName) prog_3_method_8_code (5 : Nat) (Option.some Jvm.ClassFile.FieldType.int)) ∈ lw_all := lw_g (lw_at lw_m0 197 rfl) rfl
theorem q209 : (Jvm.Cond.methodLink "VersionStoreModel" (53 : Nat) ({ cls := "VersionStoreModel", name := "read", desc := "(II)I" } : Jvm.MethodName)) ∈ lw_all := lw_g (lw_at lw_m0 198 rfl) rfl
theorem q210 : (Jvm.Cond.methodLink "VersionStoreModel" (57 : Nat) ({ cls := "VersionStoreModel", name := "write", desc := "(III)I" } : Jvm.MethodName)) ∈ lw_all := lw_g (lw_at lw_m0 199 rfl) rfl
theorem q212 : (Jvm.Cond.instanceMethod ({ cls := "VersionStoreModel", name := "commit", desc := "(I)I" } : Jvm.MethodName)) ∈ lw_all := lw_g (lw_at lw_m0 201 rfl) rfl
theorem q213 : (Jvm.Cond.selects "VersionStoreModel" ({ cls := "VersionStoreModel", name := "commit", desc := "(I)I" } : Jvm.MethodName) ({ cls := "VersionStoreModel", name := "commit", desc := "(I)I" } : Jvm.MethodName)) ∈ lw_all := lw_g (lw_at lw_m0 202 rfl) rfl
theorem q214 : (Jvm.Cond.code ({ cls := "VersionStoreModel", name := "commit", desc := "(I)I" } : Jvm.MethodName) prog_3_method_10_code (3 : Nat) (Option.some Jvm.ClassFile.FieldType.int)) ∈ lw_all := lw_g (lw_at lw_m0 203 rfl) rfl
theorem q215 : (Jvm.Cond.methodLink "VersionStoreModel" (61 : Nat) ({ cls := "VersionStoreModel", name := "overtaken", desc := "(I)Z" } : Jvm.MethodName)) ∈ lw_all := lw_g (lw_at lw_m0 204 rfl) rfl
theorem q216 : (Jvm.Cond.privateMethod ({ cls := "VersionStoreModel", name := "overtaken", desc := "(I)Z" } : Jvm.MethodName)) ∈ lw_tbl := lw_at lw_m0 205 rfl
theorem q217 : (Jvm.Cond.instanceMethod ({ cls := "VersionStoreModel", name := "overtaken", desc := "(I)Z" } : Jvm.MethodName)) ∈ lw_all := lw_g (lw_at lw_m0 206 rfl) rfl
theorem q218 : (Jvm.Cond.code ({ cls := "VersionStoreModel", name := "overtaken", desc := "(I)Z" } : Jvm.MethodName) prog_3_method_9_code (4 : Nat) (Option.some Jvm.ClassFile.FieldType.boolean)) ∈ lw_all := lw_g (lw_at lw_m0 207 rfl) rfl
theorem q220 : (Jvm.Cond.instanceMethod ({ cls := "VersionStoreModel", name := "abort", desc := "(I)I" } : Jvm.MethodName)) ∈ lw_all := lw_g (lw_at lw_m0 209 rfl) rfl
theorem q221 : (Jvm.Cond.selects "VersionStoreModel" ({ cls := "VersionStoreModel", name := "abort", desc := "(I)I" } : Jvm.MethodName) ({ cls := "VersionStoreModel", name := "abort", desc := "(I)I" } : Jvm.MethodName)) ∈ lw_all := lw_g (lw_at lw_m0 210 rfl) rfl
theorem q222 : (Jvm.Cond.code ({ cls := "VersionStoreModel", name := "abort", desc := "(I)I" } : Jvm.MethodName) prog_3_method_11_code (2 : Nat) (Option.some Jvm.ClassFile.FieldType.int)) ∈ lw_all := lw_g (lw_at lw_m0 211 rfl) rfl
theorem q224 : (Jvm.Cond.instanceMethod ({ cls := "VersionStoreModel", name := "might", desc := "(I)I" } : Jvm.MethodName)) ∈ lw_all := lw_g (lw_at lw_m0 213 rfl) rfl
theorem q225 : (Jvm.Cond.selects "VersionStoreModel" ({ cls := "VersionStoreModel", name := "might", desc := "(I)I" } : Jvm.MethodName) ({ cls := "VersionStoreModel", name := "might", desc := "(I)I" } : Jvm.MethodName)) ∈ lw_all := lw_g (lw_at lw_m0 214 rfl) rfl
theorem q226 : (Jvm.Cond.code ({ cls := "VersionStoreModel", name := "might", desc := "(I)I" } : Jvm.MethodName) prog_3_method_12_code (2 : Nat) (Option.some Jvm.ClassFile.FieldType.int)) ∈ lw_all := lw_g (lw_at lw_m0 215 rfl) rfl
theorem q228 : (Jvm.Cond.instanceMethod ({ cls := "VersionStoreModel", name := "committed", desc := "(I)I" } : Jvm.MethodName)) ∈ lw_all := lw_g (lw_at lw_m0 217 rfl) rfl
theorem q229 : (Jvm.Cond.selects "VersionStoreModel" ({ cls := "VersionStoreModel", name := "committed", desc := "(I)I" } : Jvm.MethodName) ({ cls := "VersionStoreModel", name := "committed", desc := "(I)I" } : Jvm.MethodName)) ∈ lw_all := lw_g (lw_at lw_m0 218 rfl) rfl
theorem q230 : (Jvm.Cond.code ({ cls := "VersionStoreModel", name := "committed", desc := "(I)I" } : Jvm.MethodName) prog_3_method_13_code (2 : Nat) (Option.some Jvm.ClassFile.FieldType.int)) ∈ lw_all := lw_g (lw_at lw_m0 219 rfl) rfl
theorem q232 : (Jvm.Cond.instanceMethod ({ cls := "VersionStoreModel", name := "sum", desc := "(III)I" } : Jvm.MethodName)) ∈ lw_all := lw_g (lw_at lw_m0 221 rfl) rfl
theorem q233 : (Jvm.Cond.selects "VersionStoreModel" ({ cls := "VersionStoreModel", name := "sum", desc := "(III)I" } : Jvm.MethodName) ({ cls := "VersionStoreModel", name := "sum", desc := "(III)I" } : Jvm.MethodName)) ∈ lw_all := lw_g (lw_at lw_m0 222 rfl) rfl
theorem q234 : (Jvm.Cond.code ({ cls := "VersionStoreModel", name := "sum", desc := "(III)I" } : Jvm.MethodName) prog_3_method_14_code (6 : Nat) (Option.some Jvm.ClassFile.FieldType.int)) ∈ lw_all := lw_g (lw_at lw_m0 223 rfl) rfl
theorem q236 : (Jvm.Cond.instanceMethod ({ cls := "VersionStoreModel", name := "tidy", desc := "()V" } : Jvm.MethodName)) ∈ lw_all := lw_g (lw_at lw_m0 225 rfl) rfl
theorem q237 : (Jvm.Cond.selects "VersionStoreModel" ({ cls := "VersionStoreModel", name := "tidy", desc := "()V" } : Jvm.MethodName) ({ cls := "VersionStoreModel", name := "tidy", desc := "()V" } : Jvm.MethodName)) ∈ lw_all := lw_g (lw_at lw_m0 226 rfl) rfl
theorem q238 : (Jvm.Cond.code ({ cls := "VersionStoreModel", name := "tidy", desc := "()V" } : Jvm.MethodName) prog_3_method_15_code (1 : Nat) (Option.none : Option Jvm.ClassFile.FieldType)) ∈ lw_all := lw_g (lw_at lw_m0 227 rfl) rfl
theorem q240 : (Jvm.Cond.instanceMethod ({ cls := "VersionStoreModel", name := "open", desc := "()I" } : Jvm.MethodName)) ∈ lw_all := lw_g (lw_at lw_m0 229 rfl) rfl
theorem q241 : (Jvm.Cond.selects "VersionStoreModel" ({ cls := "VersionStoreModel", name := "open", desc := "()I" } : Jvm.MethodName) ({ cls := "VersionStoreModel", name := "open", desc := "()I" } : Jvm.MethodName)) ∈ lw_all := lw_g (lw_at lw_m0 230 rfl) rfl
theorem q242 : (Jvm.Cond.code ({ cls := "VersionStoreModel", name := "open", desc := "()I" } : Jvm.MethodName) prog_3_method_16_code (3 : Nat) (Option.some Jvm.ClassFile.FieldType.int)) ∈ lw_all := lw_g (lw_at lw_m0 231 rfl) rfl
theorem in_X1 : ∀ w ∈ wsX10, w ∈ lw_all := lw_in wsX10 [161, 163, 165, 167, 169, 171, 173, 175, 177, 179] (by decide +kernel) (by decide +kernel)
end
section
/-! java/lang/Object -/
set_option maxRecDepth 100000
def RJ0 : String := "java/lang/Object"
abbrev cJ0_init : ByteArray := object_method_1_code
def yJ0_init : MethodName := ⟨RJ0, "<init>", "()V"⟩
theorem dJ0_init_0 : decode cJ0_init 0 = .ok (.return_, 1) := by decide +kernel
theorem q20 : (Jvm.Cond.instanceMethod ({ cls := "java/lang/Object", name := "<init>", desc := "()V" } : Jvm.MethodName)) ∈ lw_all := lw_g (lw_at lw_m0 9 rfl) rfl
theorem q21 : (Jvm.Cond.code ({ cls := "java/lang/Object", name := "<init>", desc := "()V" } : Jvm.MethodName) object_method_1_code (1 : Nat) (Option.none : Option Jvm.ClassFile.FieldType)) ∈ lw_all := lw_g (lw_at lw_m0 10 rfl) rfl

theorem q62 : (Jvm.Cond.arrayClass Jvm.ClassFile.FieldType.int) ∈ lw_all := lw_g (lw_at lw_m0 51 rfl) rfl
set_option maxRecDepth 100000
theorem q63 : (Jvm.Cond.arrayClass Jvm.ClassFile.FieldType.boolean) ∈ lw_all := lw_g (lw_at lw_m0 52 rfl) rfl

theorem q11 : (Jvm.Cond.initialized "VersionStoreLaw") ∈ lw_all := lw_g (lw_at lw_m0 0 rfl) rfl
set_option maxRecDepth 100000
theorem q14 : (Jvm.Cond.classLink "VersionStoreLaw" (7 : Nat) "VersionStore") ∈ lw_all := lw_g (lw_at lw_m0 3 rfl) rfl
theorem q16 : (Jvm.Cond.methodLink "VersionStoreLaw" (9 : Nat) ({ cls := "VersionStore", name := "<init>", desc := "()V" } : Jvm.MethodName)) ∈ lw_all := lw_g (lw_at lw_m0 5 rfl) rfl
theorem q64 : (Jvm.Cond.methodLink "VersionStoreLaw" (13 : Nat) ({ cls := "VersionStore", name := "begin", desc := "(Z)I" } : Jvm.MethodName)) ∈ lw_all := lw_g (lw_at lw_m0 53 rfl) rfl
theorem q68 : (Jvm.Cond.methodLink "VersionStoreLaw" (18 : Nat) ({ cls := "VersionStore", name := "read", desc := "(II)I" } : Jvm.MethodName)) ∈ lw_all := lw_g (lw_at lw_m0 57 rfl) rfl
theorem q91 : (Jvm.Cond.methodLink "VersionStoreLaw" (23 : Nat) ({ cls := "VersionStore", name := "write", desc := "(III)I" } : Jvm.MethodName)) ∈ lw_all := lw_g (lw_at lw_m0 80 rfl) rfl
theorem q95 : (Jvm.Cond.methodLink "VersionStoreLaw" (28 : Nat) ({ cls := "VersionStore", name := "add", desc := "(III)I" } : Jvm.MethodName)) ∈ lw_all := lw_g (lw_at lw_m0 84 rfl) rfl
theorem q100 : (Jvm.Cond.methodLink "VersionStoreLaw" (32 : Nat) ({ cls := "VersionStore", name := "commit", desc := "(I)I" } : Jvm.MethodName)) ∈ lw_all := lw_g (lw_at lw_m0 89 rfl) rfl
theorem q124 : (Jvm.Cond.methodLink "VersionStoreLaw" (37 : Nat) ({ cls := "VersionStore", name := "abort", desc := "(I)I" } : Jvm.MethodName)) ∈ lw_all := lw_g (lw_at lw_m0 113 rfl) rfl
theorem q128 : (Jvm.Cond.methodLink "VersionStoreLaw" (41 : Nat) ({ cls := "VersionStore", name := "might", desc := "(I)I" } : Jvm.MethodName)) ∈ lw_all := lw_g (lw_at lw_m0 117 rfl) rfl
theorem q132 : (Jvm.Cond.methodLink "VersionStoreLaw" (45 : Nat) ({ cls := "VersionStore", name := "committed", desc := "(I)I" } : Jvm.MethodName)) ∈ lw_all := lw_g (lw_at lw_m0 121 rfl) rfl
theorem q136 : (Jvm.Cond.methodLink "VersionStoreLaw" (49 : Nat) ({ cls := "VersionStore", name := "sum", desc := "(III)I" } : Jvm.MethodName)) ∈ lw_all := lw_g (lw_at lw_m0 125 rfl) rfl
theorem q140 : (Jvm.Cond.methodLink "VersionStoreLaw" (53 : Nat) ({ cls := "VersionStore", name := "tidy", desc := "()V" } : Jvm.MethodName)) ∈ lw_all := lw_g (lw_at lw_m0 129 rfl) rfl
theorem q141 : (Jvm.Cond.methodLink "VersionStoreLaw" (57 : Nat) ({ cls := "VersionStore", name := "open", desc := "()I" } : Jvm.MethodName)) ∈ lw_all := lw_g (lw_at lw_m0 130 rfl) rfl
theorem q145 : (Jvm.Cond.classLink "VersionStoreLaw" (10 : Nat) "VersionStoreModel") ∈ lw_all := lw_g (lw_at lw_m0 134 rfl) rfl
theorem q147 : (Jvm.Cond.methodLink "VersionStoreLaw" (12 : Nat) ({ cls := "VersionStoreModel", name := "<init>", desc := "()V" } : Jvm.MethodName)) ∈ lw_all := lw_g (lw_at lw_m0 136 rfl) rfl
theorem q182 : (Jvm.Cond.methodLink "VersionStoreLaw" (17 : Nat) ({ cls := "VersionStoreModel", name := "begin", desc := "(Z)I" } : Jvm.MethodName)) ∈ lw_all := lw_g (lw_at lw_m0 171 rfl) rfl
theorem q186 : (Jvm.Cond.methodLink "VersionStoreLaw" (22 : Nat) ({ cls := "VersionStoreModel", name := "read", desc := "(II)I" } : Jvm.MethodName)) ∈ lw_all := lw_g (lw_at lw_m0 175 rfl) rfl
theorem q201 : (Jvm.Cond.methodLink "VersionStoreLaw" (27 : Nat) ({ cls := "VersionStoreModel", name := "write", desc := "(III)I" } : Jvm.MethodName)) ∈ lw_all := lw_g (lw_at lw_m0 190 rfl) rfl
theorem q205 : (Jvm.Cond.methodLink "VersionStoreLaw" (31 : Nat) ({ cls := "VersionStoreModel", name := "add", desc := "(III)I" } : Jvm.MethodName)) ∈ lw_all := lw_g (lw_at lw_m0 194 rfl) rfl
theorem q211 : (Jvm.Cond.methodLink "VersionStoreLaw" (36 : Nat) ({ cls := "VersionStoreModel", name := "commit", desc := "(I)I" } : Jvm.MethodName)) ∈ lw_all := lw_g (lw_at lw_m0 200 rfl) rfl
theorem q219 : (Jvm.Cond.methodLink "VersionStoreLaw" (40 : Nat) ({ cls := "VersionStoreModel", name := "abort", desc := "(I)I" } : Jvm.MethodName)) ∈ lw_all := lw_g (lw_at lw_m0 208 rfl) rfl
theorem q223 : (Jvm.Cond.methodLink "VersionStoreLaw" (44 : Nat) ({ cls := "VersionStoreModel", name := "might", desc := "(I)I" } : Jvm.MethodName)) ∈ lw_all := lw_g (lw_at lw_m0 212 rfl) rfl
theorem q227 : (Jvm.Cond.methodLink "VersionStoreLaw" (48 : Nat) ({ cls := "VersionStoreModel", name := "committed", desc := "(I)I" } : Jvm.MethodName)) ∈ lw_all := lw_g (lw_at lw_m0 216 rfl) rfl
theorem q231 : (Jvm.Cond.methodLink "VersionStoreLaw" (52 : Nat) ({ cls := "VersionStoreModel", name := "sum", desc := "(III)I" } : Jvm.MethodName)) ∈ lw_all := lw_g (lw_at lw_m0 220 rfl) rfl
theorem q235 : (Jvm.Cond.methodLink "VersionStoreLaw" (56 : Nat) ({ cls := "VersionStoreModel", name := "tidy", desc := "()V" } : Jvm.MethodName)) ∈ lw_all := lw_g (lw_at lw_m0 224 rfl) rfl
theorem q239 : (Jvm.Cond.methodLink "VersionStoreLaw" (61 : Nat) ({ cls := "VersionStoreModel", name := "open", desc := "()I" } : Jvm.MethodName)) ∈ lw_all := lw_g (lw_at lw_m0 228 rfl) rfl

/-! the law's own entry -/
set_option maxRecDepth 100000
abbrev cL_law : ByteArray := code
theorem dL_law_0 : decode cL_law 0 = .ok (.new 7, 3) := by decide +kernel
theorem dL_law_3 : decode cL_law 3 = .ok (.dup, 1) := by decide +kernel
theorem dL_law_4 : decode cL_law 4 = .ok (.invokespecial 9, 3) := by decide +kernel
theorem dL_law_7 : decode cL_law 7 = .ok (.astore_n 1, 1) := by decide +kernel
theorem dL_law_8 : decode cL_law 8 = .ok (.new 10, 3) := by decide +kernel
theorem dL_law_11 : decode cL_law 11 = .ok (.dup, 1) := by decide +kernel
theorem dL_law_12 : decode cL_law 12 = .ok (.invokespecial 12, 3) := by decide +kernel
theorem dL_law_15 : decode cL_law 15 = .ok (.astore_n 2, 1) := by decide +kernel
theorem dL_law_16 : decode cL_law 16 = .ok (.iconst 0, 1) := by decide +kernel
theorem dL_law_17 : decode cL_law 17 = .ok (.istore_n 3, 1) := by decide +kernel
theorem dL_law_18 : decode cL_law 18 = .ok (.iload_n 3, 1) := by decide +kernel
theorem dL_law_19 : decode cL_law 19 = .ok (.aload_n 0, 1) := by decide +kernel
theorem dL_law_20 : decode cL_law 20 = .ok (.arraylength, 1) := by decide +kernel
theorem dL_law_21 : decode cL_law 21 = .ok (.iconst 4, 1) := by decide +kernel
theorem dL_law_22 : decode cL_law 22 = .ok (.isub, 1) := by decide +kernel
theorem dL_law_23 : decode cL_law 23 = .ok (.if_icmp .gt 392, 3) := by decide +kernel
theorem dL_law_26 : decode cL_law 26 = .ok (.aload_n 0, 1) := by decide +kernel
theorem dL_law_27 : decode cL_law 27 = .ok (.iload_n 3, 1) := by decide +kernel
theorem dL_law_28 : decode cL_law 28 = .ok (.iaload, 1) := by decide +kernel
theorem dL_law_29 : decode cL_law 29 = .ok (.bipush 15, 2) := by decide +kernel
theorem dL_law_31 : decode cL_law 31 = .ok (.iand, 1) := by decide +kernel
theorem dL_law_32 : decode cL_law 32 = .ok (.tableswitch 377 0 10 #[60, 99, 132, 175, 218, 241, 264, 287, 310, 353, 364], 60) := by decide +kernel
theorem dL_law_92 : decode cL_law 92 = .ok (.aload_n 1, 1) := by decide +kernel
theorem dL_law_93 : decode cL_law 93 = .ok (.aload_n 0, 1) := by decide +kernel
theorem dL_law_94 : decode cL_law 94 = .ok (.iload_n 3, 1) := by decide +kernel
theorem dL_law_95 : decode cL_law 95 = .ok (.iconst 1, 1) := by decide +kernel
theorem dL_law_96 : decode cL_law 96 = .ok (.iadd, 1) := by decide +kernel
theorem dL_law_97 : decode cL_law 97 = .ok (.iaload, 1) := by decide +kernel
theorem dL_law_98 : decode cL_law 98 = .ok (.ifCond .eq 7, 3) := by decide +kernel
theorem dL_law_101 : decode cL_law 101 = .ok (.iconst 1, 1) := by decide +kernel
theorem dL_law_102 : decode cL_law 102 = .ok (.goto 4, 3) := by decide +kernel
theorem dL_law_105 : decode cL_law 105 = .ok (.iconst 0, 1) := by decide +kernel
theorem dL_law_106 : decode cL_law 106 = .ok (.invokevirtual 13, 3) := by decide +kernel
theorem dL_law_109 : decode cL_law 109 = .ok (.aload_n 2, 1) := by decide +kernel
theorem dL_law_110 : decode cL_law 110 = .ok (.aload_n 0, 1) := by decide +kernel
theorem dL_law_111 : decode cL_law 111 = .ok (.iload_n 3, 1) := by decide +kernel
theorem dL_law_112 : decode cL_law 112 = .ok (.iconst 1, 1) := by decide +kernel
theorem dL_law_113 : decode cL_law 113 = .ok (.iadd, 1) := by decide +kernel
theorem dL_law_114 : decode cL_law 114 = .ok (.iaload, 1) := by decide +kernel
theorem dL_law_115 : decode cL_law 115 = .ok (.ifCond .eq 7, 3) := by decide +kernel
theorem dL_law_118 : decode cL_law 118 = .ok (.iconst 1, 1) := by decide +kernel
theorem dL_law_119 : decode cL_law 119 = .ok (.goto 4, 3) := by decide +kernel
theorem dL_law_122 : decode cL_law 122 = .ok (.iconst 0, 1) := by decide +kernel
theorem dL_law_123 : decode cL_law 123 = .ok (.invokevirtual 17, 3) := by decide +kernel
theorem dL_law_126 : decode cL_law 126 = .ok (.if_icmp .eq 283, 3) := by decide +kernel
theorem dL_law_129 : decode cL_law 129 = .ok (.iconst 0, 1) := by decide +kernel
theorem dL_law_130 : decode cL_law 130 = .ok (.ireturn, 1) := by decide +kernel
theorem dL_law_131 : decode cL_law 131 = .ok (.aload_n 1, 1) := by decide +kernel
theorem dL_law_132 : decode cL_law 132 = .ok (.aload_n 0, 1) := by decide +kernel
theorem dL_law_133 : decode cL_law 133 = .ok (.iload_n 3, 1) := by decide +kernel
theorem dL_law_134 : decode cL_law 134 = .ok (.iconst 1, 1) := by decide +kernel
theorem dL_law_135 : decode cL_law 135 = .ok (.iadd, 1) := by decide +kernel
theorem dL_law_136 : decode cL_law 136 = .ok (.iaload, 1) := by decide +kernel
theorem dL_law_137 : decode cL_law 137 = .ok (.aload_n 0, 1) := by decide +kernel
theorem dL_law_138 : decode cL_law 138 = .ok (.iload_n 3, 1) := by decide +kernel
theorem dL_law_139 : decode cL_law 139 = .ok (.iconst 2, 1) := by decide +kernel
theorem dL_law_140 : decode cL_law 140 = .ok (.iadd, 1) := by decide +kernel
theorem dL_law_141 : decode cL_law 141 = .ok (.iaload, 1) := by decide +kernel
theorem dL_law_142 : decode cL_law 142 = .ok (.invokevirtual 18, 3) := by decide +kernel
theorem dL_law_145 : decode cL_law 145 = .ok (.aload_n 2, 1) := by decide +kernel
theorem dL_law_146 : decode cL_law 146 = .ok (.aload_n 0, 1) := by decide +kernel
theorem dL_law_147 : decode cL_law 147 = .ok (.iload_n 3, 1) := by decide +kernel
theorem dL_law_148 : decode cL_law 148 = .ok (.iconst 1, 1) := by decide +kernel
theorem dL_law_149 : decode cL_law 149 = .ok (.iadd, 1) := by decide +kernel
theorem dL_law_150 : decode cL_law 150 = .ok (.iaload, 1) := by decide +kernel
theorem dL_law_151 : decode cL_law 151 = .ok (.aload_n 0, 1) := by decide +kernel
theorem dL_law_152 : decode cL_law 152 = .ok (.iload_n 3, 1) := by decide +kernel
theorem dL_law_153 : decode cL_law 153 = .ok (.iconst 2, 1) := by decide +kernel
theorem dL_law_154 : decode cL_law 154 = .ok (.iadd, 1) := by decide +kernel
theorem dL_law_155 : decode cL_law 155 = .ok (.iaload, 1) := by decide +kernel
theorem dL_law_156 : decode cL_law 156 = .ok (.invokevirtual 22, 3) := by decide +kernel
theorem dL_law_159 : decode cL_law 159 = .ok (.if_icmp .eq 250, 3) := by decide +kernel
theorem dL_law_162 : decode cL_law 162 = .ok (.iconst 0, 1) := by decide +kernel
theorem dL_law_163 : decode cL_law 163 = .ok (.ireturn, 1) := by decide +kernel
theorem dL_law_164 : decode cL_law 164 = .ok (.aload_n 1, 1) := by decide +kernel
theorem dL_law_165 : decode cL_law 165 = .ok (.aload_n 0, 1) := by decide +kernel
theorem dL_law_166 : decode cL_law 166 = .ok (.iload_n 3, 1) := by decide +kernel
theorem dL_law_167 : decode cL_law 167 = .ok (.iconst 1, 1) := by decide +kernel
theorem dL_law_168 : decode cL_law 168 = .ok (.iadd, 1) := by decide +kernel
theorem dL_law_169 : decode cL_law 169 = .ok (.iaload, 1) := by decide +kernel
theorem dL_law_170 : decode cL_law 170 = .ok (.aload_n 0, 1) := by decide +kernel
theorem dL_law_171 : decode cL_law 171 = .ok (.iload_n 3, 1) := by decide +kernel
theorem dL_law_172 : decode cL_law 172 = .ok (.iconst 2, 1) := by decide +kernel
theorem dL_law_173 : decode cL_law 173 = .ok (.iadd, 1) := by decide +kernel
theorem dL_law_174 : decode cL_law 174 = .ok (.iaload, 1) := by decide +kernel
theorem dL_law_175 : decode cL_law 175 = .ok (.aload_n 0, 1) := by decide +kernel
theorem dL_law_176 : decode cL_law 176 = .ok (.iload_n 3, 1) := by decide +kernel
theorem dL_law_177 : decode cL_law 177 = .ok (.iconst 3, 1) := by decide +kernel
theorem dL_law_178 : decode cL_law 178 = .ok (.iadd, 1) := by decide +kernel
theorem dL_law_179 : decode cL_law 179 = .ok (.iaload, 1) := by decide +kernel
theorem dL_law_180 : decode cL_law 180 = .ok (.invokevirtual 23, 3) := by decide +kernel
theorem dL_law_183 : decode cL_law 183 = .ok (.aload_n 2, 1) := by decide +kernel
theorem dL_law_184 : decode cL_law 184 = .ok (.aload_n 0, 1) := by decide +kernel
theorem dL_law_185 : decode cL_law 185 = .ok (.iload_n 3, 1) := by decide +kernel
theorem dL_law_186 : decode cL_law 186 = .ok (.iconst 1, 1) := by decide +kernel
theorem dL_law_187 : decode cL_law 187 = .ok (.iadd, 1) := by decide +kernel
theorem dL_law_188 : decode cL_law 188 = .ok (.iaload, 1) := by decide +kernel
theorem dL_law_189 : decode cL_law 189 = .ok (.aload_n 0, 1) := by decide +kernel
theorem dL_law_190 : decode cL_law 190 = .ok (.iload_n 3, 1) := by decide +kernel
theorem dL_law_191 : decode cL_law 191 = .ok (.iconst 2, 1) := by decide +kernel
theorem dL_law_192 : decode cL_law 192 = .ok (.iadd, 1) := by decide +kernel
theorem dL_law_193 : decode cL_law 193 = .ok (.iaload, 1) := by decide +kernel
theorem dL_law_194 : decode cL_law 194 = .ok (.aload_n 0, 1) := by decide +kernel
theorem dL_law_195 : decode cL_law 195 = .ok (.iload_n 3, 1) := by decide +kernel
theorem dL_law_196 : decode cL_law 196 = .ok (.iconst 3, 1) := by decide +kernel
theorem dL_law_197 : decode cL_law 197 = .ok (.iadd, 1) := by decide +kernel
theorem dL_law_198 : decode cL_law 198 = .ok (.iaload, 1) := by decide +kernel
theorem dL_law_199 : decode cL_law 199 = .ok (.invokevirtual 27, 3) := by decide +kernel
theorem dL_law_202 : decode cL_law 202 = .ok (.if_icmp .eq 207, 3) := by decide +kernel
theorem dL_law_205 : decode cL_law 205 = .ok (.iconst 0, 1) := by decide +kernel
theorem dL_law_206 : decode cL_law 206 = .ok (.ireturn, 1) := by decide +kernel
theorem dL_law_207 : decode cL_law 207 = .ok (.aload_n 1, 1) := by decide +kernel
theorem dL_law_208 : decode cL_law 208 = .ok (.aload_n 0, 1) := by decide +kernel
theorem dL_law_209 : decode cL_law 209 = .ok (.iload_n 3, 1) := by decide +kernel
theorem dL_law_210 : decode cL_law 210 = .ok (.iconst 1, 1) := by decide +kernel
theorem dL_law_211 : decode cL_law 211 = .ok (.iadd, 1) := by decide +kernel
theorem dL_law_212 : decode cL_law 212 = .ok (.iaload, 1) := by decide +kernel
theorem dL_law_213 : decode cL_law 213 = .ok (.aload_n 0, 1) := by decide +kernel
theorem dL_law_214 : decode cL_law 214 = .ok (.iload_n 3, 1) := by decide +kernel
theorem dL_law_215 : decode cL_law 215 = .ok (.iconst 2, 1) := by decide +kernel
theorem dL_law_216 : decode cL_law 216 = .ok (.iadd, 1) := by decide +kernel
theorem dL_law_217 : decode cL_law 217 = .ok (.iaload, 1) := by decide +kernel
theorem dL_law_218 : decode cL_law 218 = .ok (.aload_n 0, 1) := by decide +kernel
theorem dL_law_219 : decode cL_law 219 = .ok (.iload_n 3, 1) := by decide +kernel
theorem dL_law_220 : decode cL_law 220 = .ok (.iconst 3, 1) := by decide +kernel
theorem dL_law_221 : decode cL_law 221 = .ok (.iadd, 1) := by decide +kernel
theorem dL_law_222 : decode cL_law 222 = .ok (.iaload, 1) := by decide +kernel
theorem dL_law_223 : decode cL_law 223 = .ok (.invokevirtual 28, 3) := by decide +kernel
theorem dL_law_226 : decode cL_law 226 = .ok (.aload_n 2, 1) := by decide +kernel
theorem dL_law_227 : decode cL_law 227 = .ok (.aload_n 0, 1) := by decide +kernel
theorem dL_law_228 : decode cL_law 228 = .ok (.iload_n 3, 1) := by decide +kernel
theorem dL_law_229 : decode cL_law 229 = .ok (.iconst 1, 1) := by decide +kernel
theorem dL_law_230 : decode cL_law 230 = .ok (.iadd, 1) := by decide +kernel
theorem dL_law_231 : decode cL_law 231 = .ok (.iaload, 1) := by decide +kernel
theorem dL_law_232 : decode cL_law 232 = .ok (.aload_n 0, 1) := by decide +kernel
theorem dL_law_233 : decode cL_law 233 = .ok (.iload_n 3, 1) := by decide +kernel
theorem dL_law_234 : decode cL_law 234 = .ok (.iconst 2, 1) := by decide +kernel
theorem dL_law_235 : decode cL_law 235 = .ok (.iadd, 1) := by decide +kernel
theorem dL_law_236 : decode cL_law 236 = .ok (.iaload, 1) := by decide +kernel
theorem dL_law_237 : decode cL_law 237 = .ok (.aload_n 0, 1) := by decide +kernel
theorem dL_law_238 : decode cL_law 238 = .ok (.iload_n 3, 1) := by decide +kernel
theorem dL_law_239 : decode cL_law 239 = .ok (.iconst 3, 1) := by decide +kernel
theorem dL_law_240 : decode cL_law 240 = .ok (.iadd, 1) := by decide +kernel
theorem dL_law_241 : decode cL_law 241 = .ok (.iaload, 1) := by decide +kernel
theorem dL_law_242 : decode cL_law 242 = .ok (.invokevirtual 31, 3) := by decide +kernel
theorem dL_law_245 : decode cL_law 245 = .ok (.if_icmp .eq 164, 3) := by decide +kernel
theorem dL_law_248 : decode cL_law 248 = .ok (.iconst 0, 1) := by decide +kernel
theorem dL_law_249 : decode cL_law 249 = .ok (.ireturn, 1) := by decide +kernel
theorem dL_law_250 : decode cL_law 250 = .ok (.aload_n 1, 1) := by decide +kernel
theorem dL_law_251 : decode cL_law 251 = .ok (.aload_n 0, 1) := by decide +kernel
theorem dL_law_252 : decode cL_law 252 = .ok (.iload_n 3, 1) := by decide +kernel
theorem dL_law_253 : decode cL_law 253 = .ok (.iconst 1, 1) := by decide +kernel
theorem dL_law_254 : decode cL_law 254 = .ok (.iadd, 1) := by decide +kernel
theorem dL_law_255 : decode cL_law 255 = .ok (.iaload, 1) := by decide +kernel
theorem dL_law_256 : decode cL_law 256 = .ok (.invokevirtual 32, 3) := by decide +kernel
theorem dL_law_259 : decode cL_law 259 = .ok (.aload_n 2, 1) := by decide +kernel
theorem dL_law_260 : decode cL_law 260 = .ok (.aload_n 0, 1) := by decide +kernel
theorem dL_law_261 : decode cL_law 261 = .ok (.iload_n 3, 1) := by decide +kernel
theorem dL_law_262 : decode cL_law 262 = .ok (.iconst 1, 1) := by decide +kernel
theorem dL_law_263 : decode cL_law 263 = .ok (.iadd, 1) := by decide +kernel
theorem dL_law_264 : decode cL_law 264 = .ok (.iaload, 1) := by decide +kernel
theorem dL_law_265 : decode cL_law 265 = .ok (.invokevirtual 36, 3) := by decide +kernel
theorem dL_law_268 : decode cL_law 268 = .ok (.if_icmp .eq 141, 3) := by decide +kernel
theorem dL_law_271 : decode cL_law 271 = .ok (.iconst 0, 1) := by decide +kernel
theorem dL_law_272 : decode cL_law 272 = .ok (.ireturn, 1) := by decide +kernel
theorem dL_law_273 : decode cL_law 273 = .ok (.aload_n 1, 1) := by decide +kernel
theorem dL_law_274 : decode cL_law 274 = .ok (.aload_n 0, 1) := by decide +kernel
theorem dL_law_275 : decode cL_law 275 = .ok (.iload_n 3, 1) := by decide +kernel
theorem dL_law_276 : decode cL_law 276 = .ok (.iconst 1, 1) := by decide +kernel
theorem dL_law_277 : decode cL_law 277 = .ok (.iadd, 1) := by decide +kernel
theorem dL_law_278 : decode cL_law 278 = .ok (.iaload, 1) := by decide +kernel
theorem dL_law_279 : decode cL_law 279 = .ok (.invokevirtual 37, 3) := by decide +kernel
theorem dL_law_282 : decode cL_law 282 = .ok (.aload_n 2, 1) := by decide +kernel
theorem dL_law_283 : decode cL_law 283 = .ok (.aload_n 0, 1) := by decide +kernel
theorem dL_law_284 : decode cL_law 284 = .ok (.iload_n 3, 1) := by decide +kernel
theorem dL_law_285 : decode cL_law 285 = .ok (.iconst 1, 1) := by decide +kernel
theorem dL_law_286 : decode cL_law 286 = .ok (.iadd, 1) := by decide +kernel
theorem dL_law_287 : decode cL_law 287 = .ok (.iaload, 1) := by decide +kernel
theorem dL_law_288 : decode cL_law 288 = .ok (.invokevirtual 40, 3) := by decide +kernel
theorem dL_law_291 : decode cL_law 291 = .ok (.if_icmp .eq 118, 3) := by decide +kernel
theorem dL_law_294 : decode cL_law 294 = .ok (.iconst 0, 1) := by decide +kernel
theorem dL_law_295 : decode cL_law 295 = .ok (.ireturn, 1) := by decide +kernel
theorem dL_law_296 : decode cL_law 296 = .ok (.aload_n 1, 1) := by decide +kernel
theorem dL_law_297 : decode cL_law 297 = .ok (.aload_n 0, 1) := by decide +kernel
theorem dL_law_298 : decode cL_law 298 = .ok (.iload_n 3, 1) := by decide +kernel
theorem dL_law_299 : decode cL_law 299 = .ok (.iconst 1, 1) := by decide +kernel
theorem dL_law_300 : decode cL_law 300 = .ok (.iadd, 1) := by decide +kernel
theorem dL_law_301 : decode cL_law 301 = .ok (.iaload, 1) := by decide +kernel
theorem dL_law_302 : decode cL_law 302 = .ok (.invokevirtual 41, 3) := by decide +kernel
theorem dL_law_305 : decode cL_law 305 = .ok (.aload_n 2, 1) := by decide +kernel
theorem dL_law_306 : decode cL_law 306 = .ok (.aload_n 0, 1) := by decide +kernel
theorem dL_law_307 : decode cL_law 307 = .ok (.iload_n 3, 1) := by decide +kernel
theorem dL_law_308 : decode cL_law 308 = .ok (.iconst 1, 1) := by decide +kernel
theorem dL_law_309 : decode cL_law 309 = .ok (.iadd, 1) := by decide +kernel
theorem dL_law_310 : decode cL_law 310 = .ok (.iaload, 1) := by decide +kernel
theorem dL_law_311 : decode cL_law 311 = .ok (.invokevirtual 44, 3) := by decide +kernel
theorem dL_law_314 : decode cL_law 314 = .ok (.if_icmp .eq 95, 3) := by decide +kernel
theorem dL_law_317 : decode cL_law 317 = .ok (.iconst 0, 1) := by decide +kernel
theorem dL_law_318 : decode cL_law 318 = .ok (.ireturn, 1) := by decide +kernel
theorem dL_law_319 : decode cL_law 319 = .ok (.aload_n 1, 1) := by decide +kernel
theorem dL_law_320 : decode cL_law 320 = .ok (.aload_n 0, 1) := by decide +kernel
theorem dL_law_321 : decode cL_law 321 = .ok (.iload_n 3, 1) := by decide +kernel
theorem dL_law_322 : decode cL_law 322 = .ok (.iconst 1, 1) := by decide +kernel
theorem dL_law_323 : decode cL_law 323 = .ok (.iadd, 1) := by decide +kernel
theorem dL_law_324 : decode cL_law 324 = .ok (.iaload, 1) := by decide +kernel
theorem dL_law_325 : decode cL_law 325 = .ok (.invokevirtual 45, 3) := by decide +kernel
theorem dL_law_328 : decode cL_law 328 = .ok (.aload_n 2, 1) := by decide +kernel
theorem dL_law_329 : decode cL_law 329 = .ok (.aload_n 0, 1) := by decide +kernel
theorem dL_law_330 : decode cL_law 330 = .ok (.iload_n 3, 1) := by decide +kernel
theorem dL_law_331 : decode cL_law 331 = .ok (.iconst 1, 1) := by decide +kernel
theorem dL_law_332 : decode cL_law 332 = .ok (.iadd, 1) := by decide +kernel
theorem dL_law_333 : decode cL_law 333 = .ok (.iaload, 1) := by decide +kernel
theorem dL_law_334 : decode cL_law 334 = .ok (.invokevirtual 48, 3) := by decide +kernel
theorem dL_law_337 : decode cL_law 337 = .ok (.if_icmp .eq 72, 3) := by decide +kernel
theorem dL_law_340 : decode cL_law 340 = .ok (.iconst 0, 1) := by decide +kernel
theorem dL_law_341 : decode cL_law 341 = .ok (.ireturn, 1) := by decide +kernel
theorem dL_law_342 : decode cL_law 342 = .ok (.aload_n 1, 1) := by decide +kernel
theorem dL_law_343 : decode cL_law 343 = .ok (.aload_n 0, 1) := by decide +kernel
theorem dL_law_344 : decode cL_law 344 = .ok (.iload_n 3, 1) := by decide +kernel
theorem dL_law_345 : decode cL_law 345 = .ok (.iconst 1, 1) := by decide +kernel
theorem dL_law_346 : decode cL_law 346 = .ok (.iadd, 1) := by decide +kernel
theorem dL_law_347 : decode cL_law 347 = .ok (.iaload, 1) := by decide +kernel
theorem dL_law_348 : decode cL_law 348 = .ok (.aload_n 0, 1) := by decide +kernel
theorem dL_law_349 : decode cL_law 349 = .ok (.iload_n 3, 1) := by decide +kernel
theorem dL_law_350 : decode cL_law 350 = .ok (.iconst 2, 1) := by decide +kernel
theorem dL_law_351 : decode cL_law 351 = .ok (.iadd, 1) := by decide +kernel
theorem dL_law_352 : decode cL_law 352 = .ok (.iaload, 1) := by decide +kernel
theorem dL_law_353 : decode cL_law 353 = .ok (.aload_n 0, 1) := by decide +kernel
theorem dL_law_354 : decode cL_law 354 = .ok (.iload_n 3, 1) := by decide +kernel
theorem dL_law_355 : decode cL_law 355 = .ok (.iconst 3, 1) := by decide +kernel
theorem dL_law_356 : decode cL_law 356 = .ok (.iadd, 1) := by decide +kernel
theorem dL_law_357 : decode cL_law 357 = .ok (.iaload, 1) := by decide +kernel
theorem dL_law_358 : decode cL_law 358 = .ok (.invokevirtual 49, 3) := by decide +kernel
theorem dL_law_361 : decode cL_law 361 = .ok (.aload_n 2, 1) := by decide +kernel
theorem dL_law_362 : decode cL_law 362 = .ok (.aload_n 0, 1) := by decide +kernel
theorem dL_law_363 : decode cL_law 363 = .ok (.iload_n 3, 1) := by decide +kernel
theorem dL_law_364 : decode cL_law 364 = .ok (.iconst 1, 1) := by decide +kernel
theorem dL_law_365 : decode cL_law 365 = .ok (.iadd, 1) := by decide +kernel
theorem dL_law_366 : decode cL_law 366 = .ok (.iaload, 1) := by decide +kernel
theorem dL_law_367 : decode cL_law 367 = .ok (.aload_n 0, 1) := by decide +kernel
theorem dL_law_368 : decode cL_law 368 = .ok (.iload_n 3, 1) := by decide +kernel
theorem dL_law_369 : decode cL_law 369 = .ok (.iconst 2, 1) := by decide +kernel
theorem dL_law_370 : decode cL_law 370 = .ok (.iadd, 1) := by decide +kernel
theorem dL_law_371 : decode cL_law 371 = .ok (.iaload, 1) := by decide +kernel
theorem dL_law_372 : decode cL_law 372 = .ok (.aload_n 0, 1) := by decide +kernel
theorem dL_law_373 : decode cL_law 373 = .ok (.iload_n 3, 1) := by decide +kernel
theorem dL_law_374 : decode cL_law 374 = .ok (.iconst 3, 1) := by decide +kernel
theorem dL_law_375 : decode cL_law 375 = .ok (.iadd, 1) := by decide +kernel
theorem dL_law_376 : decode cL_law 376 = .ok (.iaload, 1) := by decide +kernel
theorem dL_law_377 : decode cL_law 377 = .ok (.invokevirtual 52, 3) := by decide +kernel
theorem dL_law_380 : decode cL_law 380 = .ok (.if_icmp .eq 29, 3) := by decide +kernel
theorem dL_law_383 : decode cL_law 383 = .ok (.iconst 0, 1) := by decide +kernel
theorem dL_law_384 : decode cL_law 384 = .ok (.ireturn, 1) := by decide +kernel
theorem dL_law_385 : decode cL_law 385 = .ok (.aload_n 1, 1) := by decide +kernel
theorem dL_law_386 : decode cL_law 386 = .ok (.invokevirtual 53, 3) := by decide +kernel
theorem dL_law_389 : decode cL_law 389 = .ok (.aload_n 2, 1) := by decide +kernel
theorem dL_law_390 : decode cL_law 390 = .ok (.invokevirtual 56, 3) := by decide +kernel
theorem dL_law_393 : decode cL_law 393 = .ok (.goto 16, 3) := by decide +kernel
theorem dL_law_396 : decode cL_law 396 = .ok (.aload_n 1, 1) := by decide +kernel
theorem dL_law_397 : decode cL_law 397 = .ok (.invokevirtual 57, 3) := by decide +kernel
theorem dL_law_400 : decode cL_law 400 = .ok (.aload_n 2, 1) := by decide +kernel
theorem dL_law_401 : decode cL_law 401 = .ok (.invokevirtual 61, 3) := by decide +kernel
theorem dL_law_404 : decode cL_law 404 = .ok (.if_icmp .eq 5, 3) := by decide +kernel
theorem dL_law_407 : decode cL_law 407 = .ok (.iconst 0, 1) := by decide +kernel
theorem dL_law_408 : decode cL_law 408 = .ok (.ireturn, 1) := by decide +kernel
theorem dL_law_409 : decode cL_law 409 = .ok (.iinc 3 4, 3) := by decide +kernel
theorem dL_law_412 : decode cL_law 412 = .ok (.goto (-394), 3) := by decide +kernel
theorem dL_law_415 : decode cL_law 415 = .ok (.iconst 1, 1) := by decide +kernel
theorem dL_law_416 : decode cL_law 416 = .ok (.ireturn, 1) := by decide +kernel
end
section
/-! CORE: the worlds of the two objects; one bundle wI; a row a field and an array; calls; a method's start -/
set_option maxRecDepth 100000
abbrev cl_ : List vw_C := [(RX0, TX0, 13), (RX1, TX1, 10)]
abbrev XS : Type := (Nat → Int32) × (Nat → Int32) × (Nat → Int32) × Int32 × Int32 × (Nat → Int32) × Int32 × (Nat → Int32) × (Nat → Int32) × (Nat → Int32) × (Nat → Int32) × (Nat → Int32) × (Nat → Int32)
def xw (cI cZ : ClassId) (a : Nat → Nat) (z : XS) : va_W := match z with
  | (vo, co, ol, fv, fc, nw, cm, op, se, be, wr, sn, ow) => [(a 0, .inr (0, [.ref (a 1), .ref (a 2), .ref (a 3), .int fv, .int fc, .ref (a 4), .int cm, .ref (a 5), .ref (a 6), .ref (a 7), .ref (a 8), .ref (a 9), .ref (a 10)])), (a 1, .inl (cI, 144, .inl vo)), (a 2, .inl (cI, 144, .inl co)), (a 3, .inl (cI, 144, .inl ol)), (a 4, .inl (cI, 16, .inl nw)), (a 5, .inl (cZ, 6, .inl op)), (a 6, .inl (cZ, 6, .inl se)), (a 7, .inl (cI, 6, .inl be)), (a 8, .inl (cI, 6, .inl wr)), (a 9, .inl (cI, 6, .inl sn)), (a 10, .inl (cI, 96, .inl ow))]
abbrev MS : Type := (Nat → Int32) × (Nat → Int32) × Int32 × (Nat → Int32) × (Nat → Int32) × (Nat → Int32) × (Nat → Int32) × (Nat → Int32) × (Nat → Int32) × (Nat → Int32)
def mw (cI cZ : ClassId) (a : Nat → Nat) (z : MS) : va_W := match z with
  | (st, wt, mc, lv, ss, mb, vw, wo, mo, lk) => [(a 0, .inr (1, [.ref (a 1), .ref (a 2), .int mc, .ref (a 3), .ref (a 4), .ref (a 5), .ref (a 6), .ref (a 7), .ref (a 8), .ref (a 9)])), (a 1, .inl (cI, 16, .inl st)), (a 2, .inl (cI, 16, .inl wt)), (a 3, .inl (cZ, 6, .inl lv)), (a 4, .inl (cZ, 6, .inl ss)), (a 5, .inl (cI, 6, .inl mb)), (a 6, .inl (cI, 96, .inl vw)), (a 7, .inl (cZ, 96, .inl wo)), (a 8, .inl (cI, 96, .inl mo)), (a 9, .inl (cZ, 96, .inl lk))]
/-- the bundle: the classes, the cells, apart, the frame, the new ones -/
def wI (D : va_G) (cI cZ : ClassId) (A : Nat → Prop) (s : State) (ws : va_W) (H : Heap) (locs : List Loc) : Prop := va_K D cl_ [(cI, .int), (cZ, .boolean)] s ∧ va_P D cl_ ws H ∧ va_D A ws ∧ va_S A s.heap H locs ∧ ∀ q : Nat, s.heap.size ≤ q → A q
section CORE
variable {p : Program} {l : Launch} {e : Env} {R : Room} {s : State} {m : MethodId} {args : Array Value} {below : List Frame} {meth : Method} {c : Code} {H : Heap} {locs : List Loc} {cells slots : Nat} {Q : State → Prop}
variable {cc : ByteArray} {nL pc : Nat} {ls : Array Slot} {rest : List Value} {D : va_G} {cI cZ : ClassId} {A : Nat → Prop} {a : Nat → Nat}
variable {vo co ol nw op se be wr sn ow st wt lv ss mb vw wo mo lk : Nat → Int32} {fv fc cm mc : Int32}
theorem xg_vo (C : CallFix p m c cc nL s args lw_all RX0) (hI : wI D cI cZ A s (xw cI cZ a (vo, co, ol, fv, fc, nw, cm, op, se, be, wr, sn, ow)) H locs) (hdg : decode cc pc = .ok (.getfield 7, 3)) (kk : W p l e R s m args below meth c H locs cells slots Q (F0 m (pc + 3) ls (.ref (a 1) :: rest))) : W p l e R s m args below meth c H locs cells slots Q (F0 m pc ls (.ref (a 0) :: rest)) :=
  va_get (D := D) (ci := 0) (v := .ref (a 1)) (C := RX0) (T := TX0) (N := 13) C.1 C.2.1 C.2.2.2.2 in_X0 C.2.2.2.1 hI.1 hI.2.1 0 rfl rfl 0 (by decide) (C.2.2.2.2 _ q22) (fun _ h9 => h9) rfl hdg kk
theorem xl_vo (C : CallFix p m c cc nL s args lw_all RX0) (hI : wI D cI cZ A s (xw cI cZ a (vo, co, ol, fv, fc, nw, cm, op, se, be, wr, sn, ow)) H locs) {i : Int32} {k : Nat} (hi : i = nI k) (hk : k < 144) (hdg : decode cc pc = .ok (.iaload, 1)) (kk : W p l e R s m args below meth c H locs cells slots Q (F0 m (pc + 1) ls (.int (vo k) :: rest))) : W p l e R s m args below meth c H locs cells slots Q (F0 m pc ls (.int i :: .ref (a 1) :: rest)) := by
  subst hi
  refine va_iald C.1 C.2.1 hI.1 hI.2.1 1 0 rfl rfl (vp_in_nI hk (by decide)) hdg ?_
  rw [nI_clamp (by omega)]
  exact kk
theorem xs_vo (C : CallFix p m c cc nL s args lw_all RX0) {x9 : Int32} (hI : wI D cI cZ A s (xw cI cZ a (vo, co, ol, fv, fc, nw, cm, op, se, be, wr, sn, ow)) H locs) {i : Int32} {k : Nat} (hi : i = nI k) (hk : k < 144) (hdg : decode cc pc = .ok (.iastore, 1)) (kk : ∀ (H1 : Heap) (locs1 : List Loc), wI D cI cZ A s (xw cI cZ a (upd vo k x9, co, ol, fv, fc, nw, cm, op, se, be, wr, sn, ow)) H1 locs1 → W p l e R s m args below meth c H1 locs1 cells slots Q (F0 m (pc + 1) ls rest)) : W p l e R s m args below meth c H locs cells slots Q (F0 m pc ls (.int x9 :: .int i :: .ref (a 1) :: rest)) := by
  subst hi
  refine va_iast C.1 C.2.1 hI.1 hI.2.1 hI.2.2.1 hI.2.2.2.1 1 0 rfl rfl (vp_in_nI hk (by decide)) hdg (fun H1 locs1 h1 h2 h3 => ?_)
  rw [nI_clamp (by omega)] at h1 h2
  exact kk H1 locs1 ⟨hI.1, h1, h2, h3, hI.2.2.2.2⟩
theorem xg_co (C : CallFix p m c cc nL s args lw_all RX0) (hI : wI D cI cZ A s (xw cI cZ a (vo, co, ol, fv, fc, nw, cm, op, se, be, wr, sn, ow)) H locs) (hdg : decode cc pc = .ok (.getfield 13, 3)) (kk : W p l e R s m args below meth c H locs cells slots Q (F0 m (pc + 3) ls (.ref (a 2) :: rest))) : W p l e R s m args below meth c H locs cells slots Q (F0 m pc ls (.ref (a 0) :: rest)) :=
  va_get (D := D) (ci := 0) (v := .ref (a 2)) (C := RX0) (T := TX0) (N := 13) C.1 C.2.1 C.2.2.2.2 in_X0 C.2.2.2.1 hI.1 hI.2.1 0 rfl rfl 1 (by decide) (C.2.2.2.2 _ q23) (fun _ h9 => h9) rfl hdg kk
theorem xl_co (C : CallFix p m c cc nL s args lw_all RX0) (hI : wI D cI cZ A s (xw cI cZ a (vo, co, ol, fv, fc, nw, cm, op, se, be, wr, sn, ow)) H locs) {i : Int32} {k : Nat} (hi : i = nI k) (hk : k < 144) (hdg : decode cc pc = .ok (.iaload, 1)) (kk : W p l e R s m args below meth c H locs cells slots Q (F0 m (pc + 1) ls (.int (co k) :: rest))) : W p l e R s m args below meth c H locs cells slots Q (F0 m pc ls (.int i :: .ref (a 2) :: rest)) := by
  subst hi
  refine va_iald C.1 C.2.1 hI.1 hI.2.1 2 0 rfl rfl (vp_in_nI hk (by decide)) hdg ?_
  rw [nI_clamp (by omega)]
  exact kk
theorem xs_co (C : CallFix p m c cc nL s args lw_all RX0) {x9 : Int32} (hI : wI D cI cZ A s (xw cI cZ a (vo, co, ol, fv, fc, nw, cm, op, se, be, wr, sn, ow)) H locs) {i : Int32} {k : Nat} (hi : i = nI k) (hk : k < 144) (hdg : decode cc pc = .ok (.iastore, 1)) (kk : ∀ (H1 : Heap) (locs1 : List Loc), wI D cI cZ A s (xw cI cZ a (vo, upd co k x9, ol, fv, fc, nw, cm, op, se, be, wr, sn, ow)) H1 locs1 → W p l e R s m args below meth c H1 locs1 cells slots Q (F0 m (pc + 1) ls rest)) : W p l e R s m args below meth c H locs cells slots Q (F0 m pc ls (.int x9 :: .int i :: .ref (a 2) :: rest)) := by
  subst hi
  refine va_iast C.1 C.2.1 hI.1 hI.2.1 hI.2.2.1 hI.2.2.2.1 2 0 rfl rfl (vp_in_nI hk (by decide)) hdg (fun H1 locs1 h1 h2 h3 => ?_)
  rw [nI_clamp (by omega)] at h1 h2
  exact kk H1 locs1 ⟨hI.1, h1, h2, h3, hI.2.2.2.2⟩
theorem xg_ol (C : CallFix p m c cc nL s args lw_all RX0) (hI : wI D cI cZ A s (xw cI cZ a (vo, co, ol, fv, fc, nw, cm, op, se, be, wr, sn, ow)) H locs) (hdg : decode cc pc = .ok (.getfield 16, 3)) (kk : W p l e R s m args below meth c H locs cells slots Q (F0 m (pc + 3) ls (.ref (a 3) :: rest))) : W p l e R s m args below meth c H locs cells slots Q (F0 m pc ls (.ref (a 0) :: rest)) :=
  va_get (D := D) (ci := 0) (v := .ref (a 3)) (C := RX0) (T := TX0) (N := 13) C.1 C.2.1 C.2.2.2.2 in_X0 C.2.2.2.1 hI.1 hI.2.1 0 rfl rfl 2 (by decide) (C.2.2.2.2 _ q24) (fun _ h9 => h9) rfl hdg kk
theorem xl_ol (C : CallFix p m c cc nL s args lw_all RX0) (hI : wI D cI cZ A s (xw cI cZ a (vo, co, ol, fv, fc, nw, cm, op, se, be, wr, sn, ow)) H locs) {i : Int32} {k : Nat} (hi : i = nI k) (hk : k < 144) (hdg : decode cc pc = .ok (.iaload, 1)) (kk : W p l e R s m args below meth c H locs cells slots Q (F0 m (pc + 1) ls (.int (ol k) :: rest))) : W p l e R s m args below meth c H locs cells slots Q (F0 m pc ls (.int i :: .ref (a 3) :: rest)) := by
  subst hi
  refine va_iald C.1 C.2.1 hI.1 hI.2.1 3 0 rfl rfl (vp_in_nI hk (by decide)) hdg ?_
  rw [nI_clamp (by omega)]
  exact kk
theorem xs_ol (C : CallFix p m c cc nL s args lw_all RX0) {x9 : Int32} (hI : wI D cI cZ A s (xw cI cZ a (vo, co, ol, fv, fc, nw, cm, op, se, be, wr, sn, ow)) H locs) {i : Int32} {k : Nat} (hi : i = nI k) (hk : k < 144) (hdg : decode cc pc = .ok (.iastore, 1)) (kk : ∀ (H1 : Heap) (locs1 : List Loc), wI D cI cZ A s (xw cI cZ a (vo, co, upd ol k x9, fv, fc, nw, cm, op, se, be, wr, sn, ow)) H1 locs1 → W p l e R s m args below meth c H1 locs1 cells slots Q (F0 m (pc + 1) ls rest)) : W p l e R s m args below meth c H locs cells slots Q (F0 m pc ls (.int x9 :: .int i :: .ref (a 3) :: rest)) := by
  subst hi
  refine va_iast C.1 C.2.1 hI.1 hI.2.1 hI.2.2.1 hI.2.2.2.1 3 0 rfl rfl (vp_in_nI hk (by decide)) hdg (fun H1 locs1 h1 h2 h3 => ?_)
  rw [nI_clamp (by omega)] at h1 h2
  exact kk H1 locs1 ⟨hI.1, h1, h2, h3, hI.2.2.2.2⟩
theorem xg_fv (C : CallFix p m c cc nL s args lw_all RX0) (hI : wI D cI cZ A s (xw cI cZ a (vo, co, ol, fv, fc, nw, cm, op, se, be, wr, sn, ow)) H locs) (hdg : decode cc pc = .ok (.getfield 82, 3)) (kk : W p l e R s m args below meth c H locs cells slots Q (F0 m (pc + 3) ls (.int fv :: rest))) : W p l e R s m args below meth c H locs cells slots Q (F0 m pc ls (.ref (a 0) :: rest)) :=
  va_get (D := D) (ci := 0) (v := .int fv) (C := RX0) (T := TX0) (N := 13) C.1 C.2.1 C.2.2.2.2 in_X0 C.2.2.2.1 hI.1 hI.2.1 0 rfl rfl 3 (by decide) (C.2.2.2.2 _ q25) (fun _ h9 => h9) rfl hdg kk
theorem xp_fv (C : CallFix p m c cc nL s args lw_all RX0) {x9 : Int32} (hI : wI D cI cZ A s (xw cI cZ a (vo, co, ol, fv, fc, nw, cm, op, se, be, wr, sn, ow)) H locs) (hdg : decode cc pc = .ok (.putfield 82, 3)) (kk : ∀ (H1 : Heap) (locs1 : List Loc), wI D cI cZ A s (xw cI cZ a (vo, co, ol, x9, fc, nw, cm, op, se, be, wr, sn, ow)) H1 locs1 → W p l e R s m args below meth c H1 locs1 cells slots Q (F0 m (pc + 3) ls rest)) : W p l e R s m args below meth c H locs cells slots Q (F0 m pc ls (.int x9 :: .ref (a 0) :: rest)) := by
  refine va_put (D := D) (ci := 0) (v := .int x9) (ty := .int) (C := RX0) (T := TX0) (N := 13) C.1 C.2.1 C.2.2.2.2 in_X0 tyX0 tyX0_ok nmX0 C.2.2.2.1 hI.1 hI.2.1 hI.2.2.1 hI.2.2.2.1 0 rfl rfl 3 (by decide) (C.2.2.2.2 _ q25) (fun _ h9 => h9) rfl (by decide +kernel) rfl rfl (Nat.le_of_ble_eq_true rfl) hdg (fun H1 locs1 h1 h2 h3 => ?_)
  exact kk H1 locs1 ⟨hI.1, h1, h2, h3, hI.2.2.2.2⟩
theorem xg_fc (C : CallFix p m c cc nL s args lw_all RX0) (hI : wI D cI cZ A s (xw cI cZ a (vo, co, ol, fv, fc, nw, cm, op, se, be, wr, sn, ow)) H locs) (hdg : decode cc pc = .ok (.getfield 41, 3)) (kk : W p l e R s m args below meth c H locs cells slots Q (F0 m (pc + 3) ls (.int fc :: rest))) : W p l e R s m args below meth c H locs cells slots Q (F0 m pc ls (.ref (a 0) :: rest)) :=
  va_get (D := D) (ci := 0) (v := .int fc) (C := RX0) (T := TX0) (N := 13) C.1 C.2.1 C.2.2.2.2 in_X0 C.2.2.2.1 hI.1 hI.2.1 0 rfl rfl 4 (by decide) (C.2.2.2.2 _ q26) (fun _ h9 => h9) rfl hdg kk
theorem xp_fc (C : CallFix p m c cc nL s args lw_all RX0) {x9 : Int32} (hI : wI D cI cZ A s (xw cI cZ a (vo, co, ol, fv, fc, nw, cm, op, se, be, wr, sn, ow)) H locs) (hdg : decode cc pc = .ok (.putfield 41, 3)) (kk : ∀ (H1 : Heap) (locs1 : List Loc), wI D cI cZ A s (xw cI cZ a (vo, co, ol, fv, x9, nw, cm, op, se, be, wr, sn, ow)) H1 locs1 → W p l e R s m args below meth c H1 locs1 cells slots Q (F0 m (pc + 3) ls rest)) : W p l e R s m args below meth c H locs cells slots Q (F0 m pc ls (.int x9 :: .ref (a 0) :: rest)) := by
  refine va_put (D := D) (ci := 0) (v := .int x9) (ty := .int) (C := RX0) (T := TX0) (N := 13) C.1 C.2.1 C.2.2.2.2 in_X0 tyX0 tyX0_ok nmX0 C.2.2.2.1 hI.1 hI.2.1 hI.2.2.1 hI.2.2.2.1 0 rfl rfl 4 (by decide) (C.2.2.2.2 _ q26) (fun _ h9 => h9) rfl (by decide +kernel) rfl rfl (Nat.le_of_ble_eq_true rfl) hdg (fun H1 locs1 h1 h2 h3 => ?_)
  exact kk H1 locs1 ⟨hI.1, h1, h2, h3, hI.2.2.2.2⟩
theorem xg_nw (C : CallFix p m c cc nL s args lw_all RX0) (hI : wI D cI cZ A s (xw cI cZ a (vo, co, ol, fv, fc, nw, cm, op, se, be, wr, sn, ow)) H locs) (hdg : decode cc pc = .ok (.getfield 19, 3)) (kk : W p l e R s m args below meth c H locs cells slots Q (F0 m (pc + 3) ls (.ref (a 4) :: rest))) : W p l e R s m args below meth c H locs cells slots Q (F0 m pc ls (.ref (a 0) :: rest)) :=
  va_get (D := D) (ci := 0) (v := .ref (a 4)) (C := RX0) (T := TX0) (N := 13) C.1 C.2.1 C.2.2.2.2 in_X0 C.2.2.2.1 hI.1 hI.2.1 0 rfl rfl 5 (by decide) (C.2.2.2.2 _ q27) (fun _ h9 => h9) rfl hdg kk
theorem xl_nw (C : CallFix p m c cc nL s args lw_all RX0) (hI : wI D cI cZ A s (xw cI cZ a (vo, co, ol, fv, fc, nw, cm, op, se, be, wr, sn, ow)) H locs) {i : Int32} {k : Nat} (hi : i = nI k) (hk : k < 16) (hdg : decode cc pc = .ok (.iaload, 1)) (kk : W p l e R s m args below meth c H locs cells slots Q (F0 m (pc + 1) ls (.int (nw k) :: rest))) : W p l e R s m args below meth c H locs cells slots Q (F0 m pc ls (.int i :: .ref (a 4) :: rest)) := by
  subst hi
  refine va_iald C.1 C.2.1 hI.1 hI.2.1 4 0 rfl rfl (vp_in_nI hk (by decide)) hdg ?_
  rw [nI_clamp (by omega)]
  exact kk
theorem xs_nw (C : CallFix p m c cc nL s args lw_all RX0) {x9 : Int32} (hI : wI D cI cZ A s (xw cI cZ a (vo, co, ol, fv, fc, nw, cm, op, se, be, wr, sn, ow)) H locs) {i : Int32} {k : Nat} (hi : i = nI k) (hk : k < 16) (hdg : decode cc pc = .ok (.iastore, 1)) (kk : ∀ (H1 : Heap) (locs1 : List Loc), wI D cI cZ A s (xw cI cZ a (vo, co, ol, fv, fc, upd nw k x9, cm, op, se, be, wr, sn, ow)) H1 locs1 → W p l e R s m args below meth c H1 locs1 cells slots Q (F0 m (pc + 1) ls rest)) : W p l e R s m args below meth c H locs cells slots Q (F0 m pc ls (.int x9 :: .int i :: .ref (a 4) :: rest)) := by
  subst hi
  refine va_iast C.1 C.2.1 hI.1 hI.2.1 hI.2.2.1 hI.2.2.2.1 4 0 rfl rfl (vp_in_nI hk (by decide)) hdg (fun H1 locs1 h1 h2 h3 => ?_)
  rw [nI_clamp (by omega)] at h1 h2
  exact kk H1 locs1 ⟨hI.1, h1, h2, h3, hI.2.2.2.2⟩
theorem xg_cm (C : CallFix p m c cc nL s args lw_all RX0) (hI : wI D cI cZ A s (xw cI cZ a (vo, co, ol, fv, fc, nw, cm, op, se, be, wr, sn, ow)) H locs) (hdg : decode cc pc = .ok (.getfield 45, 3)) (kk : W p l e R s m args below meth c H locs cells slots Q (F0 m (pc + 3) ls (.int cm :: rest))) : W p l e R s m args below meth c H locs cells slots Q (F0 m pc ls (.ref (a 0) :: rest)) :=
  va_get (D := D) (ci := 0) (v := .int cm) (C := RX0) (T := TX0) (N := 13) C.1 C.2.1 C.2.2.2.2 in_X0 C.2.2.2.1 hI.1 hI.2.1 0 rfl rfl 6 (by decide) (C.2.2.2.2 _ q28) (fun _ h9 => h9) rfl hdg kk
theorem xp_cm (C : CallFix p m c cc nL s args lw_all RX0) {x9 : Int32} (hI : wI D cI cZ A s (xw cI cZ a (vo, co, ol, fv, fc, nw, cm, op, se, be, wr, sn, ow)) H locs) (hdg : decode cc pc = .ok (.putfield 45, 3)) (kk : ∀ (H1 : Heap) (locs1 : List Loc), wI D cI cZ A s (xw cI cZ a (vo, co, ol, fv, fc, nw, x9, op, se, be, wr, sn, ow)) H1 locs1 → W p l e R s m args below meth c H1 locs1 cells slots Q (F0 m (pc + 3) ls rest)) : W p l e R s m args below meth c H locs cells slots Q (F0 m pc ls (.int x9 :: .ref (a 0) :: rest)) := by
  refine va_put (D := D) (ci := 0) (v := .int x9) (ty := .int) (C := RX0) (T := TX0) (N := 13) C.1 C.2.1 C.2.2.2.2 in_X0 tyX0 tyX0_ok nmX0 C.2.2.2.1 hI.1 hI.2.1 hI.2.2.1 hI.2.2.2.1 0 rfl rfl 6 (by decide) (C.2.2.2.2 _ q28) (fun _ h9 => h9) rfl (by decide +kernel) rfl rfl (Nat.le_of_ble_eq_true rfl) hdg (fun H1 locs1 h1 h2 h3 => ?_)
  exact kk H1 locs1 ⟨hI.1, h1, h2, h3, hI.2.2.2.2⟩
theorem xg_op (C : CallFix p m c cc nL s args lw_all RX0) (hI : wI D cI cZ A s (xw cI cZ a (vo, co, ol, fv, fc, nw, cm, op, se, be, wr, sn, ow)) H locs) (hdg : decode cc pc = .ok (.getfield 22, 3)) (kk : W p l e R s m args below meth c H locs cells slots Q (F0 m (pc + 3) ls (.ref (a 5) :: rest))) : W p l e R s m args below meth c H locs cells slots Q (F0 m pc ls (.ref (a 0) :: rest)) :=
  va_get (D := D) (ci := 0) (v := .ref (a 5)) (C := RX0) (T := TX0) (N := 13) C.1 C.2.1 C.2.2.2.2 in_X0 C.2.2.2.1 hI.1 hI.2.1 0 rfl rfl 7 (by decide) (C.2.2.2.2 _ q29) (fun _ h9 => h9) rfl hdg kk
theorem xl_op (C : CallFix p m c cc nL s args lw_all RX0) (hI : wI D cI cZ A s (xw cI cZ a (vo, co, ol, fv, fc, nw, cm, op, se, be, wr, sn, ow)) H locs) {i : Int32} {k : Nat} (hi : i = nI k) (hk : k < 6) (hdg : decode cc pc = .ok (.baload, 1)) (kk : W p l e R s m args below meth c H locs cells slots Q (F0 m (pc + 1) ls (.int (op k) :: rest))) : W p l e R s m args below meth c H locs cells slots Q (F0 m pc ls (.int i :: .ref (a 5) :: rest)) := by
  subst hi
  refine va_zald C.1 C.2.1 hI.1 hI.2.1 5 1 rfl rfl (vp_in_nI hk (by decide)) hdg ?_
  rw [nI_clamp (by omega)]
  exact kk
theorem xs_op (C : CallFix p m c cc nL s args lw_all RX0) {x9 y9 : Int32} (hx9 : vp_nar .boolean x9 = y9) (hI : wI D cI cZ A s (xw cI cZ a (vo, co, ol, fv, fc, nw, cm, op, se, be, wr, sn, ow)) H locs) {i : Int32} {k : Nat} (hi : i = nI k) (hk : k < 6) (hdg : decode cc pc = .ok (.bastore, 1)) (kk : ∀ (H1 : Heap) (locs1 : List Loc), wI D cI cZ A s (xw cI cZ a (vo, co, ol, fv, fc, nw, cm, upd op k y9, se, be, wr, sn, ow)) H1 locs1 → W p l e R s m args below meth c H1 locs1 cells slots Q (F0 m (pc + 1) ls rest)) : W p l e R s m args below meth c H locs cells slots Q (F0 m pc ls (.int x9 :: .int i :: .ref (a 5) :: rest)) := by
  subst hi
  subst hx9
  refine va_zast C.1 C.2.1 hI.1 hI.2.1 hI.2.2.1 hI.2.2.2.1 5 1 rfl rfl (vp_in_nI hk (by decide)) hdg (fun H1 locs1 h1 h2 h3 => ?_)
  rw [nI_clamp (by omega)] at h1 h2
  exact kk H1 locs1 ⟨hI.1, h1, h2, h3, hI.2.2.2.2⟩
theorem xg_se (C : CallFix p m c cc nL s args lw_all RX0) (hI : wI D cI cZ A s (xw cI cZ a (vo, co, ol, fv, fc, nw, cm, op, se, be, wr, sn, ow)) H locs) (hdg : decode cc pc = .ok (.getfield 26, 3)) (kk : W p l e R s m args below meth c H locs cells slots Q (F0 m (pc + 3) ls (.ref (a 6) :: rest))) : W p l e R s m args below meth c H locs cells slots Q (F0 m pc ls (.ref (a 0) :: rest)) :=
  va_get (D := D) (ci := 0) (v := .ref (a 6)) (C := RX0) (T := TX0) (N := 13) C.1 C.2.1 C.2.2.2.2 in_X0 C.2.2.2.1 hI.1 hI.2.1 0 rfl rfl 8 (by decide) (C.2.2.2.2 _ q30) (fun _ h9 => h9) rfl hdg kk
theorem xl_se (C : CallFix p m c cc nL s args lw_all RX0) (hI : wI D cI cZ A s (xw cI cZ a (vo, co, ol, fv, fc, nw, cm, op, se, be, wr, sn, ow)) H locs) {i : Int32} {k : Nat} (hi : i = nI k) (hk : k < 6) (hdg : decode cc pc = .ok (.baload, 1)) (kk : W p l e R s m args below meth c H locs cells slots Q (F0 m (pc + 1) ls (.int (se k) :: rest))) : W p l e R s m args below meth c H locs cells slots Q (F0 m pc ls (.int i :: .ref (a 6) :: rest)) := by
  subst hi
  refine va_zald C.1 C.2.1 hI.1 hI.2.1 6 1 rfl rfl (vp_in_nI hk (by decide)) hdg ?_
  rw [nI_clamp (by omega)]
  exact kk
theorem xs_se (C : CallFix p m c cc nL s args lw_all RX0) {x9 y9 : Int32} (hx9 : vp_nar .boolean x9 = y9) (hI : wI D cI cZ A s (xw cI cZ a (vo, co, ol, fv, fc, nw, cm, op, se, be, wr, sn, ow)) H locs) {i : Int32} {k : Nat} (hi : i = nI k) (hk : k < 6) (hdg : decode cc pc = .ok (.bastore, 1)) (kk : ∀ (H1 : Heap) (locs1 : List Loc), wI D cI cZ A s (xw cI cZ a (vo, co, ol, fv, fc, nw, cm, op, upd se k y9, be, wr, sn, ow)) H1 locs1 → W p l e R s m args below meth c H1 locs1 cells slots Q (F0 m (pc + 1) ls rest)) : W p l e R s m args below meth c H locs cells slots Q (F0 m pc ls (.int x9 :: .int i :: .ref (a 6) :: rest)) := by
  subst hi
  subst hx9
  refine va_zast C.1 C.2.1 hI.1 hI.2.1 hI.2.2.1 hI.2.2.2.1 6 1 rfl rfl (vp_in_nI hk (by decide)) hdg (fun H1 locs1 h1 h2 h3 => ?_)
  rw [nI_clamp (by omega)] at h1 h2
  exact kk H1 locs1 ⟨hI.1, h1, h2, h3, hI.2.2.2.2⟩
theorem xg_be (C : CallFix p m c cc nL s args lw_all RX0) (hI : wI D cI cZ A s (xw cI cZ a (vo, co, ol, fv, fc, nw, cm, op, se, be, wr, sn, ow)) H locs) (hdg : decode cc pc = .ok (.getfield 29, 3)) (kk : W p l e R s m args below meth c H locs cells slots Q (F0 m (pc + 3) ls (.ref (a 7) :: rest))) : W p l e R s m args below meth c H locs cells slots Q (F0 m pc ls (.ref (a 0) :: rest)) :=
  va_get (D := D) (ci := 0) (v := .ref (a 7)) (C := RX0) (T := TX0) (N := 13) C.1 C.2.1 C.2.2.2.2 in_X0 C.2.2.2.1 hI.1 hI.2.1 0 rfl rfl 9 (by decide) (C.2.2.2.2 _ q31) (fun _ h9 => h9) rfl hdg kk
theorem xl_be (C : CallFix p m c cc nL s args lw_all RX0) (hI : wI D cI cZ A s (xw cI cZ a (vo, co, ol, fv, fc, nw, cm, op, se, be, wr, sn, ow)) H locs) {i : Int32} {k : Nat} (hi : i = nI k) (hk : k < 6) (hdg : decode cc pc = .ok (.iaload, 1)) (kk : W p l e R s m args below meth c H locs cells slots Q (F0 m (pc + 1) ls (.int (be k) :: rest))) : W p l e R s m args below meth c H locs cells slots Q (F0 m pc ls (.int i :: .ref (a 7) :: rest)) := by
  subst hi
  refine va_iald C.1 C.2.1 hI.1 hI.2.1 7 0 rfl rfl (vp_in_nI hk (by decide)) hdg ?_
  rw [nI_clamp (by omega)]
  exact kk
theorem xs_be (C : CallFix p m c cc nL s args lw_all RX0) {x9 : Int32} (hI : wI D cI cZ A s (xw cI cZ a (vo, co, ol, fv, fc, nw, cm, op, se, be, wr, sn, ow)) H locs) {i : Int32} {k : Nat} (hi : i = nI k) (hk : k < 6) (hdg : decode cc pc = .ok (.iastore, 1)) (kk : ∀ (H1 : Heap) (locs1 : List Loc), wI D cI cZ A s (xw cI cZ a (vo, co, ol, fv, fc, nw, cm, op, se, upd be k x9, wr, sn, ow)) H1 locs1 → W p l e R s m args below meth c H1 locs1 cells slots Q (F0 m (pc + 1) ls rest)) : W p l e R s m args below meth c H locs cells slots Q (F0 m pc ls (.int x9 :: .int i :: .ref (a 7) :: rest)) := by
  subst hi
  refine va_iast C.1 C.2.1 hI.1 hI.2.1 hI.2.2.1 hI.2.2.2.1 7 0 rfl rfl (vp_in_nI hk (by decide)) hdg (fun H1 locs1 h1 h2 h3 => ?_)
  rw [nI_clamp (by omega)] at h1 h2
  exact kk H1 locs1 ⟨hI.1, h1, h2, h3, hI.2.2.2.2⟩
theorem xg_wr (C : CallFix p m c cc nL s args lw_all RX0) (hI : wI D cI cZ A s (xw cI cZ a (vo, co, ol, fv, fc, nw, cm, op, se, be, wr, sn, ow)) H locs) (hdg : decode cc pc = .ok (.getfield 32, 3)) (kk : W p l e R s m args below meth c H locs cells slots Q (F0 m (pc + 3) ls (.ref (a 8) :: rest))) : W p l e R s m args below meth c H locs cells slots Q (F0 m pc ls (.ref (a 0) :: rest)) :=
  va_get (D := D) (ci := 0) (v := .ref (a 8)) (C := RX0) (T := TX0) (N := 13) C.1 C.2.1 C.2.2.2.2 in_X0 C.2.2.2.1 hI.1 hI.2.1 0 rfl rfl 10 (by decide) (C.2.2.2.2 _ q32) (fun _ h9 => h9) rfl hdg kk
theorem xl_wr (C : CallFix p m c cc nL s args lw_all RX0) (hI : wI D cI cZ A s (xw cI cZ a (vo, co, ol, fv, fc, nw, cm, op, se, be, wr, sn, ow)) H locs) {i : Int32} {k : Nat} (hi : i = nI k) (hk : k < 6) (hdg : decode cc pc = .ok (.iaload, 1)) (kk : W p l e R s m args below meth c H locs cells slots Q (F0 m (pc + 1) ls (.int (wr k) :: rest))) : W p l e R s m args below meth c H locs cells slots Q (F0 m pc ls (.int i :: .ref (a 8) :: rest)) := by
  subst hi
  refine va_iald C.1 C.2.1 hI.1 hI.2.1 8 0 rfl rfl (vp_in_nI hk (by decide)) hdg ?_
  rw [nI_clamp (by omega)]
  exact kk
theorem xs_wr (C : CallFix p m c cc nL s args lw_all RX0) {x9 : Int32} (hI : wI D cI cZ A s (xw cI cZ a (vo, co, ol, fv, fc, nw, cm, op, se, be, wr, sn, ow)) H locs) {i : Int32} {k : Nat} (hi : i = nI k) (hk : k < 6) (hdg : decode cc pc = .ok (.iastore, 1)) (kk : ∀ (H1 : Heap) (locs1 : List Loc), wI D cI cZ A s (xw cI cZ a (vo, co, ol, fv, fc, nw, cm, op, se, be, upd wr k x9, sn, ow)) H1 locs1 → W p l e R s m args below meth c H1 locs1 cells slots Q (F0 m (pc + 1) ls rest)) : W p l e R s m args below meth c H locs cells slots Q (F0 m pc ls (.int x9 :: .int i :: .ref (a 8) :: rest)) := by
  subst hi
  refine va_iast C.1 C.2.1 hI.1 hI.2.1 hI.2.2.1 hI.2.2.2.1 8 0 rfl rfl (vp_in_nI hk (by decide)) hdg (fun H1 locs1 h1 h2 h3 => ?_)
  rw [nI_clamp (by omega)] at h1 h2
  exact kk H1 locs1 ⟨hI.1, h1, h2, h3, hI.2.2.2.2⟩
theorem xg_sn (C : CallFix p m c cc nL s args lw_all RX0) (hI : wI D cI cZ A s (xw cI cZ a (vo, co, ol, fv, fc, nw, cm, op, se, be, wr, sn, ow)) H locs) (hdg : decode cc pc = .ok (.getfield 35, 3)) (kk : W p l e R s m args below meth c H locs cells slots Q (F0 m (pc + 3) ls (.ref (a 9) :: rest))) : W p l e R s m args below meth c H locs cells slots Q (F0 m pc ls (.ref (a 0) :: rest)) :=
  va_get (D := D) (ci := 0) (v := .ref (a 9)) (C := RX0) (T := TX0) (N := 13) C.1 C.2.1 C.2.2.2.2 in_X0 C.2.2.2.1 hI.1 hI.2.1 0 rfl rfl 11 (by decide) (C.2.2.2.2 _ q33) (fun _ h9 => h9) rfl hdg kk
theorem xl_sn (C : CallFix p m c cc nL s args lw_all RX0) (hI : wI D cI cZ A s (xw cI cZ a (vo, co, ol, fv, fc, nw, cm, op, se, be, wr, sn, ow)) H locs) {i : Int32} {k : Nat} (hi : i = nI k) (hk : k < 6) (hdg : decode cc pc = .ok (.iaload, 1)) (kk : W p l e R s m args below meth c H locs cells slots Q (F0 m (pc + 1) ls (.int (sn k) :: rest))) : W p l e R s m args below meth c H locs cells slots Q (F0 m pc ls (.int i :: .ref (a 9) :: rest)) := by
  subst hi
  refine va_iald C.1 C.2.1 hI.1 hI.2.1 9 0 rfl rfl (vp_in_nI hk (by decide)) hdg ?_
  rw [nI_clamp (by omega)]
  exact kk
theorem xs_sn (C : CallFix p m c cc nL s args lw_all RX0) {x9 : Int32} (hI : wI D cI cZ A s (xw cI cZ a (vo, co, ol, fv, fc, nw, cm, op, se, be, wr, sn, ow)) H locs) {i : Int32} {k : Nat} (hi : i = nI k) (hk : k < 6) (hdg : decode cc pc = .ok (.iastore, 1)) (kk : ∀ (H1 : Heap) (locs1 : List Loc), wI D cI cZ A s (xw cI cZ a (vo, co, ol, fv, fc, nw, cm, op, se, be, wr, upd sn k x9, ow)) H1 locs1 → W p l e R s m args below meth c H1 locs1 cells slots Q (F0 m (pc + 1) ls rest)) : W p l e R s m args below meth c H locs cells slots Q (F0 m pc ls (.int x9 :: .int i :: .ref (a 9) :: rest)) := by
  subst hi
  refine va_iast C.1 C.2.1 hI.1 hI.2.1 hI.2.2.1 hI.2.2.2.1 9 0 rfl rfl (vp_in_nI hk (by decide)) hdg (fun H1 locs1 h1 h2 h3 => ?_)
  rw [nI_clamp (by omega)] at h1 h2
  exact kk H1 locs1 ⟨hI.1, h1, h2, h3, hI.2.2.2.2⟩
theorem xg_ow (C : CallFix p m c cc nL s args lw_all RX0) (hI : wI D cI cZ A s (xw cI cZ a (vo, co, ol, fv, fc, nw, cm, op, se, be, wr, sn, ow)) H locs) (hdg : decode cc pc = .ok (.getfield 38, 3)) (kk : W p l e R s m args below meth c H locs cells slots Q (F0 m (pc + 3) ls (.ref (a 10) :: rest))) : W p l e R s m args below meth c H locs cells slots Q (F0 m pc ls (.ref (a 0) :: rest)) :=
  va_get (D := D) (ci := 0) (v := .ref (a 10)) (C := RX0) (T := TX0) (N := 13) C.1 C.2.1 C.2.2.2.2 in_X0 C.2.2.2.1 hI.1 hI.2.1 0 rfl rfl 12 (by decide) (C.2.2.2.2 _ q34) (fun _ h9 => h9) rfl hdg kk
theorem xl_ow (C : CallFix p m c cc nL s args lw_all RX0) (hI : wI D cI cZ A s (xw cI cZ a (vo, co, ol, fv, fc, nw, cm, op, se, be, wr, sn, ow)) H locs) {i : Int32} {k : Nat} (hi : i = nI k) (hk : k < 96) (hdg : decode cc pc = .ok (.iaload, 1)) (kk : W p l e R s m args below meth c H locs cells slots Q (F0 m (pc + 1) ls (.int (ow k) :: rest))) : W p l e R s m args below meth c H locs cells slots Q (F0 m pc ls (.int i :: .ref (a 10) :: rest)) := by
  subst hi
  refine va_iald C.1 C.2.1 hI.1 hI.2.1 10 0 rfl rfl (vp_in_nI hk (by decide)) hdg ?_
  rw [nI_clamp (by omega)]
  exact kk
theorem xs_ow (C : CallFix p m c cc nL s args lw_all RX0) {x9 : Int32} (hI : wI D cI cZ A s (xw cI cZ a (vo, co, ol, fv, fc, nw, cm, op, se, be, wr, sn, ow)) H locs) {i : Int32} {k : Nat} (hi : i = nI k) (hk : k < 96) (hdg : decode cc pc = .ok (.iastore, 1)) (kk : ∀ (H1 : Heap) (locs1 : List Loc), wI D cI cZ A s (xw cI cZ a (vo, co, ol, fv, fc, nw, cm, op, se, be, wr, sn, upd ow k x9)) H1 locs1 → W p l e R s m args below meth c H1 locs1 cells slots Q (F0 m (pc + 1) ls rest)) : W p l e R s m args below meth c H locs cells slots Q (F0 m pc ls (.int x9 :: .int i :: .ref (a 10) :: rest)) := by
  subst hi
  refine va_iast C.1 C.2.1 hI.1 hI.2.1 hI.2.2.1 hI.2.2.2.1 10 0 rfl rfl (vp_in_nI hk (by decide)) hdg (fun H1 locs1 h1 h2 h3 => ?_)
  rw [nI_clamp (by omega)] at h1 h2
  exact kk H1 locs1 ⟨hI.1, h1, h2, h3, hI.2.2.2.2⟩
theorem mg_st (C : CallFix p m c cc nL s args lw_all RX1) (hI : wI D cI cZ A s (mw cI cZ a (st, wt, mc, lv, ss, mb, vw, wo, mo, lk)) H locs) (hdg : decode cc pc = .ok (.getfield 7, 3)) (kk : W p l e R s m args below meth c H locs cells slots Q (F0 m (pc + 3) ls (.ref (a 1) :: rest))) : W p l e R s m args below meth c H locs cells slots Q (F0 m pc ls (.ref (a 0) :: rest)) :=
  va_get (D := D) (ci := 1) (v := .ref (a 1)) (C := RX1) (T := TX1) (N := 10) C.1 C.2.1 C.2.2.2.2 in_X1 C.2.2.2.1 hI.1 hI.2.1 0 rfl rfl 0 (by decide) (C.2.2.2.2 _ q151) (fun _ h9 => h9) rfl hdg kk
theorem ml_st (C : CallFix p m c cc nL s args lw_all RX1) (hI : wI D cI cZ A s (mw cI cZ a (st, wt, mc, lv, ss, mb, vw, wo, mo, lk)) H locs) {i : Int32} {k : Nat} (hi : i = nI k) (hk : k < 16) (hdg : decode cc pc = .ok (.iaload, 1)) (kk : W p l e R s m args below meth c H locs cells slots Q (F0 m (pc + 1) ls (.int (st k) :: rest))) : W p l e R s m args below meth c H locs cells slots Q (F0 m pc ls (.int i :: .ref (a 1) :: rest)) := by
  subst hi
  refine va_iald C.1 C.2.1 hI.1 hI.2.1 1 0 rfl rfl (vp_in_nI hk (by decide)) hdg ?_
  rw [nI_clamp (by omega)]
  exact kk
theorem ms_st (C : CallFix p m c cc nL s args lw_all RX1) {x9 : Int32} (hI : wI D cI cZ A s (mw cI cZ a (st, wt, mc, lv, ss, mb, vw, wo, mo, lk)) H locs) {i : Int32} {k : Nat} (hi : i = nI k) (hk : k < 16) (hdg : decode cc pc = .ok (.iastore, 1)) (kk : ∀ (H1 : Heap) (locs1 : List Loc), wI D cI cZ A s (mw cI cZ a (upd st k x9, wt, mc, lv, ss, mb, vw, wo, mo, lk)) H1 locs1 → W p l e R s m args below meth c H1 locs1 cells slots Q (F0 m (pc + 1) ls rest)) : W p l e R s m args below meth c H locs cells slots Q (F0 m pc ls (.int x9 :: .int i :: .ref (a 1) :: rest)) := by
  subst hi
  refine va_iast C.1 C.2.1 hI.1 hI.2.1 hI.2.2.1 hI.2.2.2.1 1 0 rfl rfl (vp_in_nI hk (by decide)) hdg (fun H1 locs1 h1 h2 h3 => ?_)
  rw [nI_clamp (by omega)] at h1 h2
  exact kk H1 locs1 ⟨hI.1, h1, h2, h3, hI.2.2.2.2⟩
theorem mg_wt (C : CallFix p m c cc nL s args lw_all RX1) (hI : wI D cI cZ A s (mw cI cZ a (st, wt, mc, lv, ss, mb, vw, wo, mo, lk)) H locs) (hdg : decode cc pc = .ok (.getfield 13, 3)) (kk : W p l e R s m args below meth c H locs cells slots Q (F0 m (pc + 3) ls (.ref (a 2) :: rest))) : W p l e R s m args below meth c H locs cells slots Q (F0 m pc ls (.ref (a 0) :: rest)) :=
  va_get (D := D) (ci := 1) (v := .ref (a 2)) (C := RX1) (T := TX1) (N := 10) C.1 C.2.1 C.2.2.2.2 in_X1 C.2.2.2.1 hI.1 hI.2.1 0 rfl rfl 1 (by decide) (C.2.2.2.2 _ q152) (fun _ h9 => h9) rfl hdg kk
theorem ml_wt (C : CallFix p m c cc nL s args lw_all RX1) (hI : wI D cI cZ A s (mw cI cZ a (st, wt, mc, lv, ss, mb, vw, wo, mo, lk)) H locs) {i : Int32} {k : Nat} (hi : i = nI k) (hk : k < 16) (hdg : decode cc pc = .ok (.iaload, 1)) (kk : W p l e R s m args below meth c H locs cells slots Q (F0 m (pc + 1) ls (.int (wt k) :: rest))) : W p l e R s m args below meth c H locs cells slots Q (F0 m pc ls (.int i :: .ref (a 2) :: rest)) := by
  subst hi
  refine va_iald C.1 C.2.1 hI.1 hI.2.1 2 0 rfl rfl (vp_in_nI hk (by decide)) hdg ?_
  rw [nI_clamp (by omega)]
  exact kk
theorem ms_wt (C : CallFix p m c cc nL s args lw_all RX1) {x9 : Int32} (hI : wI D cI cZ A s (mw cI cZ a (st, wt, mc, lv, ss, mb, vw, wo, mo, lk)) H locs) {i : Int32} {k : Nat} (hi : i = nI k) (hk : k < 16) (hdg : decode cc pc = .ok (.iastore, 1)) (kk : ∀ (H1 : Heap) (locs1 : List Loc), wI D cI cZ A s (mw cI cZ a (st, upd wt k x9, mc, lv, ss, mb, vw, wo, mo, lk)) H1 locs1 → W p l e R s m args below meth c H1 locs1 cells slots Q (F0 m (pc + 1) ls rest)) : W p l e R s m args below meth c H locs cells slots Q (F0 m pc ls (.int x9 :: .int i :: .ref (a 2) :: rest)) := by
  subst hi
  refine va_iast C.1 C.2.1 hI.1 hI.2.1 hI.2.2.1 hI.2.2.2.1 2 0 rfl rfl (vp_in_nI hk (by decide)) hdg (fun H1 locs1 h1 h2 h3 => ?_)
  rw [nI_clamp (by omega)] at h1 h2
  exact kk H1 locs1 ⟨hI.1, h1, h2, h3, hI.2.2.2.2⟩
theorem mg_mc (C : CallFix p m c cc nL s args lw_all RX1) (hI : wI D cI cZ A s (mw cI cZ a (st, wt, mc, lv, ss, mb, vw, wo, mo, lk)) H locs) (hdg : decode cc pc = .ok (.getfield 38, 3)) (kk : W p l e R s m args below meth c H locs cells slots Q (F0 m (pc + 3) ls (.int mc :: rest))) : W p l e R s m args below meth c H locs cells slots Q (F0 m pc ls (.ref (a 0) :: rest)) :=
  va_get (D := D) (ci := 1) (v := .int mc) (C := RX1) (T := TX1) (N := 10) C.1 C.2.1 C.2.2.2.2 in_X1 C.2.2.2.1 hI.1 hI.2.1 0 rfl rfl 2 (by decide) (C.2.2.2.2 _ q153) (fun _ h9 => h9) rfl hdg kk
theorem mp_mc (C : CallFix p m c cc nL s args lw_all RX1) {x9 : Int32} (hI : wI D cI cZ A s (mw cI cZ a (st, wt, mc, lv, ss, mb, vw, wo, mo, lk)) H locs) (hdg : decode cc pc = .ok (.putfield 38, 3)) (kk : ∀ (H1 : Heap) (locs1 : List Loc), wI D cI cZ A s (mw cI cZ a (st, wt, x9, lv, ss, mb, vw, wo, mo, lk)) H1 locs1 → W p l e R s m args below meth c H1 locs1 cells slots Q (F0 m (pc + 3) ls rest)) : W p l e R s m args below meth c H locs cells slots Q (F0 m pc ls (.int x9 :: .ref (a 0) :: rest)) := by
  refine va_put (D := D) (ci := 1) (v := .int x9) (ty := .int) (C := RX1) (T := TX1) (N := 10) C.1 C.2.1 C.2.2.2.2 in_X1 tyX1 tyX1_ok nmX1 C.2.2.2.1 hI.1 hI.2.1 hI.2.2.1 hI.2.2.2.1 0 rfl rfl 2 (by decide) (C.2.2.2.2 _ q153) (fun _ h9 => h9) rfl (by decide +kernel) rfl rfl (Nat.le_of_ble_eq_true rfl) hdg (fun H1 locs1 h1 h2 h3 => ?_)
  exact kk H1 locs1 ⟨hI.1, h1, h2, h3, hI.2.2.2.2⟩
theorem mg_lv (C : CallFix p m c cc nL s args lw_all RX1) (hI : wI D cI cZ A s (mw cI cZ a (st, wt, mc, lv, ss, mb, vw, wo, mo, lk)) H locs) (hdg : decode cc pc = .ok (.getfield 16, 3)) (kk : W p l e R s m args below meth c H locs cells slots Q (F0 m (pc + 3) ls (.ref (a 3) :: rest))) : W p l e R s m args below meth c H locs cells slots Q (F0 m pc ls (.ref (a 0) :: rest)) :=
  va_get (D := D) (ci := 1) (v := .ref (a 3)) (C := RX1) (T := TX1) (N := 10) C.1 C.2.1 C.2.2.2.2 in_X1 C.2.2.2.1 hI.1 hI.2.1 0 rfl rfl 3 (by decide) (C.2.2.2.2 _ q154) (fun _ h9 => h9) rfl hdg kk
theorem ml_lv (C : CallFix p m c cc nL s args lw_all RX1) (hI : wI D cI cZ A s (mw cI cZ a (st, wt, mc, lv, ss, mb, vw, wo, mo, lk)) H locs) {i : Int32} {k : Nat} (hi : i = nI k) (hk : k < 6) (hdg : decode cc pc = .ok (.baload, 1)) (kk : W p l e R s m args below meth c H locs cells slots Q (F0 m (pc + 1) ls (.int (lv k) :: rest))) : W p l e R s m args below meth c H locs cells slots Q (F0 m pc ls (.int i :: .ref (a 3) :: rest)) := by
  subst hi
  refine va_zald C.1 C.2.1 hI.1 hI.2.1 3 1 rfl rfl (vp_in_nI hk (by decide)) hdg ?_
  rw [nI_clamp (by omega)]
  exact kk
theorem ms_lv (C : CallFix p m c cc nL s args lw_all RX1) {x9 y9 : Int32} (hx9 : vp_nar .boolean x9 = y9) (hI : wI D cI cZ A s (mw cI cZ a (st, wt, mc, lv, ss, mb, vw, wo, mo, lk)) H locs) {i : Int32} {k : Nat} (hi : i = nI k) (hk : k < 6) (hdg : decode cc pc = .ok (.bastore, 1)) (kk : ∀ (H1 : Heap) (locs1 : List Loc), wI D cI cZ A s (mw cI cZ a (st, wt, mc, upd lv k y9, ss, mb, vw, wo, mo, lk)) H1 locs1 → W p l e R s m args below meth c H1 locs1 cells slots Q (F0 m (pc + 1) ls rest)) : W p l e R s m args below meth c H locs cells slots Q (F0 m pc ls (.int x9 :: .int i :: .ref (a 3) :: rest)) := by
  subst hi
  subst hx9
  refine va_zast C.1 C.2.1 hI.1 hI.2.1 hI.2.2.1 hI.2.2.2.1 3 1 rfl rfl (vp_in_nI hk (by decide)) hdg (fun H1 locs1 h1 h2 h3 => ?_)
  rw [nI_clamp (by omega)] at h1 h2
  exact kk H1 locs1 ⟨hI.1, h1, h2, h3, hI.2.2.2.2⟩
theorem mg_ss (C : CallFix p m c cc nL s args lw_all RX1) (hI : wI D cI cZ A s (mw cI cZ a (st, wt, mc, lv, ss, mb, vw, wo, mo, lk)) H locs) (hdg : decode cc pc = .ok (.getfield 20, 3)) (kk : W p l e R s m args below meth c H locs cells slots Q (F0 m (pc + 3) ls (.ref (a 4) :: rest))) : W p l e R s m args below meth c H locs cells slots Q (F0 m pc ls (.ref (a 0) :: rest)) :=
  va_get (D := D) (ci := 1) (v := .ref (a 4)) (C := RX1) (T := TX1) (N := 10) C.1 C.2.1 C.2.2.2.2 in_X1 C.2.2.2.1 hI.1 hI.2.1 0 rfl rfl 4 (by decide) (C.2.2.2.2 _ q155) (fun _ h9 => h9) rfl hdg kk
theorem ml_ss (C : CallFix p m c cc nL s args lw_all RX1) (hI : wI D cI cZ A s (mw cI cZ a (st, wt, mc, lv, ss, mb, vw, wo, mo, lk)) H locs) {i : Int32} {k : Nat} (hi : i = nI k) (hk : k < 6) (hdg : decode cc pc = .ok (.baload, 1)) (kk : W p l e R s m args below meth c H locs cells slots Q (F0 m (pc + 1) ls (.int (ss k) :: rest))) : W p l e R s m args below meth c H locs cells slots Q (F0 m pc ls (.int i :: .ref (a 4) :: rest)) := by
  subst hi
  refine va_zald C.1 C.2.1 hI.1 hI.2.1 4 1 rfl rfl (vp_in_nI hk (by decide)) hdg ?_
  rw [nI_clamp (by omega)]
  exact kk
theorem ms_ss (C : CallFix p m c cc nL s args lw_all RX1) {x9 y9 : Int32} (hx9 : vp_nar .boolean x9 = y9) (hI : wI D cI cZ A s (mw cI cZ a (st, wt, mc, lv, ss, mb, vw, wo, mo, lk)) H locs) {i : Int32} {k : Nat} (hi : i = nI k) (hk : k < 6) (hdg : decode cc pc = .ok (.bastore, 1)) (kk : ∀ (H1 : Heap) (locs1 : List Loc), wI D cI cZ A s (mw cI cZ a (st, wt, mc, lv, upd ss k y9, mb, vw, wo, mo, lk)) H1 locs1 → W p l e R s m args below meth c H1 locs1 cells slots Q (F0 m (pc + 1) ls rest)) : W p l e R s m args below meth c H locs cells slots Q (F0 m pc ls (.int x9 :: .int i :: .ref (a 4) :: rest)) := by
  subst hi
  subst hx9
  refine va_zast C.1 C.2.1 hI.1 hI.2.1 hI.2.2.1 hI.2.2.2.1 4 1 rfl rfl (vp_in_nI hk (by decide)) hdg (fun H1 locs1 h1 h2 h3 => ?_)
  rw [nI_clamp (by omega)] at h1 h2
  exact kk H1 locs1 ⟨hI.1, h1, h2, h3, hI.2.2.2.2⟩
theorem mg_mb (C : CallFix p m c cc nL s args lw_all RX1) (hI : wI D cI cZ A s (mw cI cZ a (st, wt, mc, lv, ss, mb, vw, wo, mo, lk)) H locs) (hdg : decode cc pc = .ok (.getfield 23, 3)) (kk : W p l e R s m args below meth c H locs cells slots Q (F0 m (pc + 3) ls (.ref (a 5) :: rest))) : W p l e R s m args below meth c H locs cells slots Q (F0 m pc ls (.ref (a 0) :: rest)) :=
  va_get (D := D) (ci := 1) (v := .ref (a 5)) (C := RX1) (T := TX1) (N := 10) C.1 C.2.1 C.2.2.2.2 in_X1 C.2.2.2.1 hI.1 hI.2.1 0 rfl rfl 5 (by decide) (C.2.2.2.2 _ q156) (fun _ h9 => h9) rfl hdg kk
theorem ml_mb (C : CallFix p m c cc nL s args lw_all RX1) (hI : wI D cI cZ A s (mw cI cZ a (st, wt, mc, lv, ss, mb, vw, wo, mo, lk)) H locs) {i : Int32} {k : Nat} (hi : i = nI k) (hk : k < 6) (hdg : decode cc pc = .ok (.iaload, 1)) (kk : W p l e R s m args below meth c H locs cells slots Q (F0 m (pc + 1) ls (.int (mb k) :: rest))) : W p l e R s m args below meth c H locs cells slots Q (F0 m pc ls (.int i :: .ref (a 5) :: rest)) := by
  subst hi
  refine va_iald C.1 C.2.1 hI.1 hI.2.1 5 0 rfl rfl (vp_in_nI hk (by decide)) hdg ?_
  rw [nI_clamp (by omega)]
  exact kk
theorem ms_mb (C : CallFix p m c cc nL s args lw_all RX1) {x9 : Int32} (hI : wI D cI cZ A s (mw cI cZ a (st, wt, mc, lv, ss, mb, vw, wo, mo, lk)) H locs) {i : Int32} {k : Nat} (hi : i = nI k) (hk : k < 6) (hdg : decode cc pc = .ok (.iastore, 1)) (kk : ∀ (H1 : Heap) (locs1 : List Loc), wI D cI cZ A s (mw cI cZ a (st, wt, mc, lv, ss, upd mb k x9, vw, wo, mo, lk)) H1 locs1 → W p l e R s m args below meth c H1 locs1 cells slots Q (F0 m (pc + 1) ls rest)) : W p l e R s m args below meth c H locs cells slots Q (F0 m pc ls (.int x9 :: .int i :: .ref (a 5) :: rest)) := by
  subst hi
  refine va_iast C.1 C.2.1 hI.1 hI.2.1 hI.2.2.1 hI.2.2.2.1 5 0 rfl rfl (vp_in_nI hk (by decide)) hdg (fun H1 locs1 h1 h2 h3 => ?_)
  rw [nI_clamp (by omega)] at h1 h2
  exact kk H1 locs1 ⟨hI.1, h1, h2, h3, hI.2.2.2.2⟩
theorem mg_vw (C : CallFix p m c cc nL s args lw_all RX1) (hI : wI D cI cZ A s (mw cI cZ a (st, wt, mc, lv, ss, mb, vw, wo, mo, lk)) H locs) (hdg : decode cc pc = .ok (.getfield 26, 3)) (kk : W p l e R s m args below meth c H locs cells slots Q (F0 m (pc + 3) ls (.ref (a 6) :: rest))) : W p l e R s m args below meth c H locs cells slots Q (F0 m pc ls (.ref (a 0) :: rest)) :=
  va_get (D := D) (ci := 1) (v := .ref (a 6)) (C := RX1) (T := TX1) (N := 10) C.1 C.2.1 C.2.2.2.2 in_X1 C.2.2.2.1 hI.1 hI.2.1 0 rfl rfl 6 (by decide) (C.2.2.2.2 _ q157) (fun _ h9 => h9) rfl hdg kk
theorem ml_vw (C : CallFix p m c cc nL s args lw_all RX1) (hI : wI D cI cZ A s (mw cI cZ a (st, wt, mc, lv, ss, mb, vw, wo, mo, lk)) H locs) {i : Int32} {k : Nat} (hi : i = nI k) (hk : k < 96) (hdg : decode cc pc = .ok (.iaload, 1)) (kk : W p l e R s m args below meth c H locs cells slots Q (F0 m (pc + 1) ls (.int (vw k) :: rest))) : W p l e R s m args below meth c H locs cells slots Q (F0 m pc ls (.int i :: .ref (a 6) :: rest)) := by
  subst hi
  refine va_iald C.1 C.2.1 hI.1 hI.2.1 6 0 rfl rfl (vp_in_nI hk (by decide)) hdg ?_
  rw [nI_clamp (by omega)]
  exact kk
theorem ms_vw (C : CallFix p m c cc nL s args lw_all RX1) {x9 : Int32} (hI : wI D cI cZ A s (mw cI cZ a (st, wt, mc, lv, ss, mb, vw, wo, mo, lk)) H locs) {i : Int32} {k : Nat} (hi : i = nI k) (hk : k < 96) (hdg : decode cc pc = .ok (.iastore, 1)) (kk : ∀ (H1 : Heap) (locs1 : List Loc), wI D cI cZ A s (mw cI cZ a (st, wt, mc, lv, ss, mb, upd vw k x9, wo, mo, lk)) H1 locs1 → W p l e R s m args below meth c H1 locs1 cells slots Q (F0 m (pc + 1) ls rest)) : W p l e R s m args below meth c H locs cells slots Q (F0 m pc ls (.int x9 :: .int i :: .ref (a 6) :: rest)) := by
  subst hi
  refine va_iast C.1 C.2.1 hI.1 hI.2.1 hI.2.2.1 hI.2.2.2.1 6 0 rfl rfl (vp_in_nI hk (by decide)) hdg (fun H1 locs1 h1 h2 h3 => ?_)
  rw [nI_clamp (by omega)] at h1 h2
  exact kk H1 locs1 ⟨hI.1, h1, h2, h3, hI.2.2.2.2⟩
theorem mg_wo (C : CallFix p m c cc nL s args lw_all RX1) (hI : wI D cI cZ A s (mw cI cZ a (st, wt, mc, lv, ss, mb, vw, wo, mo, lk)) H locs) (hdg : decode cc pc = .ok (.getfield 29, 3)) (kk : W p l e R s m args below meth c H locs cells slots Q (F0 m (pc + 3) ls (.ref (a 7) :: rest))) : W p l e R s m args below meth c H locs cells slots Q (F0 m pc ls (.ref (a 0) :: rest)) :=
  va_get (D := D) (ci := 1) (v := .ref (a 7)) (C := RX1) (T := TX1) (N := 10) C.1 C.2.1 C.2.2.2.2 in_X1 C.2.2.2.1 hI.1 hI.2.1 0 rfl rfl 7 (by decide) (C.2.2.2.2 _ q158) (fun _ h9 => h9) rfl hdg kk
theorem ml_wo (C : CallFix p m c cc nL s args lw_all RX1) (hI : wI D cI cZ A s (mw cI cZ a (st, wt, mc, lv, ss, mb, vw, wo, mo, lk)) H locs) {i : Int32} {k : Nat} (hi : i = nI k) (hk : k < 96) (hdg : decode cc pc = .ok (.baload, 1)) (kk : W p l e R s m args below meth c H locs cells slots Q (F0 m (pc + 1) ls (.int (wo k) :: rest))) : W p l e R s m args below meth c H locs cells slots Q (F0 m pc ls (.int i :: .ref (a 7) :: rest)) := by
  subst hi
  refine va_zald C.1 C.2.1 hI.1 hI.2.1 7 1 rfl rfl (vp_in_nI hk (by decide)) hdg ?_
  rw [nI_clamp (by omega)]
  exact kk
theorem ms_wo (C : CallFix p m c cc nL s args lw_all RX1) {x9 y9 : Int32} (hx9 : vp_nar .boolean x9 = y9) (hI : wI D cI cZ A s (mw cI cZ a (st, wt, mc, lv, ss, mb, vw, wo, mo, lk)) H locs) {i : Int32} {k : Nat} (hi : i = nI k) (hk : k < 96) (hdg : decode cc pc = .ok (.bastore, 1)) (kk : ∀ (H1 : Heap) (locs1 : List Loc), wI D cI cZ A s (mw cI cZ a (st, wt, mc, lv, ss, mb, vw, upd wo k y9, mo, lk)) H1 locs1 → W p l e R s m args below meth c H1 locs1 cells slots Q (F0 m (pc + 1) ls rest)) : W p l e R s m args below meth c H locs cells slots Q (F0 m pc ls (.int x9 :: .int i :: .ref (a 7) :: rest)) := by
  subst hi
  subst hx9
  refine va_zast C.1 C.2.1 hI.1 hI.2.1 hI.2.2.1 hI.2.2.2.1 7 1 rfl rfl (vp_in_nI hk (by decide)) hdg (fun H1 locs1 h1 h2 h3 => ?_)
  rw [nI_clamp (by omega)] at h1 h2
  exact kk H1 locs1 ⟨hI.1, h1, h2, h3, hI.2.2.2.2⟩
theorem mg_mo (C : CallFix p m c cc nL s args lw_all RX1) (hI : wI D cI cZ A s (mw cI cZ a (st, wt, mc, lv, ss, mb, vw, wo, mo, lk)) H locs) (hdg : decode cc pc = .ok (.getfield 32, 3)) (kk : W p l e R s m args below meth c H locs cells slots Q (F0 m (pc + 3) ls (.ref (a 8) :: rest))) : W p l e R s m args below meth c H locs cells slots Q (F0 m pc ls (.ref (a 0) :: rest)) :=
  va_get (D := D) (ci := 1) (v := .ref (a 8)) (C := RX1) (T := TX1) (N := 10) C.1 C.2.1 C.2.2.2.2 in_X1 C.2.2.2.1 hI.1 hI.2.1 0 rfl rfl 8 (by decide) (C.2.2.2.2 _ q159) (fun _ h9 => h9) rfl hdg kk
theorem ml_mo (C : CallFix p m c cc nL s args lw_all RX1) (hI : wI D cI cZ A s (mw cI cZ a (st, wt, mc, lv, ss, mb, vw, wo, mo, lk)) H locs) {i : Int32} {k : Nat} (hi : i = nI k) (hk : k < 96) (hdg : decode cc pc = .ok (.iaload, 1)) (kk : W p l e R s m args below meth c H locs cells slots Q (F0 m (pc + 1) ls (.int (mo k) :: rest))) : W p l e R s m args below meth c H locs cells slots Q (F0 m pc ls (.int i :: .ref (a 8) :: rest)) := by
  subst hi
  refine va_iald C.1 C.2.1 hI.1 hI.2.1 8 0 rfl rfl (vp_in_nI hk (by decide)) hdg ?_
  rw [nI_clamp (by omega)]
  exact kk
theorem ms_mo (C : CallFix p m c cc nL s args lw_all RX1) {x9 : Int32} (hI : wI D cI cZ A s (mw cI cZ a (st, wt, mc, lv, ss, mb, vw, wo, mo, lk)) H locs) {i : Int32} {k : Nat} (hi : i = nI k) (hk : k < 96) (hdg : decode cc pc = .ok (.iastore, 1)) (kk : ∀ (H1 : Heap) (locs1 : List Loc), wI D cI cZ A s (mw cI cZ a (st, wt, mc, lv, ss, mb, vw, wo, upd mo k x9, lk)) H1 locs1 → W p l e R s m args below meth c H1 locs1 cells slots Q (F0 m (pc + 1) ls rest)) : W p l e R s m args below meth c H locs cells slots Q (F0 m pc ls (.int x9 :: .int i :: .ref (a 8) :: rest)) := by
  subst hi
  refine va_iast C.1 C.2.1 hI.1 hI.2.1 hI.2.2.1 hI.2.2.2.1 8 0 rfl rfl (vp_in_nI hk (by decide)) hdg (fun H1 locs1 h1 h2 h3 => ?_)
  rw [nI_clamp (by omega)] at h1 h2
  exact kk H1 locs1 ⟨hI.1, h1, h2, h3, hI.2.2.2.2⟩
theorem mg_lk (C : CallFix p m c cc nL s args lw_all RX1) (hI : wI D cI cZ A s (mw cI cZ a (st, wt, mc, lv, ss, mb, vw, wo, mo, lk)) H locs) (hdg : decode cc pc = .ok (.getfield 35, 3)) (kk : W p l e R s m args below meth c H locs cells slots Q (F0 m (pc + 3) ls (.ref (a 9) :: rest))) : W p l e R s m args below meth c H locs cells slots Q (F0 m pc ls (.ref (a 0) :: rest)) :=
  va_get (D := D) (ci := 1) (v := .ref (a 9)) (C := RX1) (T := TX1) (N := 10) C.1 C.2.1 C.2.2.2.2 in_X1 C.2.2.2.1 hI.1 hI.2.1 0 rfl rfl 9 (by decide) (C.2.2.2.2 _ q160) (fun _ h9 => h9) rfl hdg kk
theorem ml_lk (C : CallFix p m c cc nL s args lw_all RX1) (hI : wI D cI cZ A s (mw cI cZ a (st, wt, mc, lv, ss, mb, vw, wo, mo, lk)) H locs) {i : Int32} {k : Nat} (hi : i = nI k) (hk : k < 96) (hdg : decode cc pc = .ok (.baload, 1)) (kk : W p l e R s m args below meth c H locs cells slots Q (F0 m (pc + 1) ls (.int (lk k) :: rest))) : W p l e R s m args below meth c H locs cells slots Q (F0 m pc ls (.int i :: .ref (a 9) :: rest)) := by
  subst hi
  refine va_zald C.1 C.2.1 hI.1 hI.2.1 9 1 rfl rfl (vp_in_nI hk (by decide)) hdg ?_
  rw [nI_clamp (by omega)]
  exact kk
theorem ms_lk (C : CallFix p m c cc nL s args lw_all RX1) {x9 y9 : Int32} (hx9 : vp_nar .boolean x9 = y9) (hI : wI D cI cZ A s (mw cI cZ a (st, wt, mc, lv, ss, mb, vw, wo, mo, lk)) H locs) {i : Int32} {k : Nat} (hi : i = nI k) (hk : k < 96) (hdg : decode cc pc = .ok (.bastore, 1)) (kk : ∀ (H1 : Heap) (locs1 : List Loc), wI D cI cZ A s (mw cI cZ a (st, wt, mc, lv, ss, mb, vw, wo, mo, upd lk k y9)) H1 locs1 → W p l e R s m args below meth c H1 locs1 cells slots Q (F0 m (pc + 1) ls rest)) : W p l e R s m args below meth c H locs cells slots Q (F0 m pc ls (.int x9 :: .int i :: .ref (a 9) :: rest)) := by
  subst hi
  subst hx9
  refine va_zast C.1 C.2.1 hI.1 hI.2.1 hI.2.2.1 hI.2.2.2.1 9 1 rfl rfl (vp_in_nI hk (by decide)) hdg (fun H1 locs1 h1 h2 h3 => ?_)
  rw [nI_clamp (by omega)] at h1 h2
  exact kk H1 locs1 ⟨hI.1, h1, h2, h3, hI.2.2.2.2⟩
end CORE
end
section
/-! CALLS: a contract over a world (WMi, WMv), a method's start, a call of it -/
set_option maxRecDepth 100000
/-- a method that answers an int (or a boolean): from the world wc it comes to the world Bw u, with post r u; it makes no cell -/
def WMi (l : Launch) (y : MethodName) (cc : ByteArray) (nL : Nat) (ret : Option FieldType) (fr lc : Nat) (D : va_G) (cI cZ : ClassId) (av : List Value) {S : Type} (wc : va_W) (Bw : S → va_W) (post : Int32 → S → Prop) : Prop :=
  ∀ sz : Nat, Met l y (ws_ y cc nL ret) ({ frames := fr, cells := 0, slots := 0, locals := lc }) (va_Pc av (fun U => U.heap.size = sz ∧ va_P D cl_ wc U.heap ∧ va_K D cl_ [(cI, .int), (cZ, .boolean)] U ∧ va_D (fun _ => True) wc)) (va_Qi post (fun u t => va_P D cl_ (Bw u) t.heap ∧ va_K D cl_ [(cI, .int), (cZ, .boolean)] t ∧ va_D (va_A wc sz) (Bw u)) (va_A wc sz)) 0 0 (va_A wc sz)
/-- the same for void -/
def WMv (l : Launch) (y : MethodName) (cc : ByteArray) (nL : Nat) (fr lc : Nat) (D : va_G) (cI cZ : ClassId) (av : List Value) {S : Type} (wc : va_W) (Bw : S → va_W) (post : S → Prop) : Prop :=
  ∀ sz : Nat, Met l y (ws_ y cc nL none) ({ frames := fr, cells := 0, slots := 0, locals := lc }) (va_Pc av (fun U => U.heap.size = sz ∧ va_P D cl_ wc U.heap ∧ va_K D cl_ [(cI, .int), (cZ, .boolean)] U ∧ va_D (fun _ => True) wc)) (va_Qv post (fun u t => va_P D cl_ (Bw u) t.heap ∧ va_K D cl_ [(cI, .int), (cZ, .boolean)] t ∧ va_D (va_A wc sz) (Bw u)) (va_A wc sz)) 0 0 (va_A wc sz)
section CALLS
variable {p : Program} {l : Launch} {e : Env} {R : Room} {s : State} {m : MethodId} {args : Array Value} {below : List Frame} {meth : Method} {c : Code} {H : Heap} {locs : List Loc} {cells slots : Nat} {Q : State → Prop}
variable {cc : ByteArray} {nL pc : Nat} {ls : Array Slot} {rest : List Value} {D : va_G} {cI cZ : ClassId} {A : Nat → Prop}
theorem w_app_r {wc wr : va_W} {k : Nat} {q : Nat × va_E} (h : wr[k]? = some q) : (wc ++ wr)[wc.length + k]? = some q := by
  rw [List.getElem?_append_right (by omega), show wc.length + k - wc.length = k by omega]
  exact h
theorem w_app_l {wc wr : va_W} {k : Nat} {q : Nat × va_E} (h : wc[k]? = some q) : (wc ++ wr)[k]? = some q ∧ k < wc.length := by
  have hl := (List.getElem?_eq_some_iff.mp h).1
  exact ⟨by rw [List.getElem?_append_left hl]; exact h, hl⟩
theorem wI.free {wc wr : va_W} (hI : wI D cI cZ A s (wc ++ wr) H locs) : ∀ q : Nat, va_A wc H.size q → A q := by
  obtain ⟨hK, hP, hD, hS, hA⟩ := hI
  intro q h
  rcases h with ⟨k, x, h⟩ | h
  · exact hD.2 k (q, x) (w_app_l h).1
  · exact hA q (Nat.le_trans hS.1 h)
theorem wI.join {wc wr w1 : va_W} {H1 : Heap} {locs1 : List Loc} (hI : wI D cI cZ A s (wc ++ wr) H locs) (hk : ∀ q : Nat, q < H.size → ¬ va_A wc H.size q → H1[q]? = H[q]?) (hP1 : va_P D cl_ w1 H1) (hD1 : va_D (va_A wc H.size) w1) (hS1 : va_S A s.heap H1 locs1) : wI D cI cZ A s (wr ++ w1) H1 locs1 := by
  have hF := hI.free
  obtain ⟨hK, hP, hD, hS, hA⟩ := hI
  have apart : ∀ (k : Nat) (q : Nat × va_E), wr[k]? = some q → q.1 < H.size ∧ ¬ va_A wc H.size q.1 := by
    intro k q hq
    have hq2 := w_app_r (wc := wc) hq
    have hl := (hP _ q hq2).lt
    refine ⟨hl, fun h => ?_⟩
    rcases h with ⟨k2, x, h⟩ | h
    · obtain ⟨h4, h5⟩ := w_app_l (wr := wr) h
      have hij := hD.1 _ k2 q (q.1, x) hq2 h4 rfl
      omega
    · omega
  refine ⟨hK, va_P.app (fun k q hq => ?_) hP1, va_D.app ⟨fun i j x y hi hj hxy => ?_, fun k q hq => hD.2 _ q (w_app_r hq)⟩ (hD1.weaken (fun k q _ h => hF q.1 h)) (fun i j x y hx hy hxy => ?_), hS1, hA⟩
  · obtain ⟨g1, g2⟩ := apart k q hq
    exact (hP _ q (w_app_r hq)).kept (hk q.1 g1 g2)
  · have := hD.1 _ _ x y (w_app_r (wc := wc) hi) (w_app_r (wc := wc) hj) hxy
    omega
  · exact (apart i x hx).2 (by rw [hxy]; exact hD1.2 j y hy)
theorem wI.fst {wc wr : va_W} (hI : wI D cI cZ A s (wc ++ wr) H locs) : va_P D cl_ wc H ∧ va_D (fun _ => True) wc := by
  obtain ⟨hK, hP, hD, hS, hA⟩ := hI
  refine ⟨fun k q hq => hP k q (w_app_l hq).1, fun i j x y hi hj hxy => hD.1 i j x y (w_app_l hi).1 (w_app_l hj).1 hxy, fun _ _ _ => trivial⟩
theorem wI.nil {wc : va_W} (hI : wI D cI cZ A s wc H locs) : wI D cI cZ A s (wc ++ []) H locs := by
  rw [List.append_nil]
  exact hI
theorem wI.nilr {wc : va_W} (hI : wI D cI cZ A s (wc ++ []) H locs) : wI D cI cZ A s wc H locs := by
  rw [List.append_nil] at hI
  exact hI
/-- a call through an object, which answers an int: the callee's world first, the rest behind it; then the rest first -/
theorem wcall_i {y : MethodName} {yc : ByteArray} {yL fr lc idx n ci N : Nat} {yr : Option FieldType} {S : Type} {wc wr : va_W} {Bw : S → va_W} {post : Int32 → S → Prop} {own yC : String} {T : u_T} {b : Nat} {As st0 fs : List Value}
    (hM : WMi l y yc yL yr fr lc D cI cZ (.ref b :: As) wc Bw post) (C : CallFix p m c cc nL s args lw_all own) (hG : GoodIn lw_all (wsV own idx yC y (ws_ y yc yL yr)))
    (hd : y.cls = yC ∧ y.cls ≠ "java/lang/invoke/MethodHandle" ∧ y.cls ≠ "java/lang/invoke/VarHandle" ∧ (parseMethodDescriptor y.desc).map (fun d => d.parameters.length) = some n) (hR : fr + 1 ≤ R.frames ∧ 8 + (yL + 11) + lc ≤ R.locals) (hcs : cells ≤ R.cells ∧ slots ≤ R.slots)
    (hci : cl_[ci]? = some (yC, T, N)) (hw0 : wc[0]? = some (b, .inr (ci, fs))) (hI : wI D cI cZ A s (wc ++ wr) H locs) (hn : As.length = n) (hls : ls.size = nL) (hst : st0 = As.reverse ++ .ref b :: rest) (hrest : (rest.map fun v => v.category).sum ≤ 8) (hdg : decode cc pc = .ok (.invokevirtual idx, 3))
    (kk : ∀ (r : Int32) (u : S) (H1 : Heap) (locs1 : List Loc), post r u → wI D cI cZ A s (wr ++ Bw u) H1 locs1 → W p l e R s m args below meth c H1 locs1 cells slots Q (F0 m (pc + 3) ls (.int r :: rest))) : W p l e R s m args below meth c H locs cells slots Q (F0 m pc ls st0) := by
  obtain ⟨hPc, hDc⟩ := hI.fst
  have hF := hI.free
  refine va_calli (va_runV (As := As) (rest := rest) C (hM H.size) (cwV n C.2.2.2.2 hG rfl rfl rfl hd hR) ⟨fun a U g mk q => by obtain ⟨q0, q1, qP, qK, qD⟩ := q; exact ⟨q0, q1, qP, va_K.moved (u := U) (U := U.calling g mk a) (Vm.Alike.refl U.vm) qK, qD⟩, va_recv hI.1 hPc hci hw0, fun U hU hW => ⟨rfl, by rw [hU], by rw [hU]; exact hPc, va_K.moved hW.alike hI.1, hDc⟩⟩ rfl hn hls hst (lv_room hrest) hdg hcs) hI.2.2.2.1 (fun q _ h => hF q h) hF (fun r u t H1 locs1 ht hvm hw hB hz1 hk1 hS => ?_)
  obtain ⟨hP1, hK1, hD1⟩ := hB
  rw [ht] at hP1
  exact kk r u H1 locs1 hw (hI.join hk1 hP1 hD1 hS)
theorem wcall_v {y : MethodName} {yc : ByteArray} {yL fr lc idx n ci N : Nat} {S : Type} {wc wr : va_W} {Bw : S → va_W} {post : S → Prop} {own yC : String} {T : u_T} {b : Nat} {As st0 fs : List Value}
    (hM : WMv l y yc yL fr lc D cI cZ (.ref b :: As) wc Bw post) (C : CallFix p m c cc nL s args lw_all own) (hG : GoodIn lw_all (wsV own idx yC y (ws_ y yc yL none)))
    (hd : y.cls = yC ∧ y.cls ≠ "java/lang/invoke/MethodHandle" ∧ y.cls ≠ "java/lang/invoke/VarHandle" ∧ (parseMethodDescriptor y.desc).map (fun d => d.parameters.length) = some n) (hR : fr + 1 ≤ R.frames ∧ 8 + (yL + 11) + lc ≤ R.locals) (hcs : cells ≤ R.cells ∧ slots ≤ R.slots)
    (hci : cl_[ci]? = some (yC, T, N)) (hw0 : wc[0]? = some (b, .inr (ci, fs))) (hI : wI D cI cZ A s (wc ++ wr) H locs) (hn : As.length = n) (hls : ls.size = nL) (hst : st0 = As.reverse ++ .ref b :: rest) (hrest : (rest.map fun v => v.category).sum ≤ 8) (hdg : decode cc pc = .ok (.invokevirtual idx, 3))
    (kk : ∀ (u : S) (H1 : Heap) (locs1 : List Loc), post u → wI D cI cZ A s (wr ++ Bw u) H1 locs1 → W p l e R s m args below meth c H1 locs1 cells slots Q (F0 m (pc + 3) ls rest)) : W p l e R s m args below meth c H locs cells slots Q (F0 m pc ls st0) := by
  obtain ⟨hPc, hDc⟩ := hI.fst
  have hF := hI.free
  refine va_callv (va_runV (As := As) (rest := rest) C (hM H.size) (cwV n C.2.2.2.2 hG rfl rfl rfl hd hR) ⟨fun a U g mk q => by obtain ⟨q0, q1, qP, qK, qD⟩ := q; exact ⟨q0, q1, qP, va_K.moved (u := U) (U := U.calling g mk a) (Vm.Alike.refl U.vm) qK, qD⟩, va_recv hI.1 hPc hci hw0, fun U hU hW => ⟨rfl, by rw [hU], by rw [hU]; exact hPc, va_K.moved hW.alike hI.1, hDc⟩⟩ rfl hn hls hst (lv_room hrest) hdg hcs) hI.2.2.2.1 (fun q _ h => hF q h) hF (fun u t H1 locs1 ht hvm hw hB hz1 hk1 hS => ?_)
  obtain ⟨hP1, hK1, hD1⟩ := hB
  rw [ht] at hP1
  exact kk u H1 locs1 hw (hI.join hk1 hP1 hD1 hS)
/-- a static call that looks at no cell -/
theorem wcall_s {y : MethodName} {yc : ByteArray} {yL fr lc idx n : Nat} {yr : Option FieldType} {ws : va_W} {post : Int32 → Unit → Prop} {own : String} {As st0 : List Value}
    (hM : WMi l y yc yL yr fr lc D cI cZ As [] (fun _ : Unit => []) post) (C : CallFix p m c cc nL s args lw_all own) (hG : GoodIn lw_all (va_wsS own idx y (ws_ y yc yL yr)))
    (hd : y.cls ≠ "java/lang/invoke/MethodHandle" ∧ y.cls ≠ "java/lang/invoke/VarHandle" ∧ (parseMethodDescriptor y.desc).map (fun d => d.parameters.length) = some n) (hR : fr + 1 ≤ R.frames ∧ 8 + (yL + 11) + lc ≤ R.locals) (hcs : cells ≤ R.cells ∧ slots ≤ R.slots)
    (hI : wI D cI cZ A s ws H locs) (hn : As.length = n) (hls : ls.size = nL) (hst : st0 = As.reverse ++ rest) (hrest : (rest.map fun v => v.category).sum ≤ 8) (hdg : decode cc pc = .ok (.invokestatic idx, 3))
    (kk : ∀ (r : Int32) (H1 : Heap) (locs1 : List Loc), post r () → wI D cI cZ A s ws H1 locs1 → W p l e R s m args below meth c H1 locs1 cells slots Q (F0 m (pc + 3) ls (.int r :: rest))) : W p l e R s m args below meth c H locs cells slots Q (F0 m pc ls st0) := by
  have hI : wI D cI cZ A s ([] ++ ws) H locs := hI
  obtain ⟨hPc, hDc⟩ := hI.fst
  have hF := hI.free
  refine va_calli (va_runS (As := As) (rest := rest) C (hM H.size) (va_cwS n C.2.2.2.2 hG rfl rfl rfl hd hR) ⟨fun a U g mk q => by obtain ⟨q0, q1, qP, qK, qD⟩ := q; exact ⟨q0, q1, qP, va_K.moved (u := U) (U := U.calling g mk a) (Vm.Alike.refl U.vm) qK, qD⟩, fun U hU hW => ⟨rfl, by rw [hU], by rw [hU]; exact hPc, va_K.moved hW.alike hI.1, hDc⟩⟩ rfl hn hls hst (lv_room hrest) hdg hcs) hI.2.2.2.1 (fun q _ h => hF q h) hF (fun r u t H1 locs1 ht hvm hw hB hz1 hk1 hS => ?_)
  obtain ⟨hP1, hK1, hD1⟩ := hB
  rw [ht] at hP1
  exact kk r H1 locs1 hw (hI.join hk1 hP1 hD1 hS).nilr
end CALLS
/-- a method's start; its end is hret -/
theorem wstart_i {l : Launch} {y : MethodName} {cc : ByteArray} {nL : Nat} {ty : FieldType} {fr lc : Nat} {D : va_G} {cI cZ : ClassId} {av : List Value} {S : Type} {wc : va_W} {Bw : S → va_W} {post : Int32 → S → Prop} (own : String) (hy : plainName y.cls = true) (hown : y.cls = own) (hav : (lg_sl av).length ≤ nL)
    (body : ∀ (p : Program) (e : Env) (R : Room) (s : State) (m : MethodId) (args : Array Value) (below : List Frame) (meth : Method) (c : Code) (A : Nat → Prop) (Q : State → Prop) (ls : Array Slot), R.frames = fr → R.locals = lc → CallFix p m c cc nL s args lw_all own → lv_has ls nL (lv_args 0 av) → wI D cI cZ A s wc s.heap [] →
      (∀ (pc : Nat) (ls : Array Slot) (H : Heap) (locs : List Loc) (r : Int32) (u : S), decode cc pc = .ok (.ireturn, 1) → narrow ty (.int r) = .int r → post r u → wI D cI cZ A s (Bw u) H locs → W p l e R s m args below meth c H locs 0 0 Q (F0 m pc ls [.int r])) →
      W p l e R s m args below meth c s.heap [] 0 0 Q (F0 m 0 ls [])) : WMi l y cc nL (some ty) fr lc D cI cZ av wc Bw post := by
  intro sz
  refine Met.ofW (cc := cc) (maxL := nL) (ret := some ty) hy rfl ?_
  intro p e s m args below meth c s₁ B hml hv
  obtain ⟨rfl, hsz, hP, hK, hD0⟩ := hv
  have hts := atoms_spec (ws := ws_ y cc nL (some ty)) B.pre
  have hts : ∀ w ∈ lw_all, w.before _ s = true := fun w h => hts w (List.mem_cons_of_mem _ h)
  have hown' : s.vm.findClass y.cls = some m.cls := findClass_of_methodNamed B.named
  rw [hown] at hown'
  subst hsz
  have hD := hD0.self (sz := s.heap.size)
  have hl := lv_entry av (n := nL) hav
  rw [lg_entry_eq]
  refine body p e _ s m _ below meth c (va_A wc s.heap.size) _ _ rfl rfl ⟨B.exec, B.bytes, hml, hown', hts⟩ hl ⟨hK, hP, hD, va_S.rf, fun q h => Or.inr h⟩ ?_
  intro pc ls H locs r u hdg hn hp hI
  exact W.zret (v := r) B.exec B.bytes B.returns hn (fun t ht hW => ⟨⟨r, u, rfl, hp, by rw [ht]; exact hI.2.1, va_K.moved hW.alike hI.1, hI.2.2.1⟩, hI.2.2.2.1.F ht⟩) hI.2.2.2.1.2.2 hdg B.notSynchronized
theorem wstart_v {l : Launch} {y : MethodName} {cc : ByteArray} {nL : Nat} {fr lc : Nat} {D : va_G} {cI cZ : ClassId} {av : List Value} {S : Type} {wc : va_W} {Bw : S → va_W} {post : S → Prop} (own : String) (hy : plainName y.cls = true) (hown : y.cls = own) (hav : (lg_sl av).length ≤ nL)
    (body : ∀ (p : Program) (e : Env) (R : Room) (s : State) (m : MethodId) (args : Array Value) (below : List Frame) (meth : Method) (c : Code) (A : Nat → Prop) (Q : State → Prop) (ls : Array Slot), R.frames = fr → R.locals = lc → CallFix p m c cc nL s args lw_all own → lv_has ls nL (lv_args 0 av) → wI D cI cZ A s wc s.heap [] →
      (∀ (pc : Nat) (ls : Array Slot) (H : Heap) (locs : List Loc) (u : S), decode cc pc = .ok (.return_, 1) → post u → wI D cI cZ A s (Bw u) H locs → W p l e R s m args below meth c H locs 0 0 Q (F0 m pc ls [])) →
      W p l e R s m args below meth c s.heap [] 0 0 Q (F0 m 0 ls [])) : WMv l y cc nL fr lc D cI cZ av wc Bw post := by
  intro sz
  refine Met.ofW (cc := cc) (maxL := nL) (ret := none) hy rfl ?_
  intro p e s m args below meth c s₁ B hml hv
  obtain ⟨rfl, hsz, hP, hK, hD0⟩ := hv
  have hts := atoms_spec (ws := ws_ y cc nL none) B.pre
  have hts : ∀ w ∈ lw_all, w.before _ s = true := fun w h => hts w (List.mem_cons_of_mem _ h)
  have hown' : s.vm.findClass y.cls = some m.cls := findClass_of_methodNamed B.named
  rw [hown] at hown'
  subst hsz
  have hD := hD0.self (sz := s.heap.size)
  have hl := lv_entry av (n := nL) hav
  rw [lg_entry_eq]
  refine body p e _ s m _ below meth c (va_A wc s.heap.size) _ _ rfl rfl ⟨B.exec, B.bytes, hml, hown', hts⟩ hl ⟨hK, hP, hD, va_S.rf, fun q h => Or.inr h⟩ ?_
  intro pc ls H locs u hdg hp hI
  exact W.vret B.exec B.bytes B.returns (fun t ht hW => ⟨⟨u, rfl, hp, by rw [ht]; exact hI.2.1, va_K.moved hW.alike hI.1, hI.2.2.1⟩, hI.2.2.2.1.F ht⟩) hI.2.2.2.1.2.2 hdg B.notSynchronized
end
section
/-! PURE, 1: bits of a word; chains of versions and the free list -/
/-! ===== Int32 by its bits: bt x i ===== -/
def bt (x : Int32) (i : Nat) : Bool := x.toBitVec.getLsbD i
theorem b_ext {x y : Int32} (h : ∀ i, i < 32 → bt x i = bt y i) : x = y := Int32.toBitVec_inj.mp (BitVec.eq_of_getLsbD_eq (fun i hi => h i hi))
theorem b_or (x y : Int32) (i : Nat) : bt (x ||| y) i = (bt x i || bt y i) := by unfold bt; rw [Int32.toBitVec_or, BitVec.getLsbD_or]
theorem b_and (x y : Int32) (i : Nat) : bt (x &&& y) i = (bt x i && bt y i) := by unfold bt; rw [Int32.toBitVec_and, BitVec.getLsbD_and]
theorem b_xor (x y : Int32) (i : Nat) : bt (x ^^^ y) i = (bt x i ^^ bt y i) := by unfold bt; rw [Int32.toBitVec_xor, BitVec.getLsbD_xor]
theorem b_big {x : Int32} {i : Nat} (h : 32 ≤ i) : bt x i = false := BitVec.getLsbD_of_ge _ _ h
theorem b_m1 : ∀ i, i < 32 → bt (-1) i = true := by decide +kernel
theorem b_0 (i : Nat) : bt 0 i = false := BitVec.getLsbD_zero
theorem s_l : ∀ n, n < 32 → ((nI n &&& 31).toBitVec.smod 32).toNat = n := by decide +kernel
theorem s_u : ∀ n, n < 32 → (((nI n).toUInt32 &&& Int32.toUInt32 31).toBitVec % 32).toNat = n := by decide +kernel
theorem b_shl (n : Nat) (hn : n < 32) (x : Int32) {i : Nat} (hi : i < 32) : bt (x <<< (nI n &&& 31)) i = (decide (n ≤ i) && bt x (i - n)) := by
  unfold bt
  rw [Int32.toBitVec_shiftLeft]
  show (x.toBitVec <<< ((nI n &&& 31).toBitVec.smod 32).toNat).getLsbD i = _
  rw [s_l n hn, BitVec.getLsbD_shiftLeft]
  rcases Nat.lt_or_ge i n with h | h
  · simp [h, Nat.not_le.mpr h]
  · simp [hi, h, Nat.not_lt.mpr h]
theorem b_ushr (n : Nat) (hn : n < 32) (x : Int32) (i : Nat) : bt ((x.toUInt32 >>> ((nI n).toUInt32 &&& Int32.toUInt32 31)).toInt32) i = bt x (n + i) := by
  show (x.toUInt32 >>> ((nI n).toUInt32 &&& Int32.toUInt32 31)).toBitVec.getLsbD i = x.toUInt32.toBitVec.getLsbD (n + i)
  rw [UInt32.toBitVec_shiftRight]
  show (x.toUInt32.toBitVec >>> (((nI n).toUInt32 &&& Int32.toUInt32 31).toBitVec % 32).toNat).getLsbD i = _
  rw [s_u n hn, BitVec.getLsbD_ushiftRight]
theorem bt1 : ∀ i, i < 32 → bt 1 i = decide (i = 0) := by decide +kernel
theorem bq (x : Int32) {c : Nat} (hc : c < 32) : ((x.toUInt32 >>> ((nI c).toUInt32 &&& Int32.toUInt32 31)).toInt32 &&& 1) = 0 ↔ bt x c = false := by
  constructor
  · intro h
    have h0 : bt ((x.toUInt32 >>> ((nI c).toUInt32 &&& Int32.toUInt32 31)).toInt32 &&& 1) 0 = false := by rw [h]; exact b_0 0
    rw [b_and, b_ushr c hc, bt1 0 (by decide)] at h0
    simpa using h0
  · intro h
    apply b_ext
    intro i hi
    rw [b_and, b_ushr c hc, bt1 i hi, b_0]
    by_cases hi0 : i = 0
    · subst hi0
      rw [Nat.add_zero, h]
      rfl
    · simp [hi0]
theorem bset (x : Int32) {c i : Nat} (hc : c < 32) (hi : i < 32) : bt (x ||| ((1 : Int32) <<< (nI c &&& 31))) i = (bt x i || decide (i = c)) := by
  rw [b_or, b_shl c hc 1 hi, bt1 (i - c) (by omega)]
  congr 1
  by_cases h1 : i = c
  · subst h1
    simp
  · by_cases h : c ≤ i
    · have h2 : ¬ i - c = 0 := by omega
      simp only [h1, h, h2, decide_false, decide_true, Bool.and_false]
    · simp only [h1, h, decide_false, Bool.false_and]
def Hi (x : Int32) : Prop := ∀ i, 16 ≤ i → i < 32 → bt x i = false
theorem Hi0 : Hi 0 := fun i _ _ => b_0 i
theorem Hi.set {x : Int32} {c : Nat} (h : Hi x) (hc : c < 16) : Hi (x ||| ((1 : Int32) <<< (nI c &&& 31))) := by
  intro i h1 h2
  rw [bset x (by omega) h2, h i h1 h2]
  simp
  omega
theorem Hi.zero {x : Int32} (h : Hi x) (h0 : ∀ c, c < 16 → bt x c = false) : x = 0 := by
  apply b_ext
  intro i hi
  rw [b_0]
  rcases Nat.lt_or_ge i 16 with q | q
  · exact h0 i q
  · exact h i q hi
theorem nI_inj {a b : Nat} (ha : a < 1000) (hb : b < 1000) (h : nI a = nI b) : a = b := (nI_eq (by omega) (by omega)).mp h
theorem m1_neg : ((-1 : Int32) < 0) := by decide
/-- the versions of a chain, newest first; -1 ends it -/
def Ch (ol : Nat → Int32) : Int32 → List Nat → Prop
  | v, [] => v = -1
  | v, k :: L => v = nI k ∧ k < 144 ∧ Ch ol (ol k) L
/-- a part of a chain, from v to w -/
def Sg (ol : Nat → Int32) : Int32 → List Nat → Int32 → Prop
  | v, [], w => v = w
  | v, k :: L, w => v = nI k ∧ k < 144 ∧ Sg ol (ol k) L w
theorem Ch.congr {ol ol' : Nat → Int32} : ∀ {L : List Nat} {v : Int32}, Ch ol v L → (∀ k ∈ L, ol' k = ol k) → Ch ol' v L
  | [], _, h, _ => h
  | k :: L, v, h, g => by
    obtain ⟨h1, h2, h3⟩ := h
    refine ⟨h1, h2, ?_⟩
    rw [g k List.mem_cons_self]
    exact Ch.congr h3 (fun j hj => g j (List.mem_cons_of_mem _ hj))
theorem Sg.congr {ol ol' : Nat → Int32} {w : Int32} : ∀ {L : List Nat} {v : Int32}, Sg ol v L w → (∀ k ∈ L, ol' k = ol k) → Sg ol' v L w
  | [], _, h, _ => h
  | k :: L, v, h, g => by
    obtain ⟨h1, h2, h3⟩ := h
    refine ⟨h1, h2, ?_⟩
    rw [g k List.mem_cons_self]
    exact Sg.congr h3 (fun j hj => g j (List.mem_cons_of_mem _ hj))
theorem Ch.split {ol : Nat → Int32} {L : List Nat} : ∀ {P : List Nat} {v : Int32}, Ch ol v (P ++ L) → ∃ w, Sg ol v P w ∧ Ch ol w L
  | [], v, h => ⟨v, rfl, h⟩
  | k :: P, v, h => by
    obtain ⟨h1, h2, h3⟩ := h
    obtain ⟨w, g1, g2⟩ := Ch.split (P := P) h3
    exact ⟨w, ⟨h1, h2, g1⟩, g2⟩
theorem Sg.join {ol : Nat → Int32} {L : List Nat} {w : Int32} : ∀ {P : List Nat} {v : Int32}, Sg ol v P w → Ch ol w L → Ch ol v (P ++ L)
  | [], v, h, g => by
    have h : v = w := h
    rw [h]
    exact g
  | k :: P, v, h, g => ⟨h.1, h.2.1, Sg.join h.2.2 g⟩
theorem Ch.neg {ol : Nat → Int32} {v : Int32} {L : List Nat} (h : Ch ol v L) (hv : v < 0) : L = [] := by
  cases L with
  | nil => rfl
  | cons k L =>
    obtain ⟨h1, h2, -⟩ := h
    rw [h1] at hv
    exact absurd hv (nI_pos (by omega))
theorem Ch.pos {ol : Nat → Int32} {v : Int32} {L : List Nat} (h : Ch ol v L) (hv : ¬ v < 0) : ∃ k L', L = k :: L' ∧ v = nI k ∧ k < 144 ∧ Ch ol (ol k) L' := by
  cases L with
  | nil =>
    have h : v = -1 := h
    rw [h] at hv
    exact absurd m1_neg hv
  | cons k L => exact ⟨k, L, rfl, h.1, h.2.1, h.2.2⟩
/-- how often x stands in the chains of the first n cells; how long they are -/
def tot (Cs : Nat → List Nat) (x : Nat) : Nat → Nat
  | 0 => 0
  | n + 1 => tot Cs x n + (Cs n).count x
def totL (Cs : Nat → List Nat) : Nat → Nat
  | 0 => 0
  | n + 1 => totL Cs n + (Cs n).length
theorem tot_up_ge {Cs : Nat → List Nat} {x c : Nat} {L : List Nat} : ∀ {n : Nat}, n ≤ c → tot (va_up Cs c L) x n = tot Cs x n
  | 0, _ => rfl
  | n + 1, h => by
    show tot (va_up Cs c L) x n + ((va_up Cs c L) n).count x = tot Cs x n + (Cs n).count x
    rw [tot_up_ge (n := n) (by omega), va_up_ne _ _ (by omega)]
theorem tot_up {Cs : Nat → List Nat} {x c : Nat} (L : List Nat) : ∀ {n : Nat}, c < n → tot (va_up Cs c L) x n + (Cs c).count x = tot Cs x n + L.count x
  | 0, h => by omega
  | n + 1, h => by
    show tot (va_up Cs c L) x n + ((va_up Cs c L) n).count x + (Cs c).count x = tot Cs x n + (Cs n).count x + L.count x
    by_cases hc : c = n
    · subst hc
      rw [tot_up_ge (Nat.le_refl c), va_up_self]
      omega
    · have := tot_up (Cs := Cs) (x := x) L (n := n) (show c < n by omega)
      rw [va_up_ne _ _ (fun q => hc q.symm)]
      omega
theorem totL_up_ge {Cs : Nat → List Nat} {c : Nat} {L : List Nat} : ∀ {n : Nat}, n ≤ c → totL (va_up Cs c L) n = totL Cs n
  | 0, _ => rfl
  | n + 1, h => by
    show totL (va_up Cs c L) n + ((va_up Cs c L) n).length = totL Cs n + (Cs n).length
    rw [totL_up_ge (n := n) (by omega), va_up_ne _ _ (by omega)]
theorem totL_up {Cs : Nat → List Nat} {c : Nat} (L : List Nat) : ∀ {n : Nat}, c < n → totL (va_up Cs c L) n + (Cs c).length = totL Cs n + L.length
  | 0, h => by omega
  | n + 1, h => by
    show totL (va_up Cs c L) n + ((va_up Cs c L) n).length + (Cs c).length = totL Cs n + (Cs n).length + L.length
    by_cases hc : c = n
    · subst hc
      rw [totL_up_ge (Nat.le_refl c), va_up_self]
      omega
    · have := totL_up (Cs := Cs) L (n := n) (show c < n by omega)
      rw [va_up_ne _ _ (fun q => hc q.symm)]
      omega
theorem tot_le {Cs : Nat → List Nat} {x c : Nat} : ∀ {n : Nat}, c < n → (Cs c).count x ≤ tot Cs x n
  | 0, h => by omega
  | n + 1, h => by
    show (Cs c).count x ≤ tot Cs x n + (Cs n).count x
    by_cases hc : c = n
    · subst hc
      omega
    · have := tot_le (Cs := Cs) (x := x) (n := n) (show c < n by omega)
      omega
theorem tot_le2 {Cs : Nat → List Nat} {x c d : Nat} (hne : c ≠ d) : ∀ {n : Nat}, c < n → d < n → (Cs c).count x + (Cs d).count x ≤ tot Cs x n
  | 0, h, _ => by omega
  | n + 1, h, g => by
    show (Cs c).count x + (Cs d).count x ≤ tot Cs x n + (Cs n).count x
    by_cases hc : c = n
    · subst hc
      have := tot_le (Cs := Cs) (x := x) (n := c) (show d < c by omega)
      omega
    · by_cases hd : d = n
      · subst hd
        have := tot_le (Cs := Cs) (x := x) (n := d) (show c < d by omega)
        omega
      · have := tot_le2 (Cs := Cs) (x := x) hne (n := n) (by omega) (by omega)
        omega
theorem totL_le {Cs : Nat → List Nat} {c : Nat} : ∀ {n : Nat}, c < n → (Cs c).length ≤ totL Cs n
  | 0, h => by omega
  | n + 1, h => by
    show (Cs c).length ≤ totL Cs n + (Cs n).length
    by_cases hc : c = n
    · subst hc
      omega
    · have := totL_le (Cs := Cs) (n := n) (show c < n by omega)
      omega
theorem totL_b {Cs : Nat → List Nat} {b : Nat} : ∀ {n : Nat}, (∀ c, c < n → (Cs c).length ≤ b) → totL Cs n ≤ b * n
  | 0, _ => by
    show 0 ≤ _
    omega
  | n + 1, h => by
    show totL Cs n + (Cs n).length ≤ b * (n + 1)
    have h1 := totL_b (Cs := Cs) (b := b) (n := n) (fun c hc => h c (by omega))
    have h2 := h n (by omega)
    rw [Nat.mul_succ]
    omega
theorem cnt_in {x : Nat} {L : List Nat} (h : x ∈ L) : 0 < L.count x := List.count_pos_iff.mpr h
/-- the versions: a chain a cell, the free list; each version in at most one of them, once; 144 in all -/
def XR (ol : Nat → Int32) (fv fc : Int32) (nw : Nat → Int32) (Cs : Nat → List Nat) (F : List Nat) : Prop :=
  (∀ c, c < 16 → Ch ol (nw c) (Cs c)) ∧ Ch ol fv F ∧ fc = nI F.length ∧ (∀ x, F.count x + tot Cs x 16 ≤ 1) ∧ F.length + totL Cs 16 = 144
theorem XR.len {ol : Nat → Int32} {fv fc : Int32} {nw : Nat → Int32} {Cs : Nat → List Nat} {F : List Nat} (h : XR ol fv fc nw Cs F) {c : Nat} (hc : c < 16) : (Cs c).length ≤ 144 := by
  have h1 := totL_le (Cs := Cs) hc
  have h2 := h.2.2.2.2
  omega
/-- pruning: the version k behind kp leaves the chain of the cell c for the free list -/
theorem XR.drop {ol : Nat → Int32} {fv fc : Int32} {nw : Nat → Int32} {Cs : Nat → List Nat} {F : List Nat} (h : XR ol fv fc nw Cs F) {c kp k : Nat} {P R : List Nat} (hc : c < 16) (hP : Cs c = P ++ kp :: k :: R) :
    XR (upd (upd ol kp (ol k)) k fv) (nI k) (fc + 1) nw (va_up Cs c (P ++ kp :: R)) (k :: F) := by
  obtain ⟨h1, h2, h3, h4, h5⟩ := h
  have hcnt : ∀ x, (Cs c).count x = P.count x + (List.count x (kp :: k :: R)) := fun x => by rw [hP, List.count_append]
  have hkc := hcnt k
  have hkpc := hcnt kp
  have hne : kp ≠ k := by
    intro q
    have a1 := h4 k
    have a2 := tot_le (Cs := Cs) (x := k) hc
    rw [← q] at hkc
    have a3 := hcnt kp
    rw [List.count_cons_self, q, List.count_cons_self] at a3
    omega
  have kF : ∀ j, j ∈ F → j ≠ kp ∧ j ≠ k := by
    intro j hj
    have a1 := cnt_in hj
    have a2 := h4 j
    have a3 := tot_le (Cs := Cs) (x := j) hc
    have a4 := hcnt j
    constructor
    · intro q
      subst q
      rw [List.count_cons_self] at a4
      omega
    · intro q
      subst q
      rw [List.count_cons_of_ne (fun z => hne z), List.count_cons_self] at a4
      omega
  have kO : ∀ d, d < 16 → d ≠ c → ∀ j, j ∈ Cs d → j ≠ kp ∧ j ≠ k := by
    intro d hd hdc j hj
    have a1 := cnt_in hj
    have a2 := h4 j
    have a3 := tot_le2 (Cs := Cs) (x := j) hdc hd hc
    have a4 := hcnt j
    constructor
    · intro q
      subst q
      rw [List.count_cons_self] at a4
      omega
    · intro q
      subst q
      rw [List.count_cons_of_ne (fun z => hne z), List.count_cons_self] at a4
      omega
  have kPR : (∀ j, j ∈ P → j ≠ kp ∧ j ≠ k) ∧ (∀ j, j ∈ R → j ≠ kp ∧ j ≠ k) := by
    have b1 := h4 kp
    have b2 := tot_le (Cs := Cs) (x := kp) hc
    have b3 := h4 k
    have b4 := tot_le (Cs := Cs) (x := k) hc
    rw [List.count_cons_self, List.count_cons] at hkpc
    rw [List.count_cons, List.count_cons_self] at hkc
    refine ⟨fun j hj => ⟨fun q => ?_, fun q => ?_⟩, fun j hj => ⟨fun q => ?_, fun q => ?_⟩⟩ <;> subst q <;> have a1 := cnt_in hj <;> omega
  have eq2 : ∀ j, j ≠ kp → j ≠ k → upd (upd ol kp (ol k)) k fv j = ol j := fun j g1 g2 => by rw [pk_un g2, pk_un g1]
  have hch := h1 c hc
  rw [hP] at hch
  obtain ⟨w, g1, g2, g3, g4, g5, g6⟩ := Ch.split hch
  refine ⟨fun d hd => ?_, ?_, ?_, fun x => ?_, ?_⟩
  · by_cases hdc : d = c
    · subst hdc
      rw [va_up_self]
      refine Sg.join (w := w) (g1.congr (fun j hj => eq2 j (kPR.1 j hj).1 (kPR.1 j hj).2)) ⟨g2, g3, ?_⟩
      rw [pk_un hne, pk_us]
      exact g6.congr (fun j hj => eq2 j (kPR.2 j hj).1 (kPR.2 j hj).2)
    · rw [va_up_ne _ _ hdc]
      exact (h1 d hd).congr (fun j hj => eq2 j (kO d hd hdc j hj).1 (kO d hd hdc j hj).2)
  · refine ⟨rfl, g5, ?_⟩
    rw [pk_us]
    exact h2.congr (fun j hj => eq2 j (kF j hj).1 (kF j hj).2)
  · rw [h3]
    exact nI_1 _
  · have a1 := tot_up (Cs := Cs) (x := x) (P ++ kp :: R) hc
    have a2 := h4 x
    have a3 := hcnt x
    rw [List.count_append, List.count_cons] at a1
    rw [List.count_cons, List.count_cons] at a3
    rw [List.count_cons]
    omega
  · have a1 := totL_up (Cs := Cs) (P ++ kp :: R) hc
    have a2 : (Cs c).length = P.length + (R.length + 2) := by rw [hP]; simp
    rw [List.length_append, List.length_cons] at a1
    rw [List.length_cons]
    omega
/-- installing: the first free version k becomes the newest of the cell c -/
theorem XR.push {ol : Nat → Int32} {fv fc : Int32} {nw : Nat → Int32} {Cs : Nat → List Nat} {F : List Nat} {c k : Nat} (h : XR ol fv fc nw Cs (k :: F)) (hc : c < 16) :
    fv = nI k ∧ k < 144 ∧ (∀ d, d < 16 → k ∉ Cs d) ∧ XR (upd ol k (nw c)) (ol k) (fc - 1) (upd nw c (nI k)) (va_up Cs c (k :: Cs c)) F := by
  obtain ⟨h1, ⟨g1, g2, g3⟩, h3, h4, h5⟩ := h
  have kO : ∀ d, d < 16 → k ∉ Cs d := by
    intro d hd hj
    have a1 := cnt_in hj
    have a2 := h4 k
    have a3 := tot_le (Cs := Cs) (x := k) hd
    rw [List.count_cons_self] at a2
    omega
  have kF : k ∉ F := by
    intro hj
    have a1 := cnt_in hj
    have a2 := h4 k
    rw [List.count_cons_self] at a2
    omega
  refine ⟨g1, g2, kO, fun d hd => ?_, ?_, ?_, fun x => ?_, ?_⟩
  · by_cases hdc : d = c
    · subst hdc
      rw [va_up_self, pk_us]
      refine ⟨rfl, g2, ?_⟩
      rw [pk_us]
      exact (h1 d hd).congr (fun j hj => pk_un (fun q => kO d hd (q ▸ hj)))
    · rw [va_up_ne _ _ hdc, pk_un hdc]
      exact (h1 d hd).congr (fun j hj => pk_un (fun q => kO d hd (q ▸ hj)))
  · exact g3.congr (fun j hj => pk_un (fun q => kF (q ▸ hj)))
  · rw [h3, List.length_cons]
    exact nI_pred _
  · have a1 := tot_up (Cs := Cs) (x := x) (k :: Cs c) hc
    have a2 := h4 x
    rw [List.count_cons] at a1 a2
    omega
  · have a1 := totL_up (Cs := Cs) (k :: Cs c) hc
    rw [List.length_cons] at a1 h5
    omega
/-- the value at the limit lim: the first version of the chain that isn't newer -/
def vAt (vo co : Nat → Int32) (lim : Int32) : List Nat → Int32
  | [] => 0
  | k :: L => if co k ≤ lim then vo k else vAt vo co lim L
theorem vAt_congr {vo co vo' co' : Nat → Int32} {lim : Int32} : ∀ {L : List Nat}, (∀ k ∈ L, vo' k = vo k ∧ co' k = co k) → vAt vo' co' lim L = vAt vo co lim L
  | [], _ => rfl
  | k :: L, h => by
    show (if co' k ≤ lim then vo' k else vAt vo' co' lim L) = (if co k ≤ lim then vo k else vAt vo co lim L)
    rw [(h k List.mem_cons_self).1, (h k List.mem_cons_self).2, vAt_congr (fun j hj => h j (List.mem_cons_of_mem _ hj))]
/-- a running transaction began at the commit f or later, and ahead of the commit g -/
def Seen (op be : Nat → Int32) (f g : Int32) : Prop := ∃ j, j < 6 ∧ ¬ op j = 0 ∧ f ≤ be j ∧ be j < g
/-- what pruning keeps of the versions R behind one of commit ab -/
def Kp (op be co : Nat → Int32) : Int32 → List Nat → List Nat → Prop
  | _, [], K => K = []
  | ab, k :: R, K => (Seen op be (co k) ab ∧ ∃ K', K = k :: K' ∧ Kp op be co (co k) R K') ∨ (¬ Seen op be (co k) ab ∧ Kp op be co (co k) R K)
def Pr (op be co : Nat → Int32) (L L' : List Nat) : Prop := (L = [] ∧ L' = []) ∨ ∃ k R K, L = k :: R ∧ L' = k :: K ∧ Kp op be co (co k) R K
theorem Kp.sub {op be co : Nat → Int32} : ∀ {R : List Nat} {ab : Int32} {K : List Nat}, Kp op be co ab R K → K.Sublist R
  | [], ab, K, h => by
    have h : K = [] := h
    rw [h]
    exact List.Sublist.slnil
  | k :: R, ab, K, h => by
    rcases h with ⟨-, K', rfl, h⟩ | ⟨-, h⟩
    · exact List.Sublist.cons_cons k h.sub
    · exact List.Sublist.cons k h.sub
theorem Kp.val {op be co vo : Nat → Int32} {t : Nat} (ht : t < 6) (ho : ¬ op t = 0) : ∀ {R : List Nat} {ab : Int32} {K : List Nat}, be t < ab → Kp op be co ab R K → vAt vo co (be t) K = vAt vo co (be t) R
  | [], ab, K, _, h => by
    have h : K = [] := h
    rw [h]
  | k :: R, ab, K, hab, h => by
    show _ = (if co k ≤ be t then vo k else vAt vo co (be t) R)
    by_cases hk : co k ≤ be t
    · rw [if_pos hk]
      rcases h with ⟨-, K', rfl, h⟩ | ⟨h, -⟩
      · show (if co k ≤ be t then vo k else vAt vo co (be t) K') = vo k
        rw [if_pos hk]
      · exact absurd ⟨t, ht, ho, hk, hab⟩ h
    · rw [if_neg hk]
      have hk2 : be t < co k := Int32.not_le.mp hk
      rcases h with ⟨-, K', rfl, h⟩ | ⟨-, h⟩
      · show (if co k ≤ be t then vo k else vAt vo co (be t) K') = _
        rw [if_neg hk]
        exact Kp.val ht ho hk2 h
      · exact Kp.val ht ho hk2 h
theorem Pr.val {op be co vo : Nat → Int32} {L L' : List Nat} (h : Pr op be co L L') {t : Nat} (ht : t < 6) (ho : ¬ op t = 0) : vAt vo co (be t) L' = vAt vo co (be t) L := by
  rcases h with ⟨rfl, rfl⟩ | ⟨k, R, K, rfl, rfl, h⟩
  · rfl
  · show (if co k ≤ be t then vo k else vAt vo co (be t) K) = (if co k ≤ be t then vo k else vAt vo co (be t) R)
    by_cases hk : co k ≤ be t
    · rw [if_pos hk, if_pos hk]
    · rw [if_neg hk, if_neg hk]
      exact Kp.val ht ho (Int32.not_le.mp hk) h
theorem Pr.valc {op be co vo : Nat → Int32} {L L' : List Nat} {lim : Int32} (h : Pr op be co L L') (hl : ∀ k ∈ L, co k ≤ lim) : vAt vo co lim L' = vAt vo co lim L := by
  rcases h with ⟨rfl, rfl⟩ | ⟨k, R, K, rfl, rfl, h⟩
  · rfl
  · show (if co k ≤ lim then vo k else vAt vo co lim K) = (if co k ≤ lim then vo k else vAt vo co lim R)
    rw [if_pos (hl k List.mem_cons_self), if_pos (hl k List.mem_cons_self)]
theorem Pr.sub {op be co : Nat → Int32} {L L' : List Nat} (h : Pr op be co L L') : L'.Sublist L := by
  rcases h with ⟨rfl, rfl⟩ | ⟨k, R, K, rfl, rfl, h⟩
  · exact List.Sublist.slnil
  · exact List.Sublist.cons_cons k h.sub
/-- running transactions that began ahead of ab -/
def cnt (op be : Nat → Int32) (ab : Int32) : Nat → Nat
  | 0 => 0
  | n + 1 => cnt op be ab n + (if ¬ op n = 0 ∧ be n < ab then 1 else 0)
theorem cnt_le {op be : Nat → Int32} {ab : Int32} : ∀ (n : Nat), cnt op be ab n ≤ n
  | 0 => Nat.le_refl 0
  | n + 1 => by
    have := cnt_le (op := op) (be := be) (ab := ab) n
    show cnt op be ab n + _ ≤ n + 1
    split <;> omega
theorem cnt_mono {op be : Nat → Int32} {a b : Int32} (h : a ≤ b) : ∀ (n : Nat), cnt op be a n ≤ cnt op be b n
  | 0 => Nat.le_refl 0
  | n + 1 => by
    have h1 := cnt_mono (op := op) (be := be) h n
    show cnt op be a n + _ ≤ cnt op be b n + _
    by_cases q : ¬ op n = 0 ∧ be n < a
    · rw [if_pos q, if_pos ⟨q.1, Int32.lt_of_lt_of_le q.2 h⟩]
      omega
    · rw [if_neg q]
      omega
theorem cnt_more {op be : Nat → Int32} {a b : Int32} (h : a ≤ b) {t : Nat} (ho : ¬ op t = 0) (h1 : a ≤ be t) (h2 : be t < b) : ∀ (n : Nat), t < n → cnt op be a n + 1 ≤ cnt op be b n
  | 0, q => by omega
  | n + 1, q => by
    show cnt op be a n + _ + 1 ≤ cnt op be b n + _
    by_cases e : t = n
    · subst e
      rw [if_neg (fun z => Int32.lt_irrefl (Int32.lt_of_lt_of_le z.2 h1)), if_pos ⟨ho, h2⟩]
      have := cnt_mono (op := op) (be := be) h t
      omega
    · have h3 := cnt_more (op := op) (be := be) h ho h1 h2 n (by omega)
      by_cases z : ¬ op n = 0 ∧ be n < a
      · rw [if_pos z, if_pos ⟨z.1, Int32.lt_of_lt_of_le z.2 h⟩]
        omega
      · rw [if_neg z]
        omega
theorem Kp.len {op be co : Nat → Int32} : ∀ {R : List Nat} {ab : Int32} {K : List Nat}, R.Pairwise (fun i j => co j < co i) → (∀ k ∈ R, co k < ab) → Kp op be co ab R K → K.length ≤ cnt op be ab 6
  | [], ab, K, _, _, h => by
    have h : K = [] := h
    rw [h]
    exact Nat.zero_le _
  | k :: R, ab, K, hp, hr, h => by
    obtain ⟨hp1, hp2⟩ := List.pairwise_cons.mp hp
    have hka := hr k List.mem_cons_self
    rcases h with ⟨⟨t, ht, ho, h1, h2⟩, K', rfl, h⟩ | ⟨-, h⟩
    · have a1 := Kp.len hp2 hp1 h
      have a2 := cnt_more (op := op) (be := be) (Int32.le_of_lt hka) ho h1 h2 6 ht
      rw [List.length_cons]
      omega
    · have a1 := Kp.len hp2 hp1 h
      have a2 := cnt_mono (op := op) (be := be) (Int32.le_of_lt hka) 6
      omega
theorem Pr.len {op be co : Nat → Int32} {L L' : List Nat} (h : Pr op be co L L') (hp : L.Pairwise (fun i j => co j < co i)) : L'.length ≤ 7 := by
  rcases h with ⟨rfl, rfl⟩ | ⟨k, R, K, rfl, rfl, h⟩
  · exact Nat.zero_le _
  · obtain ⟨hp1, hp2⟩ := List.pairwise_cons.mp hp
    have a1 := h.len hp2 hp1
    have a2 := cnt_le (op := op) (be := be) (ab := co k) 6
    rw [List.length_cons]
    omega
end
section
/-! PURE, 2: the bond between the two objects' states, and that each call keeps it; what each call does, in plain words, is said first -/
/-- transaction t and cell c are ones -/
def Val (op : Nat → Int32) (t cell : Int32) (k c : Nat) : Prop := k < 6 ∧ c < 16 ∧ t = nI k ∧ cell = nI c ∧ ¬ op k = 0
def Tok (op : Nat → Int32) (t : Int32) (k : Nat) : Prop := k < 6 ∧ t = nI k ∧ ¬ op k = 0
def bitOf (c : Nat) : Int32 := (1 : Int32) <<< (nI c &&& 31)
def vis (vo co be wr ow : Nat → Int32) (Cs : Nat → List Nat) (k c : Nat) : Int32 := if bt (wr k) c = true then ow (16 * k + c) else vAt vo co (be k) (Cs c)
def nt (wr sn : Nat → Int32) (k c : Nat) : Nat → Int32 := if bt (wr k) c = true then sn else upd sn k (sn k ||| bitOf c)
def sv (vw wo mo : Nat → Int32) (i : Nat) : Int32 := if wo i = 0 then vw i else mo i
def lt_ (wo lk : Nat → Int32) (i : Nat) : Nat → Int32 := if wo i = 0 then upd lk i 1 else lk
def sm (f : Nat → Int32) (a b : Int32) : Nat → Int32
  | 0 => 0
  | n + 1 => if a ≤ nI n ∧ nI n ≤ b then sm f a b n + f n else sm f a b n
def no (f : Nat → Int32) : Nat → Int32
  | 0 => 0
  | n + 1 => no f n + (if f n = 0 then 0 else 1)
def Nwr (co : Nat → Int32) (b : Int32) (L : List Nat) : Prop := ∃ k L', L = k :: L' ∧ b < co k
def conc (se wr sn : Nat → Int32) (k : Nat) : Int32 := if se k = 0 then wr k else wr k ||| sn k
def OvX (co se be wr sn : Nat → Int32) (Cs : Nat → List Nat) (k : Nat) : Prop := ∃ c, c < 16 ∧ bt (conc se wr sn k) c = true ∧ Nwr co (be k) (Cs c)
def OvM (wt ss mb wo lk : Nat → Int32) (k : Nat) : Prop := ∃ c, c < 16 ∧ (¬ wo (16 * k + c) = 0 ∨ ¬ ss k = 0 ∧ ¬ lk (16 * k + c) = 0) ∧ mb k < wt c
-- begin
def XBegin (op se be wr sn : Nat → Int32) (cm b r : Int32) (op' se' be' wr' sn' : Nat → Int32) : Prop :=
  (∃ t, t < 6 ∧ (∀ j, j < t → ¬ op j = 0) ∧ op t = 0 ∧ r = nI t ∧ op' = upd op t 1 ∧ se' = upd se t (vp_nar .boolean b) ∧ be' = upd be t cm ∧ wr' = upd wr t 0 ∧ sn' = upd sn t 0) ∨ ((∀ j, j < 6 → ¬ op j = 0) ∧ r = -1 ∧ op' = op ∧ se' = se ∧ be' = be ∧ wr' = wr ∧ sn' = sn)
def MBegin (st : Nat → Int32) (mc : Int32) (lv ss mb vw wo lk : Nat → Int32) (b r : Int32) (lv' ss' mb' vw' wo' lk' : Nat → Int32) : Prop :=
  (∃ t, t < 6 ∧ (∀ j, j < t → ¬ lv j = 0) ∧ lv t = 0 ∧ r = nI t ∧ lv' = upd lv t 1 ∧ ss' = upd ss t (vp_nar .boolean b) ∧ mb' = upd mb t mc ∧ (∀ j, vw' j = if 16 * t ≤ j ∧ j < 16 * t + 16 then st (j - 16 * t) else vw j) ∧ (∀ j, wo' j = if 16 * t ≤ j ∧ j < 16 * t + 16 then 0 else wo j) ∧ (∀ j, lk' j = if 16 * t ≤ j ∧ j < 16 * t + 16 then 0 else lk j)) ∨ ((∀ j, j < 6 → ¬ lv j = 0) ∧ r = -1 ∧ lv' = lv ∧ ss' = ss ∧ mb' = mb ∧ vw' = vw ∧ wo' = wo ∧ lk' = lk)
-- read
def XRead (vo co op be wr sn ow : Nat → Int32) (Cs : Nat → List Nat) (t cell r : Int32) (sn' : Nat → Int32) : Prop :=
  (∃ k c, Val op t cell k c ∧ r = vis vo co be wr ow Cs k c ∧ sn' = nt wr sn k c) ∨ ((∀ k c, ¬ Val op t cell k c) ∧ r = 0 ∧ sn' = sn)
def MRead (lv vw wo mo lk : Nat → Int32) (t cell r : Int32) (lk' : Nat → Int32) : Prop :=
  (∃ k c, Val lv t cell k c ∧ r = sv vw wo mo (16 * k + c) ∧ lk' = lt_ wo lk (16 * k + c)) ∨ ((∀ k c, ¬ Val lv t cell k c) ∧ r = 0 ∧ lk' = lk)
-- write
def XWrite (op wr ow : Nat → Int32) (t cell v r : Int32) (wr' ow' : Nat → Int32) : Prop :=
  (∃ k c, Val op t cell k c ∧ r = 0 ∧ wr' = upd wr k (wr k ||| bitOf c) ∧ ow' = upd ow (16 * k + c) v) ∨ ((∀ k c, ¬ Val op t cell k c) ∧ r = -1 ∧ wr' = wr ∧ ow' = ow)
def MWrite (lv wo mo : Nat → Int32) (t cell v r : Int32) (wo' mo' : Nat → Int32) : Prop :=
  (∃ k c, Val lv t cell k c ∧ r = 0 ∧ wo' = upd wo (16 * k + c) 1 ∧ mo' = upd mo (16 * k + c) v) ∨ ((∀ k c, ¬ Val lv t cell k c) ∧ r = -1 ∧ wo' = wo ∧ mo' = mo)
-- add
def XAdd (vo co op be wr sn ow : Nat → Int32) (Cs : Nat → List Nat) (t cell v r : Int32) (wr' sn' ow' : Nat → Int32) : Prop :=
  (∃ k c, Val op t cell k c ∧ r = vis vo co be wr ow Cs k c + v ∧ sn' = nt wr sn k c ∧ wr' = upd wr k (wr k ||| bitOf c) ∧ ow' = upd ow (16 * k + c) r) ∨ ((∀ k c, ¬ Val op t cell k c) ∧ r = 0 ∧ wr' = wr ∧ sn' = sn ∧ ow' = ow)
def MAdd (lv vw wo mo lk : Nat → Int32) (t cell v r : Int32) (wo' mo' lk' : Nat → Int32) : Prop :=
  (∃ k c, Val lv t cell k c ∧ r = sv vw wo mo (16 * k + c) + v ∧ lk' = lt_ wo lk (16 * k + c) ∧ wo' = upd wo (16 * k + c) 1 ∧ mo' = upd mo (16 * k + c) r) ∨ ((∀ k c, ¬ Val lv t cell k c) ∧ r = 0 ∧ wo' = wo ∧ mo' = mo ∧ lk' = lk)
-- commit
/-- tidied, or not -/
def Td (op be co : Nat → Int32) (Cs Cs1 : Nat → List Nat) : Prop := ∀ c, c < 16 → Cs1 c = Cs c ∨ Pr op be co (Cs c) (Cs1 c)
def XInst (vo co : Nat → Int32) (cm : Int32) (op be wr ow : Nat → Int32) (Cs : Nat → List Nat) (nw' : Nat → Int32) (k : Nat) (vo' co' ol' : Nat → Int32) (fv' fc' cm' : Int32) : Prop :=
  cm' = cm + 1 ∧ ∃ Cs' F' Cs1, XR ol' fv' fc' nw' Cs' F' ∧ Td op be co Cs Cs1 ∧ (∀ c, c < 16 → (bt (wr k) c = false ∧ Cs' c = Cs1 c) ∨ (bt (wr k) c = true ∧ ∃ v, Cs' c = v :: Cs1 c ∧ co' v = cm + 1 ∧ vo' v = ow (16 * k + c))) ∧ ∀ c, c < 16 → ∀ x, x ∈ Cs1 c → vo' x = vo x ∧ co' x = co x
def XCommit (vo co ol : Nat → Int32) (fv fc : Int32) (nw : Nat → Int32) (cm : Int32) (op se be wr sn ow : Nat → Int32) (Cs : Nat → List Nat) (t r : Int32) (vo' co' ol' : Nat → Int32) (fv' fc' : Int32) (nw' : Nat → Int32) (cm' : Int32) (op' : Nat → Int32) : Prop :=
  (∃ k, Tok op t k ∧ op' = upd op k 0 ∧ ((r = 1 ∧ OvX co se be wr sn Cs k ∧ vo' = vo ∧ co' = co ∧ ol' = ol ∧ fv' = fv ∧ fc' = fc ∧ nw' = nw ∧ cm' = cm) ∨ (r = 0 ∧ ¬ OvX co se be wr sn Cs k ∧ wr k = 0 ∧ vo' = vo ∧ co' = co ∧ ol' = ol ∧ fv' = fv ∧ fc' = fc ∧ nw' = nw ∧ cm' = cm) ∨ (r = 0 ∧ ¬ OvX co se be wr sn Cs k ∧ XInst vo co cm op' be wr ow Cs nw' k vo' co' ol' fv' fc' cm'))) ∨ ((∀ k, ¬ Tok op t k) ∧ r = -1 ∧ vo' = vo ∧ co' = co ∧ ol' = ol ∧ fv' = fv ∧ fc' = fc ∧ nw' = nw ∧ cm' = cm ∧ op' = op)
def MCommit (st wt : Nat → Int32) (mc : Int32) (lv ss mb wo mo lk : Nat → Int32) (t r : Int32) (st' wt' : Nat → Int32) (mc' : Int32) (lv' : Nat → Int32) : Prop :=
  (∃ k, Tok lv t k ∧ lv' = upd lv k 0 ∧ ((r = 1 ∧ OvM wt ss mb wo lk k ∧ st' = st ∧ wt' = wt ∧ mc' = mc) ∨ (r = 0 ∧ ¬ OvM wt ss mb wo lk k ∧ mc' = mc + 1 ∧ ∀ c, c < 16 → (wo (16 * k + c) = 0 ∧ st' c = st c ∧ wt' c = wt c) ∨ (¬ wo (16 * k + c) = 0 ∧ st' c = mo (16 * k + c) ∧ wt' c = mc + 1)))) ∨ ((∀ k, ¬ Tok lv t k) ∧ r = -1 ∧ st' = st ∧ wt' = wt ∧ mc' = mc ∧ lv' = lv)
-- abort
def Abort (op : Nat → Int32) (t r : Int32) (op' : Nat → Int32) : Prop := (∃ k, Tok op t k ∧ r = 0 ∧ op' = upd op k 0) ∨ ((∀ k, ¬ Tok op t k) ∧ r = -1 ∧ op' = op)
-- might
def XMight (co op se be wr sn : Nat → Int32) (Cs : Nat → List Nat) (t r : Int32) : Prop := (∃ k, Tok op t k ∧ ((OvX co se be wr sn Cs k ∧ r = 0) ∨ (¬ OvX co se be wr sn Cs k ∧ r = 1))) ∨ ((∀ k, ¬ Tok op t k) ∧ r = -1)
def MMight (wt lv ss mb wo lk : Nat → Int32) (t r : Int32) : Prop := (∃ k, Tok lv t k ∧ ((OvM wt ss mb wo lk k ∧ r = 0) ∨ (¬ OvM wt ss mb wo lk k ∧ r = 1))) ∨ ((∀ k, ¬ Tok lv t k) ∧ r = -1)
-- committed
def XComd (vo co : Nat → Int32) (cm : Int32) (Cs : Nat → List Nat) (cell r : Int32) : Prop := (∃ c, c < 16 ∧ cell = nI c ∧ r = vAt vo co cm (Cs c)) ∨ ((∀ c, c < 16 → ¬ cell = nI c) ∧ r = 0)
def MComd (st : Nat → Int32) (cell r : Int32) : Prop := (∃ c, c < 16 ∧ cell = nI c ∧ r = st c) ∨ ((∀ c, c < 16 → ¬ cell = nI c) ∧ r = 0)
-- sum
def XSum (vo co op be wr ow : Nat → Int32) (Cs : Nat → List Nat) (t a b r : Int32) : Prop := (∃ k, Tok op t k ∧ r = sm (vis vo co be wr ow Cs k) a b 16) ∨ ((∀ k, ¬ Tok op t k) ∧ r = 0)
def MSum (lv vw wo mo : Nat → Int32) (t a b r : Int32) : Prop := (∃ k, Tok lv t k ∧ r = sm (fun c => sv vw wo mo (16 * k + c)) a b 16) ∨ ((∀ k, ¬ Tok lv t k) ∧ r = 0)
-- tidy
def XTidy (co op be : Nat → Int32) (nw : Nat → Int32) (Cs : Nat → List Nat) (ol' : Nat → Int32) (fv' fc' : Int32) : Prop := ∃ Cs' F', XR ol' fv' fc' nw Cs' F' ∧ ∀ c, c < 16 → Pr op be co (Cs c) (Cs' c)
/-- the bond at one running transaction -/
def TR (vo co be se wr sn ow wt ss mb vw wo mo lk : Nat → Int32) (cm mc : Int32) (Cs : Nat → List Nat) (t : Nat) : Prop :=
  be t ≤ cm ∧ mb t ≤ mc ∧ se t = ss t ∧ Hi (wr t) ∧ ∀ c, c < 16 → (bt (wr t) c = false ↔ wo (16 * t + c) = 0) ∧ (bt (wr t) c = true → ow (16 * t + c) = mo (16 * t + c)) ∧ (bt (sn t) c = false ↔ lk (16 * t + c) = 0) ∧ vAt vo co (be t) (Cs c) = vw (16 * t + c) ∧ (Nwr co (be t) (Cs c) ↔ mb t < wt c)
/-- the bond, behind n calls -/
def SIM (vo co ol : Nat → Int32) (fv fc : Int32) (nw : Nat → Int32) (cm : Int32) (op se be wr sn ow st wt : Nat → Int32) (mc : Int32) (lv ss mb vw wo mo lk : Nat → Int32) (Cs : Nat → List Nat) (F : List Nat) (n : Nat) : Prop :=
  XR ol fv fc nw Cs F ∧ (∀ c, c < 16 → (Cs c).Pairwise (fun i j => co j < co i)) ∧ (∀ c, c < 16 → ∀ x, x ∈ Cs c → co x ≤ cm) ∧ (∃ c0, cm = nI c0 ∧ c0 ≤ n) ∧ (∃ m0, mc = nI m0 ∧ m0 ≤ n) ∧ (∀ c, c < 16 → wt c ≤ mc) ∧ (∀ c, c < 16 → vAt vo co cm (Cs c) = st c) ∧ (∀ t, t < 6 → op t = lv t) ∧ ∀ t, t < 6 → ¬ op t = 0 → TR vo co be se wr sn ow wt ss mb vw wo mo lk cm mc Cs t
section SIMS
variable {vo co ol nw op se be wr sn ow st wt lv ss mb vw wo mo lk vo' co' ol' nw' op' se' be' wr' sn' ow' st' wt' lv' ss' mb' vw' wo' mo' lk' : Nat → Int32} {fv fc cm mc fv' fc' cm' mc' t cell v b r r2 a1 a2 : Int32} {Cs Cs1 Cs' : Nat → List Nat} {F F' : List Nat} {n : Nat}
theorem TR.keep {t : Nat} (h : TR vo co be se wr sn ow wt ss mb vw wo mo lk cm mc Cs t) (e1 : be' t = be t) (e2 : se' t = se t) (e3 : wr' t = wr t) (e4 : sn' t = sn t) (e5 : ss' t = ss t) (e6 : mb' t = mb t) (e7 : ∀ c, c < 16 → ow' (16 * t + c) = ow (16 * t + c) ∧ vw' (16 * t + c) = vw (16 * t + c) ∧ wo' (16 * t + c) = wo (16 * t + c) ∧ mo' (16 * t + c) = mo (16 * t + c) ∧ lk' (16 * t + c) = lk (16 * t + c)) : TR vo co be' se' wr' sn' ow' wt ss' mb' vw' wo' mo' lk' cm mc Cs t := by
  obtain ⟨h1, h2, h3, h4, h5⟩ := h
  refine ⟨by rw [e1]; exact h1, by rw [e6]; exact h2, by rw [e2, e5]; exact h3, by rw [e3]; exact h4, fun c hc => ?_⟩
  obtain ⟨f1, f2, f3, f4, f5⟩ := e7 c hc
  rw [e1, e3, e4, e6, f1, f2, f3, f4, f5]
  exact h5 c hc
theorem val_eq (h : ∀ t, t < 6 → op t = lv t) {k c : Nat} : Val op t cell k c ↔ Val lv t cell k c := by
  unfold Val
  constructor
  · rintro ⟨h1, h2, h3, h4, h5⟩
    exact ⟨h1, h2, h3, h4, by rw [← h k h1]; exact h5⟩
  · rintro ⟨h1, h2, h3, h4, h5⟩
    exact ⟨h1, h2, h3, h4, by rw [h k h1]; exact h5⟩
theorem tok_eq (h : ∀ t, t < 6 → op t = lv t) {k : Nat} : Tok op t k ↔ Tok lv t k := by
  unfold Tok
  constructor
  · rintro ⟨h1, h2, h3⟩
    exact ⟨h1, h2, by rw [← h k h1]; exact h3⟩
  · rintro ⟨h1, h2, h3⟩
    exact ⟨h1, h2, by rw [h k h1]; exact h3⟩
theorem val_one {k c k2 c2 : Nat} (h : Val op t cell k c) (g : Val op t cell k2 c2) : k2 = k ∧ c2 = c := by
  obtain ⟨h1, h2, h3, h4, -⟩ := h
  obtain ⟨g1, g2, g3, g4, -⟩ := g
  exact ⟨nI_inj (by omega) (by omega) (g3.symm.trans h3), nI_inj (by omega) (by omega) (g4.symm.trans h4)⟩
theorem tok_one {k k2 : Nat} (h : Tok op t k) (g : Tok op t k2) : k2 = k := by
  obtain ⟨h1, h3, -⟩ := h
  obtain ⟨g1, g3, -⟩ := g
  exact nI_inj (by omega) (by omega) (g3.symm.trans h3)
theorem bt_tf {x : Int32} {c : Nat} : ¬ bt x c = true ↔ bt x c = false := by cases bt x c <;> simp
theorem sv_vis {k c : Nat} (hc : c < 16) (h : TR vo co be se wr sn ow wt ss mb vw wo mo lk cm mc Cs k) : vis vo co be wr ow Cs k c = sv vw wo mo (16 * k + c) := by
  obtain ⟨h1, h2, h3, h4, h5⟩ := h
  obtain ⟨f1, f2, f3, f4, f5⟩ := h5 c hc
  unfold vis sv
  by_cases hb : bt (wr k) c = true
  · rw [if_pos hb, if_neg (fun q => by rw [f1.mpr q] at hb; cases hb)]
    exact f2 hb
  · rw [if_neg hb, if_pos (f1.mp (bt_tf.mp hb))]
    exact f4
/-- reading leaves its mark on both sides alike -/
theorem TR.note {k c : Nat} (hc : c < 16) (h : TR vo co be se wr sn ow wt ss mb vw wo mo lk cm mc Cs k) : TR vo co be se wr (nt wr sn k c) ow wt ss mb vw wo mo (lt_ wo lk (16 * k + c)) cm mc Cs k := by
  obtain ⟨h1, h2, h3, h4, h5⟩ := h
  refine ⟨h1, h2, h3, h4, fun d hd => ?_⟩
  obtain ⟨f1, f2, f3, f4, f5⟩ := h5 d hd
  refine ⟨f1, f2, ?_, f4, f5⟩
  obtain ⟨g1, -, -, -, -⟩ := h5 c hc
  unfold nt lt_
  by_cases hb : bt (wr k) c = true
  · rw [if_pos hb, if_neg (fun q => by rw [g1.mpr q] at hb; cases hb)]
    exact f3
  · rw [if_neg hb, if_pos (g1.mp (bt_tf.mp hb)), pk_us]
    unfold bitOf
    rw [bset _ (by omega) (by omega)]
    by_cases hdc : d = c
    · subst hdc
      rw [pk_us]
      constructor
      · intro q
        simp at q
      · intro q
        exact absurd q (by decide)
    · rw [pk_un (by omega)]
      simp only [hdc, decide_false, Bool.or_false]
      exact f3
theorem TR.put {k c : Nat} (hc : c < 16) (h : TR vo co be se wr sn ow wt ss mb vw wo mo lk cm mc Cs k) : TR vo co be se (upd wr k (wr k ||| bitOf c)) sn (upd ow (16 * k + c) v) wt ss mb vw (upd wo (16 * k + c) 1) (upd mo (16 * k + c) v) lk cm mc Cs k := by
  obtain ⟨h1, h2, h3, h4, h5⟩ := h
  refine ⟨h1, h2, h3, ?_, fun d hd => ?_⟩
  · rw [pk_us]
    exact h4.set hc
  · obtain ⟨f1, f2, f3, f4, f5⟩ := h5 d hd
    rw [pk_us]
    unfold bitOf
    rw [bset _ (by omega) (by omega)]
    by_cases hdc : d = c
    · subst hdc
      rw [pk_us, pk_us, pk_us]
      refine ⟨⟨fun q => ?_, fun q => absurd q (by decide)⟩, fun _ => rfl, f3, f4, f5⟩
      simp at q
    · have hne : 16 * k + d ≠ 16 * k + c := by omega
      rw [pk_un hne, pk_un hne, pk_un hne]
      simp only [hdc, decide_false, Bool.or_false]
      exact ⟨f1, f2, f3, f4, f5⟩
theorem sim_up (h : SIM vo co ol fv fc nw cm op se be wr sn ow st wt mc lv ss mb vw wo mo lk Cs F n) : SIM vo co ol fv fc nw cm op se be wr sn ow st wt mc lv ss mb vw wo mo lk Cs F (n + 1) := by
  obtain ⟨h1, h2, h3, ⟨c0, h4, h4'⟩, ⟨m0, h5, h5'⟩, h6⟩ := h
  exact ⟨h1, h2, h3, ⟨c0, h4, by omega⟩, ⟨m0, h5, by omega⟩, h6⟩
theorem sim_read (h : SIM vo co ol fv fc nw cm op se be wr sn ow st wt mc lv ss mb vw wo mo lk Cs F n) (hx : XRead vo co op be wr sn ow Cs t cell r sn') (hm : MRead lv vw wo mo lk t cell r2 lk') : r = r2 ∧ SIM vo co ol fv fc nw cm op se be wr sn' ow st wt mc lv ss mb vw wo mo lk' Cs F (n + 1) := by
  obtain ⟨h1, h2, h3, h4, h5, h6, h7, h8, h9⟩ := sim_up h
  rcases hx with ⟨k, c, hv, rfl, rfl⟩ | ⟨hv, rfl, rfl⟩
  · rcases hm with ⟨k2, c2, gv, rfl, rfl⟩ | ⟨gv, rfl, rfl⟩
    · obtain ⟨rfl, rfl⟩ := val_one hv ((val_eq h8).mpr gv)
      obtain ⟨hk, hc, -, -, ho⟩ := hv
      have hT := h9 k2 hk ho
      refine ⟨sv_vis hc hT, h1, h2, h3, h4, h5, h6, h7, h8, fun t ht hot => ?_⟩
      by_cases htk : t = k2
      · subst htk
        exact hT.note hc
      · refine (h9 t ht hot).keep rfl rfl rfl ?_ rfl rfl (fun d hd => ⟨rfl, rfl, rfl, rfl, ?_⟩)
        · unfold nt
          split
          · rfl
          · exact pk_un htk
        · unfold lt_
          split
          · exact pk_un (by omega)
          · rfl
    · exact absurd ((val_eq h8).mp hv) (gv k c)
  · rcases hm with ⟨k2, c2, gv, rfl, rfl⟩ | ⟨gv, rfl, rfl⟩
    · exact absurd ((val_eq h8).mpr gv) (hv k2 c2)
    · exact ⟨rfl, h1, h2, h3, h4, h5, h6, h7, h8, h9⟩
theorem sim_write (h : SIM vo co ol fv fc nw cm op se be wr sn ow st wt mc lv ss mb vw wo mo lk Cs F n) (hx : XWrite op wr ow t cell v r wr' ow') (hm : MWrite lv wo mo t cell v r2 wo' mo') : r = r2 ∧ SIM vo co ol fv fc nw cm op se be wr' sn ow' st wt mc lv ss mb vw wo' mo' lk Cs F (n + 1) := by
  obtain ⟨h1, h2, h3, h4, h5, h6, h7, h8, h9⟩ := sim_up h
  rcases hx with ⟨k, c, hv, rfl, rfl, rfl⟩ | ⟨hv, rfl, rfl, rfl⟩
  · rcases hm with ⟨k2, c2, gv, rfl, rfl, rfl⟩ | ⟨gv, rfl, rfl, rfl⟩
    · obtain ⟨rfl, rfl⟩ := val_one hv ((val_eq h8).mpr gv)
      obtain ⟨hk, hc, -, -, ho⟩ := hv
      have hT := h9 k2 hk ho
      refine ⟨rfl, h1, h2, h3, h4, h5, h6, h7, h8, fun t ht hot => ?_⟩
      by_cases htk : t = k2
      · subst htk
        exact hT.put hc
      · exact (h9 t ht hot).keep rfl rfl (pk_un htk) rfl rfl rfl (fun d hd => ⟨pk_un (by omega), rfl, pk_un (by omega), pk_un (by omega), rfl⟩)
    · exact absurd ((val_eq h8).mp hv) (gv k c)
  · rcases hm with ⟨k2, c2, gv, rfl, rfl, rfl⟩ | ⟨gv, rfl, rfl, rfl⟩
    · exact absurd ((val_eq h8).mpr gv) (hv k2 c2)
    · exact ⟨rfl, h1, h2, h3, h4, h5, h6, h7, h8, h9⟩
theorem sim_add (h : SIM vo co ol fv fc nw cm op se be wr sn ow st wt mc lv ss mb vw wo mo lk Cs F n) (hx : XAdd vo co op be wr sn ow Cs t cell v r wr' sn' ow') (hm : MAdd lv vw wo mo lk t cell v r2 wo' mo' lk') : r = r2 ∧ SIM vo co ol fv fc nw cm op se be wr' sn' ow' st wt mc lv ss mb vw wo' mo' lk' Cs F (n + 1) := by
  obtain ⟨h1, h2, h3, h4, h5, h6, h7, h8, h9⟩ := sim_up h
  rcases hx with ⟨k, c, hv, er, rfl, rfl, rfl⟩ | ⟨hv, rfl, rfl, rfl, rfl⟩
  · rcases hm with ⟨k2, c2, gv, er2, rfl, rfl, rfl⟩ | ⟨gv, rfl, rfl, rfl, rfl⟩
    · obtain ⟨rfl, rfl⟩ := val_one hv ((val_eq h8).mpr gv)
      obtain ⟨hk, hc, -, -, ho⟩ := hv
      have hT := h9 k2 hk ho
      have hrr : r = r2 := by rw [er, er2, sv_vis hc hT]
      refine ⟨hrr, h1, h2, h3, h4, h5, h6, h7, h8, fun t ht hot => ?_⟩
      by_cases htk : t = k2
      · subst htk
        rw [← hrr]
        exact (hT.note hc).put hc
      · refine (h9 t ht hot).keep rfl rfl (pk_un htk) ?_ rfl rfl (fun d hd => ⟨pk_un (by omega), rfl, pk_un (by omega), pk_un (by omega), ?_⟩)
        · unfold nt
          split
          · rfl
          · exact pk_un htk
        · unfold lt_
          split
          · exact pk_un (by omega)
          · rfl
    · exact absurd ((val_eq h8).mp hv) (gv k c)
  · rcases hm with ⟨k2, c2, gv, er2, rfl, rfl, rfl⟩ | ⟨gv, rfl, rfl, rfl, rfl⟩
    · exact absurd ((val_eq h8).mpr gv) (hv k2 c2)
    · exact ⟨rfl, h1, h2, h3, h4, h5, h6, h7, h8, h9⟩
theorem sim_begin (h : SIM vo co ol fv fc nw cm op se be wr sn ow st wt mc lv ss mb vw wo mo lk Cs F n) (hx : XBegin op se be wr sn cm b r op' se' be' wr' sn') (hm : MBegin st mc lv ss mb vw wo lk b r2 lv' ss' mb' vw' wo' lk') : r = r2 ∧ SIM vo co ol fv fc nw cm op' se' be' wr' sn' ow st wt mc lv' ss' mb' vw' wo' mo lk' Cs F (n + 1) := by
  obtain ⟨h1, h2, h3, h4, h5, h6, h7, h8, h9⟩ := sim_up h
  rcases hx with ⟨t, ht, hlt, ho, rfl, rfl, rfl, rfl, rfl, rfl⟩ | ⟨hv, rfl, rfl, rfl, rfl, rfl, rfl⟩
  · rcases hm with ⟨t2, gt, glt, go, rfl, rfl, rfl, rfl, gv, gw, gl⟩ | ⟨gv, -⟩
    · have e : t2 = t := by
        rcases Nat.lt_trichotomy t2 t with q | q | q
        · exact absurd ((h8 t2 gt).trans go) (hlt t2 q)
        · exact q
        · exact absurd ((h8 t ht).symm.trans ho) (glt t q)
      subst e
      refine ⟨rfl, h1, h2, h3, h4, h5, h6, h7, fun j hj => ?_, fun j hj hoj => ?_⟩
      · by_cases e : j = t2
        · subst e
          rw [pk_us, pk_us]
        · rw [pk_un e, pk_un e]
          exact h8 j hj
      · by_cases e : j = t2
        · subst e
          refine ⟨by rw [pk_us]; exact Int32.le_refl _, by rw [pk_us]; exact Int32.le_refl _, by rw [pk_us, pk_us], by rw [pk_us]; exact Hi0, fun c hc => ?_⟩
          have hin : 16 * j ≤ 16 * j + c ∧ 16 * j + c < 16 * j + 16 := by omega
          rw [pk_us, pk_us, pk_us, pk_us, gv, gw, gl, if_pos hin, if_pos hin, if_pos hin, b_0, show 16 * j + c - 16 * j = c by omega]
          refine ⟨⟨fun _ => rfl, fun _ => rfl⟩, fun q => (by cases q), ⟨fun _ => rfl, fun _ => rfl⟩, h7 c hc, ⟨fun q => ?_, fun q => ?_⟩⟩
          · obtain ⟨k, L, e1, e2⟩ := q
            have := h3 c hc k (by rw [e1]; exact List.mem_cons_self)
            exact absurd (Int32.lt_of_lt_of_le e2 this) Int32.lt_irrefl
          · exact absurd (Int32.lt_of_lt_of_le q (h6 c hc)) Int32.lt_irrefl
        · have hoj' : ¬ op j = 0 := by rw [pk_un e] at hoj; exact hoj
          refine (h9 j hj hoj').keep (pk_un e) (pk_un e) (pk_un e) (pk_un e) (pk_un e) (pk_un e) (fun c hc => ?_)
          have hout : ¬ (16 * t2 ≤ 16 * j + c ∧ 16 * j + c < 16 * t2 + 16) := by omega
          rw [gv, gw, gl, if_neg hout, if_neg hout, if_neg hout]
          exact ⟨rfl, rfl, rfl, rfl, rfl⟩
    · exact absurd ((h8 t ht).symm.trans ho) (gv t ht)
  · rcases hm with ⟨t2, gt, glt, go, -⟩ | ⟨gv, rfl, rfl, rfl, rfl, rfl, rfl, rfl⟩
    · exact absurd ((h8 t2 gt).trans go) (hv t2 gt)
    · exact ⟨rfl, h1, h2, h3, h4, h5, h6, h7, h8, h9⟩
theorem sim_close {k : Nat} (h : SIM vo co ol fv fc nw cm op se be wr sn ow st wt mc lv ss mb vw wo mo lk Cs F n) : SIM vo co ol fv fc nw cm (upd op k 0) se be wr sn ow st wt mc (upd lv k 0) ss mb vw wo mo lk Cs F n := by
  obtain ⟨h1, h2, h3, h4, h5, h6, h7, h8, h9⟩ := h
  refine ⟨h1, h2, h3, h4, h5, h6, h7, fun j hj => ?_, fun j hj hoj => ?_⟩
  · by_cases e : j = k
    · subst e
      rw [pk_us, pk_us]
    · rw [pk_un e, pk_un e]
      exact h8 j hj
  · by_cases e : j = k
    · subst e
      rw [pk_us] at hoj
      exact absurd rfl hoj
    · rw [pk_un e] at hoj
      exact h9 j hj hoj
theorem sim_abort (h : SIM vo co ol fv fc nw cm op se be wr sn ow st wt mc lv ss mb vw wo mo lk Cs F n) (hx : Abort op t r op') (hm : Abort lv t r2 lv') : r = r2 ∧ SIM vo co ol fv fc nw cm op' se be wr sn ow st wt mc lv' ss mb vw wo mo lk Cs F (n + 1) := by
  have h8 := h.2.2.2.2.2.2.2.1
  rcases hx with ⟨k, hv, rfl, rfl⟩ | ⟨hv, rfl, rfl⟩
  · rcases hm with ⟨k2, gv, rfl, rfl⟩ | ⟨gv, rfl, rfl⟩
    · have e := tok_one hv ((tok_eq h8).mpr gv)
      subst e
      exact ⟨rfl, sim_up (sim_close h)⟩
    · exact absurd ((tok_eq h8).mp hv) (gv k)
  · rcases hm with ⟨k2, gv, rfl, rfl⟩ | ⟨gv, rfl, rfl⟩
    · exact absurd ((tok_eq h8).mpr gv) (hv k2)
    · exact ⟨rfl, sim_up h⟩
theorem ov_eq {k : Nat} (h : TR vo co be se wr sn ow wt ss mb vw wo mo lk cm mc Cs k) : OvX co se be wr sn Cs k ↔ OvM wt ss mb wo lk k := by
  obtain ⟨h1, h2, h3, h4, h5⟩ := h
  have key : ∀ c, c < 16 → (bt (conc se wr sn k) c = true ↔ (¬ wo (16 * k + c) = 0 ∨ ¬ ss k = 0 ∧ ¬ lk (16 * k + c) = 0)) := by
    intro c hc
    obtain ⟨f1, f2, f3, f4, f5⟩ := h5 c hc
    unfold conc
    rw [← f1, ← f3, ← h3]
    by_cases hs : se k = 0
    · rw [if_pos hs]
      cases bt (wr k) c <;> simp [hs]
    · rw [if_neg hs, b_or]
      cases bt (wr k) c <;> cases bt (sn k) c <;> simp [hs]
  constructor
  · rintro ⟨c, hc, g1, g2⟩
    exact ⟨c, hc, (key c hc).mp g1, (h5 c hc).2.2.2.2.mp g2⟩
  · rintro ⟨c, hc, g1, g2⟩
    exact ⟨c, hc, (key c hc).mpr g1, (h5 c hc).2.2.2.2.mpr g2⟩
theorem sim_might (h : SIM vo co ol fv fc nw cm op se be wr sn ow st wt mc lv ss mb vw wo mo lk Cs F n) (hx : XMight co op se be wr sn Cs t r) (hm : MMight wt lv ss mb wo lk t r2) : r = r2 := by
  have h8 := h.2.2.2.2.2.2.2.1
  have h9 := h.2.2.2.2.2.2.2.2
  rcases hx with ⟨k, hv, hx⟩ | ⟨hv, rfl⟩
  · rcases hm with ⟨k2, gv, hm⟩ | ⟨gv, rfl⟩
    · have e := tok_one hv ((tok_eq h8).mpr gv)
      subst e
      have ho := ov_eq (h9 k2 hv.1 hv.2.2)
      rcases hx with ⟨h1, rfl⟩ | ⟨h1, rfl⟩ <;> rcases hm with ⟨h2, rfl⟩ | ⟨h2, rfl⟩
      · rfl
      · exact absurd (ho.mp h1) h2
      · exact absurd (ho.mpr h2) h1
      · rfl
    · exact absurd ((tok_eq h8).mp hv) (gv k)
  · rcases hm with ⟨k2, gv, hm⟩ | ⟨gv, rfl⟩
    · exact absurd ((tok_eq h8).mpr gv) (hv k2)
    · rfl
theorem sim_comd (h : SIM vo co ol fv fc nw cm op se be wr sn ow st wt mc lv ss mb vw wo mo lk Cs F n) (hx : XComd vo co cm Cs cell r) (hm : MComd st cell r2) : r = r2 := by
  have h7 := h.2.2.2.2.2.2.1
  rcases hx with ⟨c, hc, e1, rfl⟩ | ⟨hv, rfl⟩
  · rcases hm with ⟨c2, hc2, e2, rfl⟩ | ⟨gv, rfl⟩
    · have e : c2 = c := nI_inj (by omega) (by omega) (e2.symm.trans e1)
      subst e
      exact h7 c2 hc
    · exact absurd e1 (gv c hc)
  · rcases hm with ⟨c2, hc2, e2, rfl⟩ | ⟨gv, rfl⟩
    · exact absurd e2 (hv c2 hc2)
    · rfl
theorem sm_congr {f g : Nat → Int32} : ∀ {n : Nat}, (∀ c, c < n → f c = g c) → sm f a1 a2 n = sm g a1 a2 n
  | 0, _ => rfl
  | n + 1, h => by
    show (if a1 ≤ nI n ∧ nI n ≤ a2 then sm f a1 a2 n + f n else sm f a1 a2 n) = (if a1 ≤ nI n ∧ nI n ≤ a2 then sm g a1 a2 n + g n else sm g a1 a2 n)
    rw [sm_congr (fun c hc => h c (by omega)), h n (by omega)]
theorem sim_sum (h : SIM vo co ol fv fc nw cm op se be wr sn ow st wt mc lv ss mb vw wo mo lk Cs F n) (hx : XSum vo co op be wr ow Cs t a1 a2 r) (hm : MSum lv vw wo mo t a1 a2 r2) : r = r2 := by
  have h8 := h.2.2.2.2.2.2.2.1
  have h9 := h.2.2.2.2.2.2.2.2
  rcases hx with ⟨k, hv, rfl⟩ | ⟨hv, rfl⟩
  · rcases hm with ⟨k2, gv, rfl⟩ | ⟨gv, rfl⟩
    · have e := tok_one hv ((tok_eq h8).mpr gv)
      subst e
      exact sm_congr (fun c hc => sv_vis hc (h9 k2 hv.1 hv.2.2))
    · exact absurd ((tok_eq h8).mp hv) (gv k)
  · rcases hm with ⟨k2, gv, rfl⟩ | ⟨gv, rfl⟩
    · exact absurd ((tok_eq h8).mpr gv) (hv k2)
    · rfl
theorem no_congr {f g : Nat → Int32} : ∀ {n : Nat}, (∀ c, c < n → f c = g c) → no f n = no g n
  | 0, _ => rfl
  | n + 1, h => by
    show no f n + (if f n = 0 then 0 else 1) = no g n + (if g n = 0 then 0 else 1)
    rw [no_congr (fun c hc => h c (by omega)), h n (by omega)]
theorem sim_no (h : SIM vo co ol fv fc nw cm op se be wr sn ow st wt mc lv ss mb vw wo mo lk Cs F n) : no op 6 = no lv 6 := no_congr h.2.2.2.2.2.2.2.1
theorem vAt_top {L : List Nat} {x y : Int32} (h1 : ∀ k, k ∈ L → co k ≤ x) (h2 : ∀ k, k ∈ L → co k ≤ y) : vAt vo co x L = vAt vo co y L := by
  cases L with
  | nil => rfl
  | cons k L =>
    show (if co k ≤ x then vo k else vAt vo co x L) = (if co k ≤ y then vo k else vAt vo co y L)
    rw [if_pos (h1 k List.mem_cons_self), if_pos (h2 k List.mem_cons_self)]
/-- what tidying keeps -/
theorem Td.of (h : Td op be co Cs Cs1) (hp : ∀ c, c < 16 → (Cs c).Pairwise (fun i j => co j < co i)) (hb : ∀ c, c < 16 → ∀ x, x ∈ Cs c → co x ≤ cm) {c : Nat} (hc : c < 16) : (Cs1 c).Pairwise (fun i j => co j < co i) ∧ (∀ x, x ∈ Cs1 c → co x ≤ cm) ∧ (∀ t, t < 6 → ¬ op t = 0 → vAt vo co (be t) (Cs1 c) = vAt vo co (be t) (Cs c)) ∧ (vAt vo co cm (Cs1 c) = vAt vo co cm (Cs c)) ∧ ∀ b, Nwr co b (Cs1 c) ↔ Nwr co b (Cs c) := by
  rcases h c hc with e | h
  · rw [e]
    exact ⟨hp c hc, hb c hc, fun _ _ _ => rfl, rfl, fun _ => Iff.rfl⟩
  · refine ⟨(hp c hc).sublist h.sub, fun x hx => hb c hc x (h.sub.subset hx), fun t ht ho => h.val ht ho, h.valc (hb c hc), fun b => ?_⟩
    rcases h with ⟨e1, e2⟩ | ⟨k, R, K, e1, e2, -⟩
    · rw [e1, e2]
    · rw [e1, e2]
      constructor
      · rintro ⟨k2, L2, e, g⟩
        cases e
        exact ⟨k, R, rfl, g⟩
      · rintro ⟨k2, L2, e, g⟩
        cases e
        exact ⟨k, K, rfl, g⟩
theorem sim_tidy (h : SIM vo co ol fv fc nw cm op se be wr sn ow st wt mc lv ss mb vw wo mo lk Cs F n) (hx : XTidy co op be nw Cs ol' fv' fc') : ∃ Cs' F', SIM vo co ol' fv' fc' nw cm op se be wr sn ow st wt mc lv ss mb vw wo mo lk Cs' F' (n + 1) := by
  obtain ⟨h1, h2, h3, h4, h5, h6, h7, h8, h9⟩ := sim_up h
  obtain ⟨Cs', F', g1, g2⟩ := hx
  have hT : Td op be co Cs Cs' := fun c hc => Or.inr (g2 c hc)
  refine ⟨Cs', F', g1, fun c hc => (hT.of (vo := vo) h2 h3 hc).1, fun c hc => (hT.of (vo := vo) h2 h3 hc).2.1, h4, h5, h6, fun c hc => ?_, h8, fun t ht ho => ?_⟩
  · rw [(hT.of (vo := vo) h2 h3 hc).2.2.2.1]
    exact h7 c hc
  · obtain ⟨f1, f2, f3, f4, f5⟩ := h9 t ht ho
    refine ⟨f1, f2, f3, f4, fun c hc => ?_⟩
    obtain ⟨j1, j2, j3, j4, j5⟩ := f5 c hc
    obtain ⟨-, -, k3, -, k5⟩ := hT.of (vo := vo) h2 h3 hc
    exact ⟨j1, j2, j3, by rw [k3 t ht ho]; exact j4, by rw [k5]; exact j5⟩
theorem nI_next {x y : Int32} {c0 : Nat} (h : y = nI c0) (hc : c0 < 1000) (hx : x ≤ y) : x < y + 1 ∧ x ≤ y + 1 := by
  have e : (y + 1).toInt = y.toInt + 1 := by rw [h, nI_1, nI_toInt (by omega), nI_toInt (by omega)]; omega
  have hx' := Int32.le_iff_toInt_le.mp hx
  exact ⟨Int32.lt_iff_toInt_lt.mpr (by omega), Int32.le_iff_toInt_le.mpr (by omega)⟩
theorem sim_commit (hn : n < 1000) (h : SIM vo co ol fv fc nw cm op se be wr sn ow st wt mc lv ss mb vw wo mo lk Cs F n) (hx : XCommit vo co ol fv fc nw cm op se be wr sn ow Cs t r vo' co' ol' fv' fc' nw' cm' op') (hm : MCommit st wt mc lv ss mb wo mo lk t r2 st' wt' mc' lv') : r = r2 ∧ ∃ Cs' F', SIM vo' co' ol' fv' fc' nw' cm' op' se be wr sn ow st' wt' mc' lv' ss mb vw wo mo lk Cs' F' (n + 1) := by
  have h8 := h.2.2.2.2.2.2.2.1
  have h9 := h.2.2.2.2.2.2.2.2
  rcases hx with ⟨k, hv, rfl, hx⟩ | ⟨hv, rfl, rfl, rfl, rfl, rfl, rfl, rfl, rfl, rfl⟩
  · rcases hm with ⟨k2, gv, rfl, hm⟩ | ⟨gv, -⟩
    · have e := tok_one hv ((tok_eq h8).mpr gv)
      subst e
      have hT := h9 k2 hv.1 hv.2.2
      have ho := ov_eq hT
      have hs := sim_close (k := k2) h
      obtain ⟨h1, h2, h3, ⟨c0, h4, h4'⟩, ⟨m0, h5, h5'⟩, h6, h7, i8, i9⟩ := hs
      rcases hm with ⟨rfl, g1, rfl, rfl, rfl⟩ | ⟨rfl, g1, rfl, gc⟩
      · rcases hx with ⟨rfl, f1, rfl, rfl, rfl, rfl, rfl, rfl, rfl⟩ | ⟨-, f1, -⟩ | ⟨-, f1, -⟩
        · exact ⟨rfl, Cs, F, h1, h2, h3, ⟨c0, h4, by omega⟩, ⟨m0, h5, by omega⟩, h6, h7, i8, i9⟩
        · exact absurd (ho.mpr g1) f1
        · exact absurd (ho.mpr g1) f1
      · have hmn : ∀ {x : Int32}, x ≤ mc → x < mc + 1 ∧ x ≤ mc + 1 := fun hx => nI_next h5 (by omega) hx
        have hcn : ∀ {x : Int32}, x ≤ cm → x < cm + 1 ∧ x ≤ cm + 1 := fun hx => nI_next h4 (by omega) hx
        rcases hx with ⟨-, f1, -⟩ | ⟨rfl, f1, f2, rfl, rfl, rfl, rfl, rfl, rfl, rfl⟩ | ⟨rfl, f1, rfl, Cs', F', Cs1, k1, k2', k3, k4⟩
        · exact absurd (ho.mp f1) g1
        · have gz : ∀ c, c < 16 → st' c = st c ∧ wt' c = wt c := by
            intro c hc
            rcases gc c hc with ⟨-, q1, q2⟩ | ⟨q, -⟩
            · exact ⟨q1, q2⟩
            · exact absurd ((hT.2.2.2.2 c hc).1.mp (by rw [f2]; exact b_0 c)) q
          refine ⟨rfl, Cs, F, h1, h2, h3, ⟨c0, h4, by omega⟩, ⟨m0 + 1, by rw [h5]; exact nI_1 m0, by omega⟩, fun c hc => ?_, fun c hc => ?_, i8, fun t ht hot => ?_⟩
          · rw [(gz c hc).2]
            exact (hmn (h6 c hc)).2
          · rw [(gz c hc).1]
            exact h7 c hc
          · obtain ⟨p1, p2, p3, p4, p5⟩ := i9 t ht hot
            refine ⟨p1, (hmn p2).2, p3, p4, fun c hc => ?_⟩
            rw [(gz c hc).2]
            exact p5 c hc
        · refine ⟨rfl, Cs', F', k1, fun c hc => ?_, fun c hc => ?_, ⟨c0 + 1, by rw [h4]; exact nI_1 c0, by omega⟩, ⟨m0 + 1, by rw [h5]; exact nI_1 m0, by omega⟩, fun c hc => ?_, fun c hc => ?_, i8, fun t ht hot => ?_⟩
          · obtain ⟨o1, o2, -⟩ := k2'.of (vo := vo) h2 h3 hc
            have o3 : (Cs1 c).Pairwise (fun i j => co' j < co' i) := by
              refine List.Pairwise.imp_of_mem ?_ o1
              intro i j hi hj hij
              rw [(k4 c hc i hi).2, (k4 c hc j hj).2]
              exact hij
            rcases k3 c hc with ⟨-, e⟩ | ⟨-, v, e, e2, -⟩
            · rw [e]
              exact o3
            · rw [e]
              refine List.pairwise_cons.mpr ⟨fun x hx => ?_, o3⟩
              rw [e2, (k4 c hc x hx).2]
              exact (hcn (o2 x hx)).1
          · obtain ⟨o1, o2, -⟩ := k2'.of (vo := vo) h2 h3 hc
            have o4 : ∀ x, x ∈ Cs1 c → co' x ≤ cm + 1 := fun x hx => by
              rw [(k4 c hc x hx).2]
              exact (hcn (o2 x hx)).2
            rcases k3 c hc with ⟨-, e⟩ | ⟨-, v, e, e2, -⟩
            · rw [e]
              exact o4
            · rw [e]
              intro x hx
              rcases List.mem_cons.mp hx with q | q
              · rw [q, e2]
                exact Int32.le_refl _
              · exact o4 x q
          · rcases gc c hc with ⟨-, -, q2⟩ | ⟨-, -, q2⟩
            · rw [q2]
              exact (hmn (h6 c hc)).2
            · rw [q2]
              exact Int32.le_refl _
          · obtain ⟨o1, o2, o3, o4, o5⟩ := k2'.of (vo := vo) h2 h3 hc
            have hTc := (hT.2.2.2.2 c hc)
            rcases k3 c hc with ⟨eb, e⟩ | ⟨eb, v, e, e2, e3⟩
            · rcases gc c hc with ⟨-, q1, -⟩ | ⟨q, -⟩
              · rw [e, q1, vAt_congr (fun x hx => k4 c hc x hx), ← h7 c hc, ← o4]
                exact vAt_top (fun x hx => (hcn (o2 x hx)).2) o2
              · exact absurd (hTc.1.mp eb) q
            · rcases gc c hc with ⟨q, -⟩ | ⟨-, q1, -⟩
              · have := hTc.1.mpr q
                rw [eb] at this
                cases this
              · rw [e, q1]
                show (if co' v ≤ cm + 1 then vo' v else _) = _
                rw [if_pos (by rw [e2]; exact Int32.le_refl _), e3]
                exact hTc.2.1 eb
          · have hot' : ¬ upd op k2 0 t = 0 := hot
            obtain ⟨p1, p2, p3, p4, p5⟩ := i9 t ht hot
            refine ⟨(hcn p1).2, (hmn p2).2, p3, p4, fun c hc => ?_⟩
            obtain ⟨j1, j2, j3, j4, j5⟩ := p5 c hc
            obtain ⟨o1, o2, o3, o4, o5⟩ := k2'.of (vo := vo) h2 h3 hc
            have hTc := (hT.2.2.2.2 c hc)
            have hval : vAt vo' co' (be t) (Cs1 c) = vw (16 * t + c) := by
              rw [vAt_congr (fun x hx => k4 c hc x hx), o3 t ht hot']
              exact j4
            rcases k3 c hc with ⟨eb, e⟩ | ⟨eb, v, e, e2, e3⟩
            · rcases gc c hc with ⟨-, -, q1⟩ | ⟨q, -⟩
              · rw [e, q1]
                refine ⟨j1, j2, j3, hval, ?_⟩
                rw [← j5, ← o5]
                constructor
                · rintro ⟨k3, L3, e4, e5⟩
                  exact ⟨k3, L3, e4, by rw [← (k4 c hc k3 (by rw [e4]; exact List.mem_cons_self)).2]; exact e5⟩
                · rintro ⟨k3, L3, e4, e5⟩
                  exact ⟨k3, L3, e4, by rw [(k4 c hc k3 (by rw [e4]; exact List.mem_cons_self)).2]; exact e5⟩
              · exact absurd (hTc.1.mp eb) q
            · rcases gc c hc with ⟨q, -⟩ | ⟨-, -, q1⟩
              · have := hTc.1.mpr q
                rw [eb] at this
                cases this
              · rw [e, q1]
                have hlt : be t < co' v := by rw [e2]; exact (hcn p1).1
                refine ⟨j1, j2, j3, ?_, ⟨fun _ => (hmn p2).1, fun _ => ⟨v, Cs1 c, rfl, hlt⟩⟩⟩
                show (if co' v ≤ be t then vo' v else vAt vo' co' (be t) (Cs1 c)) = _
                rw [if_neg (fun q => Int32.lt_irrefl (Int32.lt_of_lt_of_le hlt q))]
                exact hval
    · exact absurd ((tok_eq h8).mp hv) (gv k)
  · rcases hm with ⟨k2, gv, -⟩ | ⟨gv, rfl, rfl, rfl, rfl, rfl⟩
    · exact absurd ((tok_eq h8).mpr gv) (hv k2)
    · exact ⟨rfl, Cs, F, sim_up h⟩
end SIMS
end
section
/-! THE STORE, 1: whether running, isCell, note, versionAt, visible, isSeen -/
set_option maxRecDepth 100000
theorem tr_ok {t : Int32} (h : ¬ t < 0) (h5 : ¬ (5 : Int32) < t) : ∃ k, k < 6 ∧ t = nI k := by
  obtain ⟨j, h1, h2⟩ := nI_of2 (M := 5) (n := 5) (by decide) h (Int32.not_lt.mp h5)
  exact ⟨j, by omega, h2⟩
theorem cl_ok {t : Int32} (h : ¬ t < 0) (h5 : ¬ (15 : Int32) < t) : ∃ k, k < 16 ∧ t = nI k := by
  obtain ⟨j, h1, h2⟩ := nI_of2 (M := 15) (n := 15) (by decide) h (Int32.not_lt.mp h5)
  exact ⟨j, by omega, h2⟩
theorem k_lt5 : ∀ k, k < 6 → ¬ (5 : Int32) < nI k := by decide +kernel
theorem k_lt15 : ∀ k, k < 16 → ¬ (15 : Int32) < nI k := by decide +kernel
theorem tr_no1 {op : Nat → Int32} {t : Int32} (h : t < 0) : ∀ k, ¬ Tok op t k := fun k q => nI_pos (by have := q.1; omega) (q.2.1 ▸ h)
theorem tr_no2 {op : Nat → Int32} {t : Int32} (h : (5 : Int32) < t) : ∀ k, ¬ Tok op t k := fun k q => k_lt5 k q.1 (q.2.1 ▸ h)
theorem tr_no3 {op : Nat → Int32} {t : Int32} {k0 : Nat} (hk : k0 < 6) (e : t = nI k0) (h : op k0 = 0) : ∀ k, ¬ Tok op t k := fun k q => by
  have e2 := nI_inj (show k0 < 1000 by omega) (show k < 1000 by have := q.1; omega) (e.symm.trans q.2.1)
  subst e2
  exact q.2.2 h
theorem cl_no1 {t : Int32} (h : t < 0) : ∀ k, k < 16 → ¬ t = nI k := fun k hk q => nI_pos (by omega) (q ▸ h)
theorem cl_no2 {t : Int32} (h : (15 : Int32) < t) : ∀ k, k < 16 → ¬ t = nI k := fun k hk q => k_lt15 k hk (q ▸ h)
theorem ix16 (k c : Nat) : (16 : Int32) * nI k + nI c = nI (16 * k + c) := by
  rw [show (16 : Int32) = nI 16 from rfl, pk_mul, nI_add]
theorem ii1 (i : Nat) : nI i + Int32.ofInt 1 = nI (i + 1) := nI_1 i
theorem bq1 {x : Int32} {c : Nat} (hc : c < 16) (h : ¬ ((x.toUInt32 >>> ((nI c).toUInt32 &&& Int32.toUInt32 31)).toInt32 &&& 1) = 0) : bt x c = true := by
  cases hb : bt x c
  · exact absurd ((bq x (by omega)).mpr hb) h
  · rfl
theorem bq0 {x : Int32} {c : Nat} (hc : c < 16) (h : ((x.toUInt32 >>> ((nI c).toUInt32 &&& Int32.toUInt32 31)).toInt32 &&& 1) = 0) : bt x c = false := (bq x (by omega)).mp h
theorem nbt {x : Int32} {c : Nat} (h : bt x c = false) : ¬ bt x c = true := by rw [h]; decide
set_option maxHeartbeats 4000000 in
/-- whether t is a running transaction -/
theorem kX0_isOpen (l : Launch) (D : va_G) (cI cZ : ClassId) (a : Nat → Nat) (vo co ol : Nat → Int32) (fv fc : Int32) (nw : Nat → Int32) (cm : Int32) (op se be wr sn ow : Nat → Int32) (t : Int32)  : WMi l yX0_isOpen cX0_isOpen 2 (some .boolean) 0 0 D cI cZ [.ref (a 0), .int t] (xw cI cZ a (vo, co, ol, fv, fc, nw, cm, op, se, be, wr, sn, ow)) (xw cI cZ a) (fun r u => u = (vo, co, ol, fv, fc, nw, cm, op, se, be, wr, sn, ow) ∧ ((∃ k, Tok op t k ∧ r = 1) ∨ ((∀ k, ¬ Tok op t k) ∧ r = 0))) := by
  refine wstart_i RX0 (by decide) rfl (Nat.le_of_ble_eq_true rfl) ?_
  intro p e R s m args below meth cd A Q ls hRf hRl C hl hI hret
  have hx := C.1
  have hb := C.2.1
  have hl : lv_has ls 2 [(0, .ref (a 0)), (1, .int t)] := hl
  refine lv_iload_n hx hb dX0_isOpen_0 rfl (lv_at hl 1 rfl) ?_
  refine lv_if_lt (tgt := 22) hx hb dX0_isOpen_1 (by decide) (fun c1 => ?_) (fun c1 => ?_)
  · refine lv_iconst (v := 0) hx hb dX0_isOpen_22 (by decide) ?_
    exact hret _ _ _ _ _ _ dX0_isOpen_23 rfl ⟨rfl, Or.inr ⟨tr_no1 c1, rfl⟩⟩ hI
  · refine lv_iload_n hx hb dX0_isOpen_4 rfl (lv_at hl 1 rfl) ?_
    refine lv_iconst (v := 5) hx hb dX0_isOpen_5 (by decide) ?_
    refine lv_icmp_gt (tgt := 22) hx hb dX0_isOpen_6 (by decide) (fun c2 => ?_) (fun c2 => ?_)
    · refine lv_iconst (v := 0) hx hb dX0_isOpen_22 (by decide) ?_
      exact hret _ _ _ _ _ _ dX0_isOpen_23 rfl ⟨rfl, Or.inr ⟨tr_no2 c2, rfl⟩⟩ hI
    · obtain ⟨k, hk, ek⟩ := tr_ok c1 c2
      refine lv_aload_n hx hb dX0_isOpen_9 rfl (lv_at hl 0 rfl) ?_
      refine xg_op C hI dX0_isOpen_10 ?_
      refine lv_iload_n hx hb dX0_isOpen_13 rfl (lv_at hl 1 rfl) ?_
      refine xl_op C hI ek hk dX0_isOpen_14 ?_
      refine lv_if_eq (tgt := 22) hx hb dX0_isOpen_15 (by decide) (fun c3 => ?_) (fun c3 => ?_)
      · refine lv_iconst (v := 0) hx hb dX0_isOpen_22 (by decide) ?_
        exact hret _ _ _ _ _ _ dX0_isOpen_23 rfl ⟨rfl, Or.inr ⟨tr_no3 hk ek c3, rfl⟩⟩ hI
      · refine lv_iconst (v := 1) hx hb dX0_isOpen_18 (by decide) ?_
        refine lv_goto (tgt := 23) hx hb dX0_isOpen_19 (by decide) ?_
        exact hret _ _ _ _ _ _ dX0_isOpen_23 rfl ⟨rfl, Or.inl ⟨k, ⟨hk, ek, c3⟩, rfl⟩⟩ hI
set_option maxHeartbeats 4000000 in
/-- whether it is a cell -/
theorem kX0_isCell (l : Launch) (D : va_G) (cI cZ : ClassId) (cell : Int32)  : WMi l yX0_isCell cX0_isCell 1 (some .boolean) 0 0 D cI cZ [.int cell] [] (fun _ : Unit => []) (fun r _ => (∃ c, c < 16 ∧ cell = nI c ∧ r = 1) ∨ ((∀ c, c < 16 → ¬ cell = nI c) ∧ r = 0)) := by
  refine wstart_i RX0 (by decide) rfl (Nat.le_of_ble_eq_true rfl) ?_
  intro p e R s m args below meth cd A Q ls hRf hRl C hl hI hret
  have hx := C.1
  have hb := C.2.1
  have hl : lv_has ls 1 [(0, .int cell)] := hl
  refine lv_iload_n hx hb dX0_isCell_0 rfl (lv_at hl 0 rfl) ?_
  refine lv_if_lt (tgt := 14) hx hb dX0_isCell_1 (by decide) (fun c1 => ?_) (fun c1 => ?_)
  · refine lv_iconst (v := 0) hx hb dX0_isCell_14 (by decide) ?_
    exact hret _ _ _ _ _ () dX0_isCell_15 rfl (Or.inr ⟨cl_no1 c1, rfl⟩) hI
  · refine lv_iload_n hx hb dX0_isCell_4 rfl (lv_at hl 0 rfl) ?_
    refine lv_bipush (v := 15) hx hb dX0_isCell_5 (by decide) ?_
    refine lv_icmp_gt (tgt := 14) hx hb dX0_isCell_7 (by decide) (fun c2 => ?_) (fun c2 => ?_)
    · refine lv_iconst (v := 0) hx hb dX0_isCell_14 (by decide) ?_
      exact hret _ _ _ _ _ () dX0_isCell_15 rfl (Or.inr ⟨cl_no2 c2, rfl⟩) hI
    · obtain ⟨k, hk, ek⟩ := cl_ok c1 c2
      refine lv_iconst (v := 1) hx hb dX0_isCell_10 (by decide) ?_
      refine lv_goto (tgt := 15) hx hb dX0_isCell_11 (by decide) ?_
      exact hret _ _ _ _ _ () dX0_isCell_15 rfl (Or.inl ⟨k, hk, ek, rfl⟩) hI
set_option maxHeartbeats 4000000 in
/-- a read that goes to the view leaves its mark -/
theorem kX0_note (l : Launch) (D : va_G) (cI cZ : ClassId) (a : Nat → Nat) (vo co ol : Nat → Int32) (fv fc : Int32) (nw : Nat → Int32) (cm : Int32) (op se be wr sn ow : Nat → Int32)  (k i : Nat) (hk : k < 6) (hi : i < 16) : WMv l yX0_note cX0_note 3 0 0 D cI cZ [.ref (a 0), .int (nI k), .int (nI i)] (xw cI cZ a (vo, co, ol, fv, fc, nw, cm, op, se, be, wr, sn, ow)) (xw cI cZ a) (fun u => ∃ sn', u = (vo, co, ol, fv, fc, nw, cm, op, se, be, wr, sn', ow) ∧ sn' = nt wr sn k i) := by
  refine wstart_v RX0 (by decide) rfl (Nat.le_of_ble_eq_true rfl) ?_
  intro p e R s m args below meth cd A Q ls hRf hRl C hl hI hret
  have hx := C.1
  have hb := C.2.1
  have hl : lv_has ls 3 [(0, .ref (a 0)), (1, .int (nI k)), (2, .int (nI i))] := hl
  refine lv_aload_n hx hb dX0_note_0 rfl (lv_at hl 0 rfl) ?_
  refine xg_wr C hI dX0_note_1 ?_
  refine lv_iload_n hx hb dX0_note_4 rfl (lv_at hl 1 rfl) ?_
  refine xl_wr C hI rfl hk dX0_note_5 ?_
  refine lv_iload_n hx hb dX0_note_6 rfl (lv_at hl 2 rfl) ?_
  refine lv_iushr hx hb dX0_note_7 rfl ?_
  refine lv_iconst (v := 1) hx hb dX0_note_8 (by decide) ?_
  refine lv_iand hx hb dX0_note_9 ?_
  refine lv_if_ne (tgt := 25) hx hb dX0_note_10 (by decide) (fun c1 => ?_) (fun c1 => ?_)
  · exact hret _ _ _ _ _ dX0_note_25 ⟨_, rfl, (if_pos (bq1 hi c1)).symm⟩ hI
  · refine lv_aload_n hx hb dX0_note_13 rfl (lv_at hl 0 rfl) ?_
    refine xg_sn C hI dX0_note_14 ?_
    refine lv_iload_n hx hb dX0_note_17 rfl (lv_at hl 1 rfl) ?_
    refine lv_dup2_11 hx hb dX0_note_18 rfl rfl ?_
    refine xl_sn C hI rfl hk dX0_note_19 ?_
    refine lv_iconst (v := 1) hx hb dX0_note_20 (by decide) ?_
    refine lv_iload_n hx hb dX0_note_21 rfl (lv_at hl 2 rfl) ?_
    refine lv_ishl hx hb dX0_note_22 ?_
    refine lv_ior hx hb dX0_note_23 ?_
    refine xs_sn C hI rfl hk dX0_note_24 (fun H locs hI => ?_)
    exact hret _ _ _ _ _ dX0_note_25 ⟨_, rfl, (if_neg (nbt (bq0 hi c1))).symm⟩ hI
set_option maxHeartbeats 4000000 in
/-- the value of the newest version that is not newer than lim -/
theorem kX0_versionAt (l : Launch) (D : va_G) (cI cZ : ClassId) (a : Nat → Nat) (vo co ol : Nat → Int32) (fv fc : Int32) (nw : Nat → Int32) (cm : Int32) (op se be wr sn ow : Nat → Int32)  (i : Nat) (hi : i < 16) (lim : Int32) (L0 : List Nat) (hL0 : Ch ol (nw i) L0) (hlen : L0.length ≤ 144) : WMi l yX0_versionAt cX0_versionAt 5 (some .int) 0 0 D cI cZ [.ref (a 0), .int (nI i), .int lim] (xw cI cZ a (vo, co, ol, fv, fc, nw, cm, op, se, be, wr, sn, ow)) (xw cI cZ a) (fun r u => u = (vo, co, ol, fv, fc, nw, cm, op, se, be, wr, sn, ow) ∧ r = vAt vo co lim L0) := by
  refine wstart_i RX0 (by decide) rfl (Nat.le_of_ble_eq_true rfl) ?_
  intro p e R s m args below meth cd A Q ls hRf hRl C hl hI hret
  have hx := C.1
  have hb := C.2.1
  have hl : lv_has ls 5 [(0, .ref (a 0)), (1, .int (nI i)), (2, .int lim)] := hl
  have loop : ∀ (L : List Nat) (v : Int32) (j : Nat) (ls : Array Slot), Ch ol v L → j + L.length ≤ 144 → vAt vo co lim L = vAt vo co lim L0 → lv_has ls 5 [(0, .ref (a 0)), (1, .int (nI i)), (2, .int lim), (3, .int v), (4, .int (nI j))] → W p l e R s m args below meth cd s.heap [] 0 0 Q (F0 m 10 ls []) := by
    intro L
    induction L with
    | nil =>
      intro v j ls hv hj hs hl
      have hv : v = -1 := hv
      refine lv_iload hx hb dX0_versionAt_10 (lv_at hl 4 rfl) ?_
      refine lv_sipush (v := (nI 144)) hx hb dX0_versionAt_12 (by decide) ?_
      refine lv_icmp_ge (tgt := 52) hx hb dX0_versionAt_15 (by decide) (fun c1 => ?_) (fun c1 => ?_)
      · refine lv_iconst (v := 0) hx hb dX0_versionAt_52 (by decide) ?_
        exact hret _ _ _ _ _ _ dX0_versionAt_53 rfl ⟨rfl, hs⟩ hI
      · refine lv_iload_n hx hb dX0_versionAt_18 rfl (lv_at hl 3 rfl) ?_
        refine lv_if_lt (tgt := 52) hx hb dX0_versionAt_19 (by decide) (fun c2 => ?_) (fun c2 => ?_)
        · refine lv_iconst (v := 0) hx hb dX0_versionAt_52 (by decide) ?_
          exact hret _ _ _ _ _ _ dX0_versionAt_53 rfl ⟨rfl, hs⟩ hI
        · exact absurd (by rw [hv]; exact m1_neg) c2
    | cons k L ih =>
      intro v j ls hv hj hs hl
      obtain ⟨hv, hk, hL⟩ := hv
      rw [List.length_cons] at hj
      refine lv_iload hx hb dX0_versionAt_10 (lv_at hl 4 rfl) ?_
      refine lv_sipush (v := (nI 144)) hx hb dX0_versionAt_12 (by decide) ?_
      refine lv_icmp_ge (tgt := 52) hx hb dX0_versionAt_15 (by decide) (fun c1 => ?_) (fun c1 => ?_)
      · exact absurd c1 (nI_ge (by omega) (by decide))
      · refine lv_iload_n hx hb dX0_versionAt_18 rfl (lv_at hl 3 rfl) ?_
        refine lv_if_lt (tgt := 52) hx hb dX0_versionAt_19 (by decide) (fun c2 => ?_) (fun c2 => ?_)
        · exact absurd c2 (by rw [hv]; exact nI_pos (by omega))
        · refine lv_aload_n hx hb dX0_versionAt_22 rfl (lv_at hl 0 rfl) ?_
          refine xg_co C hI dX0_versionAt_23 ?_
          refine lv_iload_n hx hb dX0_versionAt_26 rfl (lv_at hl 3 rfl) ?_
          refine xl_co C hI hv hk dX0_versionAt_27 ?_
          refine lv_iload_n hx hb dX0_versionAt_28 rfl (lv_at hl 2 rfl) ?_
          refine lv_icmp_gt (tgt := 39) hx hb dX0_versionAt_29 (by decide) (fun c3 => ?_) (fun c3 => ?_)
          · have hs : vAt vo co lim L = vAt vo co lim L0 := by rw [← hs]; exact (if_neg (fun q => Int32.lt_irrefl (Int32.lt_of_lt_of_le c3 q))).symm
            refine lv_aload_n hx hb dX0_versionAt_39 rfl (lv_at hl 0 rfl) ?_
            refine xg_ol C hI dX0_versionAt_40 ?_
            refine lv_iload_n hx hb dX0_versionAt_43 rfl (lv_at hl 3 rfl) ?_
            refine xl_ol C hI hv hk dX0_versionAt_44 ?_
            refine lv_istore_n (lv' := [(3, .int (ol k)), (0, .ref (a 0)), (1, .int (nI i)), (2, .int lim), (4, .int (nI j))]) hx hb dX0_versionAt_45 rfl hl (by decide) rfl (fun ls hl => ?_)
            have hl : lv_has ls 5 [(0, .ref (a 0)), (1, .int (nI i)), (2, .int lim), (3, .int (ol k)), (4, .int (nI j))] := lv_sub hl [1, 2, 3, 0, 4] rfl
            refine lv_iinc (v := (nI (j + 1))) (lv' := [(4, .int (nI (j + 1))), (0, .ref (a 0)), (1, .int (nI i)), (2, .int lim), (3, .int (ol k))]) hx hb dX0_versionAt_46 hl (k := 4) rfl (ii1 j) (by decide) rfl (fun ls hl => ?_)
            have hl : lv_has ls 5 [(0, .ref (a 0)), (1, .int (nI i)), (2, .int lim), (3, .int (ol k)), (4, .int (nI (j + 1)))] := lv_sub hl [1, 2, 3, 4, 0] rfl
            refine lv_goto (tgt := 10) hx hb dX0_versionAt_49 (by decide) ?_
            exact ih _ _ ls hL (by omega) hs hl
          · refine lv_aload_n hx hb dX0_versionAt_32 rfl (lv_at hl 0 rfl) ?_
            refine xg_vo C hI dX0_versionAt_33 ?_
            refine lv_iload_n hx hb dX0_versionAt_36 rfl (lv_at hl 3 rfl) ?_
            refine xl_vo C hI hv hk dX0_versionAt_37 ?_
            exact hret _ _ _ _ _ _ dX0_versionAt_38 rfl ⟨rfl, by rw [← hs]; exact (if_pos (Int32.not_lt.mp c3)).symm⟩ hI
  refine lv_aload_n hx hb dX0_versionAt_0 rfl (lv_at hl 0 rfl) ?_
  refine xg_nw C hI dX0_versionAt_1 ?_
  refine lv_iload_n hx hb dX0_versionAt_4 rfl (lv_at hl 1 rfl) ?_
  refine xl_nw C hI rfl hi dX0_versionAt_5 ?_
  refine lv_istore_n (lv' := [(3, .int (nw i)), (0, .ref (a 0)), (1, .int (nI i)), (2, .int lim)]) hx hb dX0_versionAt_6 rfl hl (by decide) rfl (fun ls hl => ?_)
  have hl : lv_has ls 5 [(0, .ref (a 0)), (1, .int (nI i)), (2, .int lim), (3, .int (nw i))] := lv_sub hl [1, 2, 3, 0] rfl
  refine lv_iconst (v := (nI 0)) hx hb dX0_versionAt_7 (by decide) ?_
  refine lv_istore (lv' := [(4, .int (nI 0)), (0, .ref (a 0)), (1, .int (nI i)), (2, .int lim), (3, .int (nw i))]) hx hb dX0_versionAt_8 hl (by decide) rfl (fun ls hl => ?_)
  have hl : lv_has ls 5 [(0, .ref (a 0)), (1, .int (nI i)), (2, .int lim), (3, .int (nw i)), (4, .int (nI 0))] := lv_sub hl [1, 2, 3, 4, 0] rfl
  exact loop L0 _ 0 ls hL0 (by omega) rfl hl
set_option maxHeartbeats 4000000 in
/-- what the transaction sees of the cell -/
theorem kX0_visible (l : Launch) (D : va_G) (cI cZ : ClassId) (a : Nat → Nat) (vo co ol : Nat → Int32) (fv fc : Int32) (nw : Nat → Int32) (cm : Int32) (op se be wr sn ow : Nat → Int32)  (k i : Nat) (hk : k < 6) (hi : i < 16) (Cs : Nat → List Nat) (hch : Ch ol (nw i) (Cs i)) (hlen : (Cs i).length ≤ 144) : WMi l yX0_visible cX0_visible 3 (some .int) 1 24 D cI cZ [.ref (a 0), .int (nI k), .int (nI i)] (xw cI cZ a (vo, co, ol, fv, fc, nw, cm, op, se, be, wr, sn, ow)) (xw cI cZ a) (fun r u => u = (vo, co, ol, fv, fc, nw, cm, op, se, be, wr, sn, ow) ∧ r = vis vo co be wr ow Cs k i) := by
  refine wstart_i RX0 (by decide) rfl (Nat.le_of_ble_eq_true rfl) ?_
  intro p e R s m args below meth cd A Q ls hRf hRl C hl hI hret
  have hx := C.1
  have hb := C.2.1
  have hl : lv_has ls 3 [(0, .ref (a 0)), (1, .int (nI k)), (2, .int (nI i))] := hl
  refine lv_aload_n hx hb dX0_visible_0 rfl (lv_at hl 0 rfl) ?_
  refine xg_wr C hI dX0_visible_1 ?_
  refine lv_iload_n hx hb dX0_visible_4 rfl (lv_at hl 1 rfl) ?_
  refine xl_wr C hI rfl hk dX0_visible_5 ?_
  refine lv_iload_n hx hb dX0_visible_6 rfl (lv_at hl 2 rfl) ?_
  refine lv_iushr hx hb dX0_visible_7 rfl ?_
  refine lv_iconst (v := 1) hx hb dX0_visible_8 (by decide) ?_
  refine lv_iand hx hb dX0_visible_9 ?_
  refine lv_if_eq (tgt := 27) hx hb dX0_visible_10 (by decide) (fun c1 => ?_) (fun c1 => ?_)
  · refine lv_aload_n hx hb dX0_visible_27 rfl (lv_at hl 0 rfl) ?_
    refine lv_iload_n hx hb dX0_visible_28 rfl (lv_at hl 2 rfl) ?_
    refine lv_aload_n hx hb dX0_visible_29 rfl (lv_at hl 0 rfl) ?_
    refine xg_be C hI dX0_visible_30 ?_
    refine lv_iload_n hx hb dX0_visible_33 rfl (lv_at hl 1 rfl) ?_
    refine xl_be C hI rfl hk dX0_visible_34 ?_
    refine wcall_i (n := 2) (wr := []) (rest := []) (kX0_versionAt l D cI cZ a vo co ol fv fc nw cm op se be wr sn ow i hi (be k) (Cs i) hch hlen) C (lw_V q87 q89 qs3 q12 q90) (by decide +kernel) ⟨by rw [hRf]; decide, by rw [hRl]; decide⟩ ⟨Nat.zero_le _, Nat.zero_le _⟩ rfl rfl hI.nil rfl hl.1 rfl (Nat.le_of_ble_eq_true rfl) dX0_visible_35 (fun r1 u1 H locs hp hI => ?_)
    have hI : wI D cI cZ A s (xw cI cZ a u1) H locs := hI
    obtain ⟨rfl, rfl⟩ := hp
    exact hret _ _ _ _ _ _ dX0_visible_38 rfl ⟨rfl, (if_neg (nbt (bq0 hi c1))).symm⟩ hI
  · refine lv_aload_n hx hb dX0_visible_13 rfl (lv_at hl 0 rfl) ?_
    refine xg_ow C hI dX0_visible_14 ?_
    refine lv_bipush (v := 16) hx hb dX0_visible_17 (by decide) ?_
    refine lv_iload_n hx hb dX0_visible_19 rfl (lv_at hl 1 rfl) ?_
    refine lv_imul hx hb dX0_visible_20 ?_
    refine lv_iload_n hx hb dX0_visible_21 rfl (lv_at hl 2 rfl) ?_
    refine lv_iadd hx hb dX0_visible_22 ?_
    refine xl_ow C hI (ix16 k i) (by omega) dX0_visible_23 ?_
    refine lv_goto (tgt := 38) hx hb dX0_visible_24 (by decide) ?_
    exact hret _ _ _ _ _ _ dX0_visible_38 rfl ⟨rfl, (if_pos (bq1 hi c1)).symm⟩ hI
set_option maxHeartbeats 4000000 in
/-- whether a running transaction began at f or later, and ahead of g -/
theorem kX0_isSeen (l : Launch) (D : va_G) (cI cZ : ClassId) (a : Nat → Nat) (vo co ol : Nat → Int32) (fv fc : Int32) (nw : Nat → Int32) (cm : Int32) (op se be wr sn ow : Nat → Int32) (f g : Int32)  : WMi l yX0_isSeen cX0_isSeen 4 (some .boolean) 0 0 D cI cZ [.ref (a 0), .int f, .int g] (xw cI cZ a (vo, co, ol, fv, fc, nw, cm, op, se, be, wr, sn, ow)) (xw cI cZ a) (fun r u => u = (vo, co, ol, fv, fc, nw, cm, op, se, be, wr, sn, ow) ∧ ((Seen op be f g ∧ r = 1) ∨ (¬ Seen op be f g ∧ r = 0))) := by
  refine wstart_i RX0 (by decide) rfl (Nat.le_of_ble_eq_true rfl) ?_
  intro p e R s m args below meth cd A Q ls hRf hRl C hl hI hret
  have hx := C.1
  have hb := C.2.1
  have hl : lv_has ls 4 [(0, .ref (a 0)), (1, .int f), (2, .int g)] := hl
  have loop : ∀ (n j : Nat) (ls : Array Slot), j + n = 6 → (∀ i, i < j → ¬ (¬ op i = 0 ∧ f ≤ be i ∧ be i < g)) → lv_has ls 4 [(0, .ref (a 0)), (1, .int f), (2, .int g), (3, .int (nI j))] → W p l e R s m args below meth cd s.heap [] 0 0 Q (F0 m 2 ls []) := by
    intro n
    induction n with
    | zero =>
      intro j ls hj hs hl
      refine lv_iload_n hx hb dX0_isSeen_2 rfl (lv_at hl 3 rfl) ?_
      refine lv_bipush (v := (nI 6)) hx hb dX0_isSeen_3 (by decide) ?_
      refine lv_icmp_ge (tgt := 45) hx hb dX0_isSeen_5 (by decide) (fun c1 => ?_) (fun c1 => ?_)
      · refine lv_iconst (v := 0) hx hb dX0_isSeen_45 (by decide) ?_
        exact hret _ _ _ _ _ _ dX0_isSeen_46 rfl ⟨rfl, Or.inr ⟨fun q => by obtain ⟨i, hi, q⟩ := q; exact hs i (by omega) q, rfl⟩⟩ hI
      · exact absurd (nI_le (by omega) (by omega)) c1
    | succ n ih =>
      intro j ls hj hs hl
      refine lv_iload_n hx hb dX0_isSeen_2 rfl (lv_at hl 3 rfl) ?_
      refine lv_bipush (v := (nI 6)) hx hb dX0_isSeen_3 (by decide) ?_
      refine lv_icmp_ge (tgt := 45) hx hb dX0_isSeen_5 (by decide) (fun c1 => ?_) (fun c1 => ?_)
      · exact absurd c1 (nI_ge (by omega) (by decide))
      · refine lv_aload_n hx hb dX0_isSeen_8 rfl (lv_at hl 0 rfl) ?_
        refine xg_op C hI dX0_isSeen_9 ?_
        refine lv_iload_n hx hb dX0_isSeen_12 rfl (lv_at hl 3 rfl) ?_
        refine xl_op C hI rfl (by omega) dX0_isSeen_13 ?_
        refine lv_if_eq (tgt := 39) hx hb dX0_isSeen_14 (by decide) (fun c2 => ?_) (fun c2 => ?_)
        · have hs : ∀ i, i < j + 1 → ¬ (¬ op i = 0 ∧ f ≤ be i ∧ be i < g) := lt_s hs (fun q => q.1 c2)
          refine lv_iinc (v := (nI (j + 1))) (lv' := [(3, .int (nI (j + 1))), (0, .ref (a 0)), (1, .int f), (2, .int g)]) hx hb dX0_isSeen_39 hl (k := 3) rfl (ii1 j) (by decide) rfl (fun ls hl => ?_)
          have hl : lv_has ls 4 [(0, .ref (a 0)), (1, .int f), (2, .int g), (3, .int (nI (j + 1)))] := lv_sub hl [1, 2, 3, 0] rfl
          refine lv_goto (tgt := 2) hx hb dX0_isSeen_42 (by decide) ?_
          exact ih _ ls (by omega) hs hl
        · refine lv_aload_n hx hb dX0_isSeen_17 rfl (lv_at hl 0 rfl) ?_
          refine xg_be C hI dX0_isSeen_18 ?_
          refine lv_iload_n hx hb dX0_isSeen_21 rfl (lv_at hl 3 rfl) ?_
          refine xl_be C hI rfl (by omega) dX0_isSeen_22 ?_
          refine lv_iload_n hx hb dX0_isSeen_23 rfl (lv_at hl 1 rfl) ?_
          refine lv_icmp_lt (tgt := 39) hx hb dX0_isSeen_24 (by decide) (fun c3 => ?_) (fun c3 => ?_)
          · have hs : ∀ i, i < j + 1 → ¬ (¬ op i = 0 ∧ f ≤ be i ∧ be i < g) := lt_s hs (fun q => Int32.lt_irrefl (Int32.lt_of_lt_of_le c3 q.2.1))
            refine lv_iinc (v := (nI (j + 1))) (lv' := [(3, .int (nI (j + 1))), (0, .ref (a 0)), (1, .int f), (2, .int g)]) hx hb dX0_isSeen_39 hl (k := 3) rfl (ii1 j) (by decide) rfl (fun ls hl => ?_)
            have hl : lv_has ls 4 [(0, .ref (a 0)), (1, .int f), (2, .int g), (3, .int (nI (j + 1)))] := lv_sub hl [1, 2, 3, 0] rfl
            refine lv_goto (tgt := 2) hx hb dX0_isSeen_42 (by decide) ?_
            exact ih _ ls (by omega) hs hl
          · refine lv_aload_n hx hb dX0_isSeen_27 rfl (lv_at hl 0 rfl) ?_
            refine xg_be C hI dX0_isSeen_28 ?_
            refine lv_iload_n hx hb dX0_isSeen_31 rfl (lv_at hl 3 rfl) ?_
            refine xl_be C hI rfl (by omega) dX0_isSeen_32 ?_
            refine lv_iload_n hx hb dX0_isSeen_33 rfl (lv_at hl 2 rfl) ?_
            refine lv_icmp_ge (tgt := 39) hx hb dX0_isSeen_34 (by decide) (fun c4 => ?_) (fun c4 => ?_)
            · have hs : ∀ i, i < j + 1 → ¬ (¬ op i = 0 ∧ f ≤ be i ∧ be i < g) := lt_s hs (fun q => Int32.lt_irrefl (Int32.lt_of_lt_of_le q.2.2 c4))
              refine lv_iinc (v := (nI (j + 1))) (lv' := [(3, .int (nI (j + 1))), (0, .ref (a 0)), (1, .int f), (2, .int g)]) hx hb dX0_isSeen_39 hl (k := 3) rfl (ii1 j) (by decide) rfl (fun ls hl => ?_)
              have hl : lv_has ls 4 [(0, .ref (a 0)), (1, .int f), (2, .int g), (3, .int (nI (j + 1)))] := lv_sub hl [1, 2, 3, 0] rfl
              refine lv_goto (tgt := 2) hx hb dX0_isSeen_42 (by decide) ?_
              exact ih _ ls (by omega) hs hl
            · refine lv_iconst (v := 1) hx hb dX0_isSeen_37 (by decide) ?_
              exact hret _ _ _ _ _ _ dX0_isSeen_38 rfl ⟨rfl, Or.inl ⟨⟨j, by omega, c2, Int32.not_lt.mp c3, Int32.not_le.mp c4⟩, rfl⟩⟩ hI
  refine lv_iconst (v := (nI 0)) hx hb dX0_isSeen_0 (by decide) ?_
  refine lv_istore_n (lv' := [(3, .int (nI 0)), (0, .ref (a 0)), (1, .int f), (2, .int g)]) hx hb dX0_isSeen_1 rfl hl (by decide) rfl (fun ls hl => ?_)
  have hl : lv_has ls 4 [(0, .ref (a 0)), (1, .int f), (2, .int g), (3, .int (nI 0))] := lv_sub hl [1, 2, 3, 0] rfl
  exact loop 6 0 ls rfl lt_0 hl
end
section
/-! THE STORE, 2: read, write, add, abort, may it commit, might, committed, sum, how many run, begin -/
set_option maxRecDepth 100000
set_option maxHeartbeats 4000000 in
/-- read -/
theorem kX0_read (l : Launch) (D : va_G) (cI cZ : ClassId) (a : Nat → Nat) (vo co ol : Nat → Int32) (fv fc : Int32) (nw : Nat → Int32) (cm : Int32) (op se be wr sn ow : Nat → Int32) (t cell : Int32) (Cs : Nat → List Nat) (F : List Nat) (hX : XR ol fv fc nw Cs F) : WMi l yX0_read cX0_read 3 (some .int) 2 46 D cI cZ [.ref (a 0), .int t, .int cell] (xw cI cZ a (vo, co, ol, fv, fc, nw, cm, op, se, be, wr, sn, ow)) (xw cI cZ a) (fun r u => ∃ sn', u = (vo, co, ol, fv, fc, nw, cm, op, se, be, wr, sn', ow) ∧ XRead vo co op be wr sn ow Cs t cell r sn') := by
  refine wstart_i RX0 (by decide) rfl (Nat.le_of_ble_eq_true rfl) ?_
  intro p e R s m args below meth cd A Q ls hRf hRl C hl hI hret
  have hx := C.1
  have hb := C.2.1
  have hl : lv_has ls 3 [(0, .ref (a 0)), (1, .int t), (2, .int cell)] := hl
  refine lv_aload_n hx hb dX0_read_0 rfl (lv_at hl 0 rfl) ?_
  refine lv_iload_n hx hb dX0_read_1 rfl (lv_at hl 1 rfl) ?_
  refine wcall_i (n := 1) (wr := []) (rest := []) (kX0_isOpen l D cI cZ a vo co ol fv fc nw cm op se be wr sn ow t) C (lw_V q72 q74 qs0 q12 q75) (by decide +kernel) ⟨by rw [hRf]; decide, by rw [hRl]; decide⟩ ⟨Nat.zero_le _, Nat.zero_le _⟩ rfl rfl hI.nil rfl hl.1 rfl (Nat.le_of_ble_eq_true rfl) dX0_read_2 (fun r1 u1 H locs hp hI => ?_)
  have hI : wI D cI cZ A s (xw cI cZ a u1) H locs := hI
  obtain ⟨rfl, hp⟩ := hp
  rcases hp with ⟨k, ⟨hk, rfl, ho⟩, rfl⟩ | ⟨hno, rfl⟩
  · refine lv_if_eq (tgt := 15) hx hb dX0_read_5 (by decide) (fun c1 => ?_) (fun c1 => ?_)
    · exact absurd c1 (by decide)
    · refine lv_iload_n hx hb dX0_read_8 rfl (lv_at hl 2 rfl) ?_
      refine wcall_s (n := 1) (rest := []) (kX0_isCell l D cI cZ cell) C (lw_S q76 q77 q12 q78) (by decide +kernel) ⟨by rw [hRf]; decide, by rw [hRl]; decide⟩ ⟨Nat.zero_le _, Nat.zero_le _⟩ hI rfl hl.1 rfl (Nat.le_of_ble_eq_true rfl) dX0_read_9 (fun r2 H locs hp2 hI => ?_)
      rcases hp2 with ⟨i, hi, rfl, rfl⟩ | ⟨hnc, rfl⟩
      · refine lv_if_ne (tgt := 17) hx hb dX0_read_12 (by decide) (fun c2 => ?_) (fun c2 => ?_)
        · refine lv_aload_n hx hb dX0_read_17 rfl (lv_at hl 0 rfl) ?_
          refine lv_iload_n hx hb dX0_read_18 rfl (lv_at hl 1 rfl) ?_
          refine lv_iload_n hx hb dX0_read_19 rfl (lv_at hl 2 rfl) ?_
          refine wcall_v (n := 2) (wr := []) (rest := []) (kX0_note l D cI cZ a vo co ol fv fc nw cm op se be wr sn ow k i hk hi) C (lw_V q79 q81 qs1 q12 q82) (by decide +kernel) ⟨by rw [hRf]; decide, by rw [hRl]; decide⟩ ⟨Nat.zero_le _, Nat.zero_le _⟩ rfl rfl hI.nil rfl hl.1 rfl (Nat.le_of_ble_eq_true rfl) dX0_read_20 (fun u3 H locs hp3 hI => ?_)
          have hI : wI D cI cZ A s (xw cI cZ a u3) H locs := hI
          obtain ⟨sn', rfl, hsn⟩ := hp3
          refine lv_aload_n hx hb dX0_read_23 rfl (lv_at hl 0 rfl) ?_
          refine lv_iload_n hx hb dX0_read_24 rfl (lv_at hl 1 rfl) ?_
          refine lv_iload_n hx hb dX0_read_25 rfl (lv_at hl 2 rfl) ?_
          refine wcall_i (n := 2) (wr := []) (rest := []) (kX0_visible l D cI cZ a vo co ol fv fc nw cm op se be wr sn' ow k i hk hi Cs (hX.1 i hi) (hX.len hi)) C (lw_V q83 q85 qs2 q12 q86) (by decide +kernel) ⟨by rw [hRf]; decide, by rw [hRl]; decide⟩ ⟨Nat.zero_le _, Nat.zero_le _⟩ rfl rfl hI.nil rfl hl.1 rfl (Nat.le_of_ble_eq_true rfl) dX0_read_26 (fun r4 u4 H locs hp4 hI => ?_)
          have hI : wI D cI cZ A s (xw cI cZ a u4) H locs := hI
          obtain ⟨rfl, hr⟩ := hp4
          exact hret _ _ _ _ _ _ dX0_read_29 rfl ⟨sn', rfl, Or.inl ⟨k, i, ⟨hk, hi, rfl, rfl, ho⟩, hr, hsn⟩⟩ hI
        · exact absurd c2 (by decide)
      · refine lv_if_ne (tgt := 17) hx hb dX0_read_12 (by decide) (fun c2 => ?_) (fun c2 => ?_)
        · exact absurd rfl c2
        · refine lv_iconst (v := 0) hx hb dX0_read_15 (by decide) ?_
          exact hret _ _ _ _ _ _ dX0_read_16 rfl ⟨_, rfl, Or.inr ⟨(fun k2 i2 q => hnc i2 q.2.1 q.2.2.2.1), rfl, rfl⟩⟩ hI
  · refine lv_if_eq (tgt := 15) hx hb dX0_read_5 (by decide) (fun c1 => ?_) (fun c1 => ?_)
    · refine lv_iconst (v := 0) hx hb dX0_read_15 (by decide) ?_
      exact hret _ _ _ _ _ _ dX0_read_16 rfl ⟨_, rfl, Or.inr ⟨(fun k2 i2 q => hno k2 ⟨q.1, q.2.2.1, q.2.2.2.2⟩), rfl, rfl⟩⟩ hI
    · exact absurd rfl c1
set_option maxHeartbeats 4000000 in
/-- write -/
theorem kX0_write (l : Launch) (D : va_G) (cI cZ : ClassId) (a : Nat → Nat) (vo co ol : Nat → Int32) (fv fc : Int32) (nw : Nat → Int32) (cm : Int32) (op se be wr sn ow : Nat → Int32) (t cell v : Int32)  : WMi l yX0_write cX0_write 4 (some .int) 1 21 D cI cZ [.ref (a 0), .int t, .int cell, .int v] (xw cI cZ a (vo, co, ol, fv, fc, nw, cm, op, se, be, wr, sn, ow)) (xw cI cZ a) (fun r u => ∃ wr' ow', u = (vo, co, ol, fv, fc, nw, cm, op, se, be, wr', sn, ow') ∧ XWrite op wr ow t cell v r wr' ow') := by
  refine wstart_i RX0 (by decide) rfl (Nat.le_of_ble_eq_true rfl) ?_
  intro p e R s m args below meth cd A Q ls hRf hRl C hl hI hret
  have hx := C.1
  have hb := C.2.1
  have hl : lv_has ls 4 [(0, .ref (a 0)), (1, .int t), (2, .int cell), (3, .int v)] := hl
  refine lv_aload_n hx hb dX0_write_0 rfl (lv_at hl 0 rfl) ?_
  refine lv_iload_n hx hb dX0_write_1 rfl (lv_at hl 1 rfl) ?_
  refine wcall_i (n := 1) (wr := []) (rest := []) (kX0_isOpen l D cI cZ a vo co ol fv fc nw cm op se be wr sn ow t) C (lw_V q72 q74 qs0 q12 q75) (by decide +kernel) ⟨by rw [hRf]; decide, by rw [hRl]; decide⟩ ⟨Nat.zero_le _, Nat.zero_le _⟩ rfl rfl hI.nil rfl hl.1 rfl (Nat.le_of_ble_eq_true rfl) dX0_write_2 (fun r1 u1 H locs hp hI => ?_)
  have hI : wI D cI cZ A s (xw cI cZ a u1) H locs := hI
  obtain ⟨rfl, hp⟩ := hp
  rcases hp with ⟨k, ⟨hk, rfl, ho⟩, rfl⟩ | ⟨hno, rfl⟩
  · refine lv_if_eq (tgt := 15) hx hb dX0_write_5 (by decide) (fun c1 => ?_) (fun c1 => ?_)
    · exact absurd c1 (by decide)
    · refine lv_iload_n hx hb dX0_write_8 rfl (lv_at hl 2 rfl) ?_
      refine wcall_s (n := 1) (rest := []) (kX0_isCell l D cI cZ cell) C (lw_S q76 q77 q12 q78) (by decide +kernel) ⟨by rw [hRf]; decide, by rw [hRl]; decide⟩ ⟨Nat.zero_le _, Nat.zero_le _⟩ hI rfl hl.1 rfl (Nat.le_of_ble_eq_true rfl) dX0_write_9 (fun r2 H locs hp2 hI => ?_)
      rcases hp2 with ⟨i, hi, rfl, rfl⟩ | ⟨hnc, rfl⟩
      · refine lv_if_ne (tgt := 17) hx hb dX0_write_12 (by decide) (fun c2 => ?_) (fun c2 => ?_)
        · refine lv_aload_n hx hb dX0_write_17 rfl (lv_at hl 0 rfl) ?_
          refine xg_ow C hI dX0_write_18 ?_
          refine lv_bipush (v := 16) hx hb dX0_write_21 (by decide) ?_
          refine lv_iload_n hx hb dX0_write_23 rfl (lv_at hl 1 rfl) ?_
          refine lv_imul hx hb dX0_write_24 ?_
          refine lv_iload_n hx hb dX0_write_25 rfl (lv_at hl 2 rfl) ?_
          refine lv_iadd hx hb dX0_write_26 ?_
          refine lv_iload_n hx hb dX0_write_27 rfl (lv_at hl 3 rfl) ?_
          refine xs_ow C hI (ix16 k i) (by omega) dX0_write_28 (fun H locs hI => ?_)
          refine lv_aload_n hx hb dX0_write_29 rfl (lv_at hl 0 rfl) ?_
          refine xg_wr C hI dX0_write_30 ?_
          refine lv_iload_n hx hb dX0_write_33 rfl (lv_at hl 1 rfl) ?_
          refine lv_dup2_11 hx hb dX0_write_34 rfl rfl ?_
          refine xl_wr C hI rfl hk dX0_write_35 ?_
          refine lv_iconst (v := 1) hx hb dX0_write_36 (by decide) ?_
          refine lv_iload_n hx hb dX0_write_37 rfl (lv_at hl 2 rfl) ?_
          refine lv_ishl hx hb dX0_write_38 ?_
          refine lv_ior hx hb dX0_write_39 ?_
          refine xs_wr C hI rfl hk dX0_write_40 (fun H locs hI => ?_)
          refine lv_iconst (v := 0) hx hb dX0_write_41 (by decide) ?_
          exact hret _ _ _ _ _ _ dX0_write_42 rfl ⟨_, _, rfl, Or.inl ⟨k, i, ⟨hk, hi, rfl, rfl, ho⟩, rfl, rfl, rfl⟩⟩ hI
        · exact absurd c2 (by decide)
      · refine lv_if_ne (tgt := 17) hx hb dX0_write_12 (by decide) (fun c2 => ?_) (fun c2 => ?_)
        · exact absurd rfl c2
        · refine lv_iconst (v := (-1)) hx hb dX0_write_15 (by decide) ?_
          exact hret _ _ _ _ _ _ dX0_write_16 rfl ⟨_, _, rfl, Or.inr ⟨(fun k2 i2 q => hnc i2 q.2.1 q.2.2.2.1), rfl, rfl, rfl⟩⟩ hI
  · refine lv_if_eq (tgt := 15) hx hb dX0_write_5 (by decide) (fun c1 => ?_) (fun c1 => ?_)
    · refine lv_iconst (v := (-1)) hx hb dX0_write_15 (by decide) ?_
      exact hret _ _ _ _ _ _ dX0_write_16 rfl ⟨_, _, rfl, Or.inr ⟨(fun k2 i2 q => hno k2 ⟨q.1, q.2.2.1, q.2.2.2.2⟩), rfl, rfl, rfl⟩⟩ hI
    · exact absurd rfl c1
set_option maxHeartbeats 4000000 in
/-- add -/
theorem kX0_add (l : Launch) (D : va_G) (cI cZ : ClassId) (a : Nat → Nat) (vo co ol : Nat → Int32) (fv fc : Int32) (nw : Nat → Int32) (cm : Int32) (op se be wr sn ow : Nat → Int32) (t cell v : Int32) (Cs : Nat → List Nat) (F : List Nat) (hX : XR ol fv fc nw Cs F) : WMi l yX0_add cX0_add 5 (some .int) 2 46 D cI cZ [.ref (a 0), .int t, .int cell, .int v] (xw cI cZ a (vo, co, ol, fv, fc, nw, cm, op, se, be, wr, sn, ow)) (xw cI cZ a) (fun r u => ∃ wr' sn' ow', u = (vo, co, ol, fv, fc, nw, cm, op, se, be, wr', sn', ow') ∧ XAdd vo co op be wr sn ow Cs t cell v r wr' sn' ow') := by
  refine wstart_i RX0 (by decide) rfl (Nat.le_of_ble_eq_true rfl) ?_
  intro p e R s m args below meth cd A Q ls hRf hRl C hl hI hret
  have hx := C.1
  have hb := C.2.1
  have hl : lv_has ls 5 [(0, .ref (a 0)), (1, .int t), (2, .int cell), (3, .int v)] := hl
  refine lv_aload_n hx hb dX0_add_0 rfl (lv_at hl 0 rfl) ?_
  refine lv_iload_n hx hb dX0_add_1 rfl (lv_at hl 1 rfl) ?_
  refine wcall_i (n := 1) (wr := []) (rest := []) (kX0_isOpen l D cI cZ a vo co ol fv fc nw cm op se be wr sn ow t) C (lw_V q72 q74 qs0 q12 q75) (by decide +kernel) ⟨by rw [hRf]; decide, by rw [hRl]; decide⟩ ⟨Nat.zero_le _, Nat.zero_le _⟩ rfl rfl hI.nil rfl hl.1 rfl (Nat.le_of_ble_eq_true rfl) dX0_add_2 (fun r1 u1 H locs hp hI => ?_)
  have hI : wI D cI cZ A s (xw cI cZ a u1) H locs := hI
  obtain ⟨rfl, hp⟩ := hp
  rcases hp with ⟨k, ⟨hk, rfl, ho⟩, rfl⟩ | ⟨hno, rfl⟩
  · refine lv_if_eq (tgt := 15) hx hb dX0_add_5 (by decide) (fun c1 => ?_) (fun c1 => ?_)
    · exact absurd c1 (by decide)
    · refine lv_iload_n hx hb dX0_add_8 rfl (lv_at hl 2 rfl) ?_
      refine wcall_s (n := 1) (rest := []) (kX0_isCell l D cI cZ cell) C (lw_S q76 q77 q12 q78) (by decide +kernel) ⟨by rw [hRf]; decide, by rw [hRl]; decide⟩ ⟨Nat.zero_le _, Nat.zero_le _⟩ hI rfl hl.1 rfl (Nat.le_of_ble_eq_true rfl) dX0_add_9 (fun r2 H locs hp2 hI => ?_)
      rcases hp2 with ⟨i, hi, rfl, rfl⟩ | ⟨hnc, rfl⟩
      · refine lv_if_ne (tgt := 17) hx hb dX0_add_12 (by decide) (fun c2 => ?_) (fun c2 => ?_)
        · refine lv_aload_n hx hb dX0_add_17 rfl (lv_at hl 0 rfl) ?_
          refine lv_iload_n hx hb dX0_add_18 rfl (lv_at hl 1 rfl) ?_
          refine lv_iload_n hx hb dX0_add_19 rfl (lv_at hl 2 rfl) ?_
          refine wcall_v (n := 2) (wr := []) (rest := []) (kX0_note l D cI cZ a vo co ol fv fc nw cm op se be wr sn ow k i hk hi) C (lw_V q79 q81 qs1 q12 q82) (by decide +kernel) ⟨by rw [hRf]; decide, by rw [hRl]; decide⟩ ⟨Nat.zero_le _, Nat.zero_le _⟩ rfl rfl hI.nil rfl hl.1 rfl (Nat.le_of_ble_eq_true rfl) dX0_add_20 (fun u3 H locs hp3 hI => ?_)
          have hI : wI D cI cZ A s (xw cI cZ a u3) H locs := hI
          obtain ⟨sn', rfl, hsn⟩ := hp3
          refine lv_aload_n hx hb dX0_add_23 rfl (lv_at hl 0 rfl) ?_
          refine lv_iload_n hx hb dX0_add_24 rfl (lv_at hl 1 rfl) ?_
          refine lv_iload_n hx hb dX0_add_25 rfl (lv_at hl 2 rfl) ?_
          refine wcall_i (n := 2) (wr := []) (rest := []) (kX0_visible l D cI cZ a vo co ol fv fc nw cm op se be wr sn' ow k i hk hi Cs (hX.1 i hi) (hX.len hi)) C (lw_V q83 q85 qs2 q12 q86) (by decide +kernel) ⟨by rw [hRf]; decide, by rw [hRl]; decide⟩ ⟨Nat.zero_le _, Nat.zero_le _⟩ rfl rfl hI.nil rfl hl.1 rfl (Nat.le_of_ble_eq_true rfl) dX0_add_26 (fun r4 u4 H locs hp4 hI => ?_)
          have hI : wI D cI cZ A s (xw cI cZ a u4) H locs := hI
          obtain ⟨rfl, hr⟩ := hp4
          refine lv_iload_n hx hb dX0_add_29 rfl (lv_at hl 3 rfl) ?_
          refine lv_iadd hx hb dX0_add_30 ?_
          refine lv_topi (fun x4 ex4 => ?_)
          refine lv_istore (lv' := [(4, .int x4), (0, .ref (a 0)), (1, .int (nI k)), (2, .int (nI i)), (3, .int v)]) hx hb dX0_add_31 hl (by decide) rfl (fun ls hl => ?_)
          have hl : lv_has ls 5 [(0, .ref (a 0)), (1, .int (nI k)), (2, .int (nI i)), (3, .int v), (4, .int x4)] := lv_sub hl [1, 2, 3, 4, 0] rfl
          refine lv_aload_n hx hb dX0_add_33 rfl (lv_at hl 0 rfl) ?_
          refine lv_iload_n hx hb dX0_add_34 rfl (lv_at hl 1 rfl) ?_
          refine lv_iload_n hx hb dX0_add_35 rfl (lv_at hl 2 rfl) ?_
          refine lv_iload hx hb dX0_add_36 (lv_at hl 4 rfl) ?_
          refine wcall_i (n := 3) (wr := []) (rest := []) (kX0_write l D cI cZ a vo co ol fv fc nw cm op se be wr sn' ow (nI k) (nI i) x4) C (lw_V q99 q92 q93 q12 q94) (by decide +kernel) ⟨by rw [hRf]; decide, by rw [hRl]; decide⟩ ⟨Nat.zero_le _, Nat.zero_le _⟩ rfl rfl hI.nil rfl hl.1 rfl (Nat.le_of_ble_eq_true rfl) dX0_add_38 (fun r5 u5 H locs hp5 hI => ?_)
          have hI : wI D cI cZ A s (xw cI cZ a u5) H locs := hI
          obtain ⟨wr', ow', rfl, hw⟩ := hp5
          rcases hw with ⟨k2, i2, hv2, -, e1, e2⟩ | ⟨hv2, -⟩
          · obtain ⟨rfl, rfl⟩ := val_one (⟨hk, hi, rfl, rfl, ho⟩ : Val op (nI k) (nI i) k i) hv2
            refine lv_pop hx hb dX0_add_41 rfl ?_
            refine lv_iload hx hb dX0_add_42 (lv_at hl 4 rfl) ?_
            exact hret _ _ _ _ _ _ dX0_add_44 rfl ⟨wr', sn', ow', rfl, Or.inl ⟨_, _, hv2, by rw [ex4, hr], hsn, e1, e2⟩⟩ hI
          · exact absurd ⟨hk, hi, rfl, rfl, ho⟩ (hv2 k i)
        · exact absurd c2 (by decide)
      · refine lv_if_ne (tgt := 17) hx hb dX0_add_12 (by decide) (fun c2 => ?_) (fun c2 => ?_)
        · exact absurd rfl c2
        · refine lv_iconst (v := 0) hx hb dX0_add_15 (by decide) ?_
          exact hret _ _ _ _ _ _ dX0_add_16 rfl ⟨_, _, _, rfl, Or.inr ⟨(fun k2 i2 q => hnc i2 q.2.1 q.2.2.2.1), rfl, rfl, rfl, rfl⟩⟩ hI
  · refine lv_if_eq (tgt := 15) hx hb dX0_add_5 (by decide) (fun c1 => ?_) (fun c1 => ?_)
    · refine lv_iconst (v := 0) hx hb dX0_add_15 (by decide) ?_
      exact hret _ _ _ _ _ _ dX0_add_16 rfl ⟨_, _, _, rfl, Or.inr ⟨(fun k2 i2 q => hno k2 ⟨q.1, q.2.2.1, q.2.2.2.2⟩), rfl, rfl, rfl, rfl⟩⟩ hI
    · exact absurd rfl c1
set_option maxHeartbeats 4000000 in
/-- abort -/
theorem kX0_abort (l : Launch) (D : va_G) (cI cZ : ClassId) (a : Nat → Nat) (vo co ol : Nat → Int32) (fv fc : Int32) (nw : Nat → Int32) (cm : Int32) (op se be wr sn ow : Nat → Int32) (t : Int32)  : WMi l yX0_abort cX0_abort 2 (some .int) 1 21 D cI cZ [.ref (a 0), .int t] (xw cI cZ a (vo, co, ol, fv, fc, nw, cm, op, se, be, wr, sn, ow)) (xw cI cZ a) (fun r u => ∃ op', u = (vo, co, ol, fv, fc, nw, cm, op', se, be, wr, sn, ow) ∧ Abort op t r op') := by
  refine wstart_i RX0 (by decide) rfl (Nat.le_of_ble_eq_true rfl) ?_
  intro p e R s m args below meth cd A Q ls hRf hRl C hl hI hret
  have hx := C.1
  have hb := C.2.1
  have hl : lv_has ls 2 [(0, .ref (a 0)), (1, .int t)] := hl
  refine lv_aload_n hx hb dX0_abort_0 rfl (lv_at hl 0 rfl) ?_
  refine lv_iload_n hx hb dX0_abort_1 rfl (lv_at hl 1 rfl) ?_
  refine wcall_i (n := 1) (wr := []) (rest := []) (kX0_isOpen l D cI cZ a vo co ol fv fc nw cm op se be wr sn ow t) C (lw_V q72 q74 qs0 q12 q75) (by decide +kernel) ⟨by rw [hRf]; decide, by rw [hRl]; decide⟩ ⟨Nat.zero_le _, Nat.zero_le _⟩ rfl rfl hI.nil rfl hl.1 rfl (Nat.le_of_ble_eq_true rfl) dX0_abort_2 (fun r1 u1 H locs hp hI => ?_)
  have hI : wI D cI cZ A s (xw cI cZ a u1) H locs := hI
  obtain ⟨rfl, hp⟩ := hp
  rcases hp with ⟨k, ⟨hk, rfl, ho⟩, rfl⟩ | ⟨hno, rfl⟩
  · refine lv_if_ne (tgt := 10) hx hb dX0_abort_5 (by decide) (fun c1 => ?_) (fun c1 => ?_)
    · refine lv_aload_n hx hb dX0_abort_10 rfl (lv_at hl 0 rfl) ?_
      refine xg_op C hI dX0_abort_11 ?_
      refine lv_iload_n hx hb dX0_abort_14 rfl (lv_at hl 1 rfl) ?_
      refine lv_iconst (v := 0) hx hb dX0_abort_15 (by decide) ?_
      refine xs_op (y9 := 0) C (by decide) hI rfl hk dX0_abort_16 (fun H locs hI => ?_)
      refine lv_iconst (v := 0) hx hb dX0_abort_17 (by decide) ?_
      exact hret _ _ _ _ _ _ dX0_abort_18 rfl ⟨_, rfl, Or.inl ⟨k, ⟨hk, rfl, ho⟩, rfl, rfl⟩⟩ hI
    · exact absurd c1 (by decide)
  · refine lv_if_ne (tgt := 10) hx hb dX0_abort_5 (by decide) (fun c1 => ?_) (fun c1 => ?_)
    · exact absurd rfl c1
    · refine lv_iconst (v := (-1)) hx hb dX0_abort_8 (by decide) ?_
      exact hret _ _ _ _ _ _ dX0_abort_9 rfl ⟨_, rfl, Or.inr ⟨hno, rfl, rfl⟩⟩ hI
set_option maxHeartbeats 4000000 in
/-- whether no cell that matters was written behind its beginning -/
theorem kX0_mayCommit (l : Launch) (D : va_G) (cI cZ : ClassId) (a : Nat → Nat) (vo co ol : Nat → Int32) (fv fc : Int32) (nw : Nat → Int32) (cm : Int32) (op se be wr sn ow : Nat → Int32)  (k : Nat) (hk : k < 6) (Cs : Nat → List Nat) (F : List Nat) (hX : XR ol fv fc nw Cs F) : WMi l yX0_mayCommit cX0_mayCommit 5 (some .boolean) 0 0 D cI cZ [.ref (a 0), .int (nI k)] (xw cI cZ a (vo, co, ol, fv, fc, nw, cm, op, se, be, wr, sn, ow)) (xw cI cZ a) (fun r u => u = (vo, co, ol, fv, fc, nw, cm, op, se, be, wr, sn, ow) ∧ ((OvX co se be wr sn Cs k ∧ r = 0) ∨ (¬ OvX co se be wr sn Cs k ∧ r = 1))) := by
  refine wstart_i RX0 (by decide) rfl (Nat.le_of_ble_eq_true rfl) ?_
  intro p e R s m args below meth cd A Q ls hRf hRl C hl hI hret
  have hx := C.1
  have hb := C.2.1
  have hl : lv_has ls 5 [(0, .ref (a 0)), (1, .int (nI k))] := hl
  have loop : ∀ (n j : Nat) (ls : Array Slot), j + n = 16 → (∀ i, i < j → ¬ (bt (conc se wr sn k) i = true ∧ Nwr co (be k) (Cs i))) → lv_has ls 5 [(0, .ref (a 0)), (1, .int (nI k)), (2, .int (conc se wr sn k)), (3, .int (nI j))] → W p l e R s m args below meth cd s.heap [] 0 0 Q (F0 m 34 ls []) := by
    intro n
    induction n with
    | zero =>
      intro j ls hj hs hl
      refine lv_iload_n hx hb dX0_mayCommit_34 rfl (lv_at hl 3 rfl) ?_
      refine lv_bipush (v := (nI 16)) hx hb dX0_mayCommit_35 (by decide) ?_
      refine lv_icmp_ge (tgt := 97) hx hb dX0_mayCommit_37 (by decide) (fun c1 => ?_) (fun c1 => ?_)
      · refine lv_iconst (v := 1) hx hb dX0_mayCommit_97 (by decide) ?_
        exact hret _ _ _ _ _ _ dX0_mayCommit_98 rfl ⟨rfl, Or.inr ⟨fun q => by obtain ⟨i, hi, q⟩ := q; exact hs i (by omega) q, rfl⟩⟩ hI
      · exact absurd (nI_le (by omega) (by omega)) c1
    | succ n ih =>
      intro j ls hj hs hl
      have hch := hX.1 j (by omega)
      have mid : ∀ (nv : Int32), ((nv = 1 ∧ Nwr co (be k) (Cs j)) ∨ (nv = 0 ∧ ¬ Nwr co (be k) (Cs j))) → W p l e R s m args below meth cd s.heap [] 0 0 Q (F0 m 74 ls [.int nv]) := by
        intro nv hnv
        refine lv_istore (lv' := [(4, .int nv), (0, .ref (a 0)), (1, .int (nI k)), (2, .int (conc se wr sn k)), (3, .int (nI j))]) hx hb dX0_mayCommit_74 hl (by decide) rfl (fun ls hl => ?_)
        have hl : lv_has ls 5 [(0, .ref (a 0)), (1, .int (nI k)), (2, .int (conc se wr sn k)), (3, .int (nI j)), (4, .int nv)] := lv_sub hl [1, 2, 3, 4, 0] rfl
        refine lv_iload_n hx hb dX0_mayCommit_76 rfl (lv_at hl 2 rfl) ?_
        refine lv_iload_n hx hb dX0_mayCommit_77 rfl (lv_at hl 3 rfl) ?_
        refine lv_iushr hx hb dX0_mayCommit_78 rfl ?_
        refine lv_iconst (v := 1) hx hb dX0_mayCommit_79 (by decide) ?_
        refine lv_iand hx hb dX0_mayCommit_80 ?_
        refine lv_if_eq (tgt := 91) hx hb dX0_mayCommit_81 (by decide) (fun c2 => ?_) (fun c2 => ?_)
        · have hs : ∀ i, i < j + 1 → ¬ (bt (conc se wr sn k) i = true ∧ Nwr co (be k) (Cs i)) := lt_s hs (fun q => nbt (bq0 (by omega) c2) q.1)
          refine lv_iinc (v := (nI (j + 1))) (lv' := [(3, .int (nI (j + 1))), (0, .ref (a 0)), (1, .int (nI k)), (2, .int (conc se wr sn k)), (4, .int nv)]) hx hb dX0_mayCommit_91 hl (k := 3) rfl (ii1 j) (by decide) rfl (fun ls hl => ?_)
          have hl : lv_has ls 5 [(0, .ref (a 0)), (1, .int (nI k)), (2, .int (conc se wr sn k)), (3, .int (nI (j + 1))), (4, .int nv)] := lv_sub hl [1, 2, 3, 0, 4] rfl
          refine lv_goto (tgt := 34) hx hb dX0_mayCommit_94 (by decide) ?_
          exact ih _ ls (by omega) hs (lv_sub hl [0, 1, 2, 3] rfl)
        · refine lv_iload hx hb dX0_mayCommit_84 (lv_at hl 4 rfl) ?_
          refine lv_if_eq (tgt := 91) hx hb dX0_mayCommit_86 (by decide) (fun c3 => ?_) (fun c3 => ?_)
          · have hnn : ¬ Nwr co (be k) (Cs j) := by
              rcases hnv with ⟨e1, -⟩ | ⟨-, q⟩
              · rw [e1] at c3
                exact absurd c3 (by decide)
              · exact q
            have hs : ∀ i, i < j + 1 → ¬ (bt (conc se wr sn k) i = true ∧ Nwr co (be k) (Cs i)) := lt_s hs (fun q => hnn q.2)
            refine lv_iinc (v := (nI (j + 1))) (lv' := [(3, .int (nI (j + 1))), (0, .ref (a 0)), (1, .int (nI k)), (2, .int (conc se wr sn k)), (4, .int nv)]) hx hb dX0_mayCommit_91 hl (k := 3) rfl (ii1 j) (by decide) rfl (fun ls hl => ?_)
            have hl : lv_has ls 5 [(0, .ref (a 0)), (1, .int (nI k)), (2, .int (conc se wr sn k)), (3, .int (nI (j + 1))), (4, .int nv)] := lv_sub hl [1, 2, 3, 0, 4] rfl
            refine lv_goto (tgt := 34) hx hb dX0_mayCommit_94 (by decide) ?_
            exact ih _ ls (by omega) hs (lv_sub hl [0, 1, 2, 3] rfl)
          · have hnn : Nwr co (be k) (Cs j) := by
              rcases hnv with ⟨-, q⟩ | ⟨e1, -⟩
              · exact q
              · exact absurd e1 c3
            refine lv_iconst (v := 0) hx hb dX0_mayCommit_89 (by decide) ?_
            exact hret _ _ _ _ _ _ dX0_mayCommit_90 rfl ⟨rfl, Or.inl ⟨⟨j, by omega, bq1 (by omega) c2, hnn⟩, rfl⟩⟩ hI
      refine lv_iload_n hx hb dX0_mayCommit_34 rfl (lv_at hl 3 rfl) ?_
      refine lv_bipush (v := (nI 16)) hx hb dX0_mayCommit_35 (by decide) ?_
      refine lv_icmp_ge (tgt := 97) hx hb dX0_mayCommit_37 (by decide) (fun c1 => ?_) (fun c1 => ?_)
      · exact absurd c1 (nI_ge (by omega) (by decide))
      · refine lv_aload_n hx hb dX0_mayCommit_40 rfl (lv_at hl 0 rfl) ?_
        refine xg_nw C hI dX0_mayCommit_41 ?_
        refine lv_iload_n hx hb dX0_mayCommit_44 rfl (lv_at hl 3 rfl) ?_
        refine xl_nw C hI rfl (by omega) dX0_mayCommit_45 ?_
        refine lv_if_lt (tgt := 73) hx hb dX0_mayCommit_46 (by decide) (fun c2 => ?_) (fun c2 => ?_)
        · refine lv_iconst (v := 0) hx hb dX0_mayCommit_73 (by decide) ?_
          exact mid 0 (Or.inr ⟨rfl, fun q => by obtain ⟨k2, L2, e2, -⟩ := q; rw [hch.neg c2] at e2; cases e2⟩)
        · obtain ⟨k2, L2, e2, e3, hk2, -⟩ := hch.pos c2
          refine lv_aload_n hx hb dX0_mayCommit_49 rfl (lv_at hl 0 rfl) ?_
          refine xg_co C hI dX0_mayCommit_50 ?_
          refine lv_aload_n hx hb dX0_mayCommit_53 rfl (lv_at hl 0 rfl) ?_
          refine xg_nw C hI dX0_mayCommit_54 ?_
          refine lv_iload_n hx hb dX0_mayCommit_57 rfl (lv_at hl 3 rfl) ?_
          refine xl_nw C hI rfl (by omega) dX0_mayCommit_58 ?_
          refine xl_co C hI e3 hk2 dX0_mayCommit_59 ?_
          refine lv_aload_n hx hb dX0_mayCommit_60 rfl (lv_at hl 0 rfl) ?_
          refine xg_be C hI dX0_mayCommit_61 ?_
          refine lv_iload_n hx hb dX0_mayCommit_64 rfl (lv_at hl 1 rfl) ?_
          refine xl_be C hI rfl hk dX0_mayCommit_65 ?_
          refine lv_icmp_le (tgt := 73) hx hb dX0_mayCommit_66 (by decide) (fun c3 => ?_) (fun c3 => ?_)
          · refine lv_iconst (v := 0) hx hb dX0_mayCommit_73 (by decide) ?_
            exact mid 0 (Or.inr ⟨rfl, fun q => by obtain ⟨k3, L3, e4, q⟩ := q; rw [e2] at e4; cases e4; exact Int32.lt_irrefl (Int32.lt_of_lt_of_le q c3)⟩)
          · refine lv_iconst (v := 1) hx hb dX0_mayCommit_69 (by decide) ?_
            refine lv_goto (tgt := 74) hx hb dX0_mayCommit_70 (by decide) ?_
            exact mid 1 (Or.inl ⟨rfl, k2, L2, e2, Int32.not_le.mp c3⟩)
  refine lv_aload_n hx hb dX0_mayCommit_0 rfl (lv_at hl 0 rfl) ?_
  refine xg_se C hI dX0_mayCommit_1 ?_
  refine lv_iload_n hx hb dX0_mayCommit_4 rfl (lv_at hl 1 rfl) ?_
  refine xl_se C hI rfl hk dX0_mayCommit_5 ?_
  refine lv_if_eq (tgt := 25) hx hb dX0_mayCommit_6 (by decide) (fun c1 => ?_) (fun c1 => ?_)
  · refine lv_aload_n hx hb dX0_mayCommit_25 rfl (lv_at hl 0 rfl) ?_
    refine xg_wr C hI dX0_mayCommit_26 ?_
    refine lv_iload_n hx hb dX0_mayCommit_29 rfl (lv_at hl 1 rfl) ?_
    refine xl_wr C hI rfl hk dX0_mayCommit_30 ?_
    refine lv_topi (fun x2 ex2 => ?_)
    have ex2 : x2 = conc se wr sn k := by
      rw [ex2]
      exact (if_pos c1).symm
    subst ex2
    refine lv_istore_n (lv' := [(2, .int (conc se wr sn k)), (0, .ref (a 0)), (1, .int (nI k))]) hx hb dX0_mayCommit_31 rfl hl (by decide) rfl (fun ls hl => ?_)
    have hl : lv_has ls 5 [(0, .ref (a 0)), (1, .int (nI k)), (2, .int (conc se wr sn k))] := lv_sub hl [1, 2, 0] rfl
    refine lv_iconst (v := (nI 0)) hx hb dX0_mayCommit_32 (by decide) ?_
    refine lv_istore_n (lv' := [(3, .int (nI 0)), (0, .ref (a 0)), (1, .int (nI k)), (2, .int (conc se wr sn k))]) hx hb dX0_mayCommit_33 rfl hl (by decide) rfl (fun ls hl => ?_)
    have hl : lv_has ls 5 [(0, .ref (a 0)), (1, .int (nI k)), (2, .int (conc se wr sn k)), (3, .int (nI 0))] := lv_sub hl [1, 2, 3, 0] rfl
    exact loop 16 0 ls rfl lt_0 hl
  · refine lv_aload_n hx hb dX0_mayCommit_9 rfl (lv_at hl 0 rfl) ?_
    refine xg_wr C hI dX0_mayCommit_10 ?_
    refine lv_iload_n hx hb dX0_mayCommit_13 rfl (lv_at hl 1 rfl) ?_
    refine xl_wr C hI rfl hk dX0_mayCommit_14 ?_
    refine lv_aload_n hx hb dX0_mayCommit_15 rfl (lv_at hl 0 rfl) ?_
    refine xg_sn C hI dX0_mayCommit_16 ?_
    refine lv_iload_n hx hb dX0_mayCommit_19 rfl (lv_at hl 1 rfl) ?_
    refine xl_sn C hI rfl hk dX0_mayCommit_20 ?_
    refine lv_ior hx hb dX0_mayCommit_21 ?_
    refine lv_goto (tgt := 31) hx hb dX0_mayCommit_22 (by decide) ?_
    refine lv_topi (fun x2 ex2 => ?_)
    have ex2 : x2 = conc se wr sn k := by
      rw [ex2]
      exact (if_neg c1).symm
    subst ex2
    refine lv_istore_n (lv' := [(2, .int (conc se wr sn k)), (0, .ref (a 0)), (1, .int (nI k))]) hx hb dX0_mayCommit_31 rfl hl (by decide) rfl (fun ls hl => ?_)
    have hl : lv_has ls 5 [(0, .ref (a 0)), (1, .int (nI k)), (2, .int (conc se wr sn k))] := lv_sub hl [1, 2, 0] rfl
    refine lv_iconst (v := (nI 0)) hx hb dX0_mayCommit_32 (by decide) ?_
    refine lv_istore_n (lv' := [(3, .int (nI 0)), (0, .ref (a 0)), (1, .int (nI k)), (2, .int (conc se wr sn k))]) hx hb dX0_mayCommit_33 rfl hl (by decide) rfl (fun ls hl => ?_)
    have hl : lv_has ls 5 [(0, .ref (a 0)), (1, .int (nI k)), (2, .int (conc se wr sn k)), (3, .int (nI 0))] := lv_sub hl [1, 2, 3, 0] rfl
    exact loop 16 0 ls rfl lt_0 hl
set_option maxHeartbeats 4000000 in
/-- might -/
theorem kX0_might (l : Launch) (D : va_G) (cI cZ : ClassId) (a : Nat → Nat) (vo co ol : Nat → Int32) (fv fc : Int32) (nw : Nat → Int32) (cm : Int32) (op se be wr sn ow : Nat → Int32) (t : Int32) (Cs : Nat → List Nat) (F : List Nat) (hX : XR ol fv fc nw Cs F) : WMi l yX0_might cX0_might 2 (some .int) 1 24 D cI cZ [.ref (a 0), .int t] (xw cI cZ a (vo, co, ol, fv, fc, nw, cm, op, se, be, wr, sn, ow)) (xw cI cZ a) (fun r u => u = (vo, co, ol, fv, fc, nw, cm, op, se, be, wr, sn, ow) ∧ XMight co op se be wr sn Cs t r) := by
  refine wstart_i RX0 (by decide) rfl (Nat.le_of_ble_eq_true rfl) ?_
  intro p e R s m args below meth cd A Q ls hRf hRl C hl hI hret
  have hx := C.1
  have hb := C.2.1
  have hl : lv_has ls 2 [(0, .ref (a 0)), (1, .int t)] := hl
  refine lv_aload_n hx hb dX0_might_0 rfl (lv_at hl 0 rfl) ?_
  refine lv_iload_n hx hb dX0_might_1 rfl (lv_at hl 1 rfl) ?_
  refine wcall_i (n := 1) (wr := []) (rest := []) (kX0_isOpen l D cI cZ a vo co ol fv fc nw cm op se be wr sn ow t) C (lw_V q72 q74 qs0 q12 q75) (by decide +kernel) ⟨by rw [hRf]; decide, by rw [hRl]; decide⟩ ⟨Nat.zero_le _, Nat.zero_le _⟩ rfl rfl hI.nil rfl hl.1 rfl (Nat.le_of_ble_eq_true rfl) dX0_might_2 (fun r1 u1 H locs hp hI => ?_)
  have hI : wI D cI cZ A s (xw cI cZ a u1) H locs := hI
  obtain ⟨rfl, hp⟩ := hp
  rcases hp with ⟨k, ⟨hk, rfl, ho⟩, rfl⟩ | ⟨hno, rfl⟩
  · refine lv_if_ne (tgt := 10) hx hb dX0_might_5 (by decide) (fun c1 => ?_) (fun c1 => ?_)
    · refine lv_aload_n hx hb dX0_might_10 rfl (lv_at hl 0 rfl) ?_
      refine lv_iload_n hx hb dX0_might_11 rfl (lv_at hl 1 rfl) ?_
      refine wcall_i (n := 1) (wr := []) (rest := []) (kX0_mayCommit l D cI cZ a vo co ol fv fc nw cm op se be wr sn ow k hk Cs F hX) C (lw_V q104 q106 qs4 q12 q107) (by decide +kernel) ⟨by rw [hRf]; decide, by rw [hRl]; decide⟩ ⟨Nat.zero_le _, Nat.zero_le _⟩ rfl rfl hI.nil rfl hl.1 rfl (Nat.le_of_ble_eq_true rfl) dX0_might_12 (fun r2 u2 H locs hp2 hI => ?_)
      have hI : wI D cI cZ A s (xw cI cZ a u2) H locs := hI
      obtain ⟨rfl, hp2⟩ := hp2
      rcases hp2 with ⟨ho2, rfl⟩ | ⟨ho2, rfl⟩
      · refine lv_if_eq (tgt := 22) hx hb dX0_might_15 (by decide) (fun c2 => ?_) (fun c2 => ?_)
        · refine lv_iconst (v := 0) hx hb dX0_might_22 (by decide) ?_
          exact hret _ _ _ _ _ _ dX0_might_23 rfl ⟨rfl, Or.inl ⟨k, ⟨hk, rfl, ho⟩, Or.inl ⟨ho2, rfl⟩⟩⟩ hI
        · exact absurd rfl c2
      · refine lv_if_eq (tgt := 22) hx hb dX0_might_15 (by decide) (fun c2 => ?_) (fun c2 => ?_)
        · exact absurd c2 (by decide)
        · refine lv_iconst (v := 1) hx hb dX0_might_18 (by decide) ?_
          refine lv_goto (tgt := 23) hx hb dX0_might_19 (by decide) ?_
          exact hret _ _ _ _ _ _ dX0_might_23 rfl ⟨rfl, Or.inl ⟨k, ⟨hk, rfl, ho⟩, Or.inr ⟨ho2, rfl⟩⟩⟩ hI
    · exact absurd c1 (by decide)
  · refine lv_if_ne (tgt := 10) hx hb dX0_might_5 (by decide) (fun c1 => ?_) (fun c1 => ?_)
    · exact absurd rfl c1
    · refine lv_iconst (v := (-1)) hx hb dX0_might_8 (by decide) ?_
      exact hret _ _ _ _ _ _ dX0_might_9 rfl ⟨rfl, Or.inr ⟨hno, rfl⟩⟩ hI
set_option maxHeartbeats 4000000 in
/-- committed -/
theorem kX0_committed (l : Launch) (D : va_G) (cI cZ : ClassId) (a : Nat → Nat) (vo co ol : Nat → Int32) (fv fc : Int32) (nw : Nat → Int32) (cm : Int32) (op se be wr sn ow : Nat → Int32) (cell : Int32) (Cs : Nat → List Nat) (F : List Nat) (hX : XR ol fv fc nw Cs F) : WMi l yX0_committed cX0_committed 2 (some .int) 1 24 D cI cZ [.ref (a 0), .int cell] (xw cI cZ a (vo, co, ol, fv, fc, nw, cm, op, se, be, wr, sn, ow)) (xw cI cZ a) (fun r u => u = (vo, co, ol, fv, fc, nw, cm, op, se, be, wr, sn, ow) ∧ XComd vo co cm Cs cell r) := by
  refine wstart_i RX0 (by decide) rfl (Nat.le_of_ble_eq_true rfl) ?_
  intro p e R s m args below meth cd A Q ls hRf hRl C hl hI hret
  have hx := C.1
  have hb := C.2.1
  have hl : lv_has ls 2 [(0, .ref (a 0)), (1, .int cell)] := hl
  refine lv_iload_n hx hb dX0_committed_0 rfl (lv_at hl 1 rfl) ?_
  refine wcall_s (n := 1) (rest := []) (kX0_isCell l D cI cZ cell) C (lw_S q76 q77 q12 q78) (by decide +kernel) ⟨by rw [hRf]; decide, by rw [hRl]; decide⟩ ⟨Nat.zero_le _, Nat.zero_le _⟩ hI rfl hl.1 rfl (Nat.le_of_ble_eq_true rfl) dX0_committed_1 (fun r2 H locs hp2 hI => ?_)
  rcases hp2 with ⟨i, hi, rfl, rfl⟩ | ⟨hnc, rfl⟩
  · refine lv_if_eq (tgt := 19) hx hb dX0_committed_4 (by decide) (fun c1 => ?_) (fun c1 => ?_)
    · exact absurd c1 (by decide)
    · refine lv_aload_n hx hb dX0_committed_7 rfl (lv_at hl 0 rfl) ?_
      refine lv_iload_n hx hb dX0_committed_8 rfl (lv_at hl 1 rfl) ?_
      refine lv_aload_n hx hb dX0_committed_9 rfl (lv_at hl 0 rfl) ?_
      refine xg_cm C hI dX0_committed_10 ?_
      refine wcall_i (n := 2) (wr := []) (rest := []) (kX0_versionAt l D cI cZ a vo co ol fv fc nw cm op se be wr sn ow i hi cm (Cs i) (hX.1 i hi) (hX.len hi)) C (lw_V q87 q89 qs3 q12 q90) (by decide +kernel) ⟨by rw [hRf]; decide, by rw [hRl]; decide⟩ ⟨Nat.zero_le _, Nat.zero_le _⟩ rfl rfl hI.nil rfl hl.1 rfl (Nat.le_of_ble_eq_true rfl) dX0_committed_13 (fun r3 u3 H locs hp3 hI => ?_)
      have hI : wI D cI cZ A s (xw cI cZ a u3) H locs := hI
      obtain ⟨rfl, rfl⟩ := hp3
      refine lv_goto (tgt := 20) hx hb dX0_committed_16 (by decide) ?_
      exact hret _ _ _ _ _ _ dX0_committed_20 rfl ⟨rfl, Or.inl ⟨i, hi, rfl, rfl⟩⟩ hI
  · refine lv_if_eq (tgt := 19) hx hb dX0_committed_4 (by decide) (fun c1 => ?_) (fun c1 => ?_)
    · refine lv_iconst (v := 0) hx hb dX0_committed_19 (by decide) ?_
      exact hret _ _ _ _ _ _ dX0_committed_20 rfl ⟨rfl, Or.inr ⟨hnc, rfl⟩⟩ hI
    · exact absurd rfl c1
set_option maxHeartbeats 4000000 in
/-- sum -/
theorem kX0_sum (l : Launch) (D : va_G) (cI cZ : ClassId) (a : Nat → Nat) (vo co ol : Nat → Int32) (fv fc : Int32) (nw : Nat → Int32) (cm : Int32) (op se be wr sn ow : Nat → Int32) (t fs la : Int32) (Cs : Nat → List Nat) (F : List Nat) (hX : XR ol fv fc nw Cs F) : WMi l yX0_sum cX0_sum 6 (some .int) 2 46 D cI cZ [.ref (a 0), .int t, .int fs, .int la] (xw cI cZ a (vo, co, ol, fv, fc, nw, cm, op, se, be, wr, sn, ow)) (xw cI cZ a) (fun r u => u = (vo, co, ol, fv, fc, nw, cm, op, se, be, wr, sn, ow) ∧ XSum vo co op be wr ow Cs t fs la r) := by
  refine wstart_i RX0 (by decide) rfl (Nat.le_of_ble_eq_true rfl) ?_
  intro p e R s m args below meth cd A Q ls hRf hRl C hl hI hret
  have hx := C.1
  have hb := C.2.1
  have hl : lv_has ls 6 [(0, .ref (a 0)), (1, .int t), (2, .int fs), (3, .int la)] := hl
  refine lv_aload_n hx hb dX0_sum_0 rfl (lv_at hl 0 rfl) ?_
  refine lv_iload_n hx hb dX0_sum_1 rfl (lv_at hl 1 rfl) ?_
  refine wcall_i (n := 1) (wr := []) (rest := []) (kX0_isOpen l D cI cZ a vo co ol fv fc nw cm op se be wr sn ow t) C (lw_V q72 q74 qs0 q12 q75) (by decide +kernel) ⟨by rw [hRf]; decide, by rw [hRl]; decide⟩ ⟨Nat.zero_le _, Nat.zero_le _⟩ rfl rfl hI.nil rfl hl.1 rfl (Nat.le_of_ble_eq_true rfl) dX0_sum_2 (fun r1 u1 H locs hp hI => ?_)
  have hI : wI D cI cZ A s (xw cI cZ a u1) H locs := hI
  obtain ⟨rfl, hp⟩ := hp
  rcases hp with ⟨k, ⟨hk, rfl, ho⟩, rfl⟩ | ⟨hno, rfl⟩
  · refine lv_if_ne (tgt := 10) hx hb dX0_sum_5 (by decide) (fun c1 => ?_) (fun c1 => ?_)
    · generalize hf : vis vo co be wr ow Cs k = f at *
      have loop : ∀ (n j : Nat) (H : Heap) (locs : List Loc) (ls : Array Slot), j + n = 16 → wI D cI cZ A s (xw cI cZ a (vo, co, ol, fv, fc, nw, cm, op, se, be, wr, sn, ow)) H locs → lv_has ls 6 [(0, .ref (a 0)), (1, .int (nI k)), (2, .int fs), (3, .int la), (4, .int (sm f fs la j)), (5, .int (nI j))] → W p l e R s m args below meth cd H locs 0 0 Q (F0 m 16 ls []) := by
        intro n
        induction n with
        | zero =>
          intro j H locs ls hj hI hl
          refine lv_iload hx hb dX0_sum_16 (lv_at hl 5 rfl) ?_
          refine lv_bipush (v := (nI 16)) hx hb dX0_sum_18 (by decide) ?_
          refine lv_icmp_ge (tgt := 53) hx hb dX0_sum_20 (by decide) (fun c1 => ?_) (fun c1 => ?_)
          · have ej : j = 16 := by omega
            subst ej
            refine lv_iload hx hb dX0_sum_53 (lv_at hl 4 rfl) ?_
            exact hret _ _ _ _ _ _ dX0_sum_55 rfl ⟨rfl, Or.inl ⟨k, ⟨hk, rfl, ho⟩, by rw [hf]⟩⟩ hI
          · exact absurd (nI_le (by omega) (by omega)) c1
        | succ n ih =>
          intro j H locs ls hj hI hl
          refine lv_iload hx hb dX0_sum_16 (lv_at hl 5 rfl) ?_
          refine lv_bipush (v := (nI 16)) hx hb dX0_sum_18 (by decide) ?_
          refine lv_icmp_ge (tgt := 53) hx hb dX0_sum_20 (by decide) (fun c1 => ?_) (fun c1 => ?_)
          · exact absurd c1 (nI_ge (by omega) (by decide))
          · refine lv_iload_n hx hb dX0_sum_23 rfl (lv_at hl 2 rfl) ?_
            refine lv_iload hx hb dX0_sum_24 (lv_at hl 5 rfl) ?_
            refine lv_icmp_gt (tgt := 47) hx hb dX0_sum_26 (by decide) (fun c2 => ?_) (fun c2 => ?_)
            · have e9 : sm f fs la (j + 1) = sm f fs la j := if_neg (fun q => Int32.lt_irrefl (Int32.lt_of_lt_of_le c2 q.1))
              refine lv_iinc (v := (nI (j + 1))) (lv' := [(5, .int (nI (j + 1))), (0, .ref (a 0)), (1, .int (nI k)), (2, .int fs), (3, .int la), (4, .int (sm f fs la j))]) hx hb dX0_sum_47 hl (k := 5) rfl (ii1 j) (by decide) rfl (fun ls hl => ?_)
              have hl : lv_has ls 6 [(0, .ref (a 0)), (1, .int (nI k)), (2, .int fs), (3, .int la), (4, .int (sm f fs la j)), (5, .int (nI (j + 1)))] := lv_sub hl [1, 2, 3, 4, 5, 0] rfl
              refine lv_goto (tgt := 16) hx hb dX0_sum_50 (by decide) ?_
              have hl : lv_has ls 6 [(0, .ref (a 0)), (1, .int (nI k)), (2, .int fs), (3, .int la), (4, .int (sm f fs la (j + 1))), (5, .int (nI (j + 1)))] := by rw [e9]; exact hl
              exact ih _ H locs ls (by omega) hI hl
            · refine lv_iload hx hb dX0_sum_29 (lv_at hl 5 rfl) ?_
              refine lv_iload_n hx hb dX0_sum_31 rfl (lv_at hl 3 rfl) ?_
              refine lv_icmp_gt (tgt := 47) hx hb dX0_sum_32 (by decide) (fun c3 => ?_) (fun c3 => ?_)
              · have e9 : sm f fs la (j + 1) = sm f fs la j := if_neg (fun q => Int32.lt_irrefl (Int32.lt_of_lt_of_le c3 q.2))
                refine lv_iinc (v := (nI (j + 1))) (lv' := [(5, .int (nI (j + 1))), (0, .ref (a 0)), (1, .int (nI k)), (2, .int fs), (3, .int la), (4, .int (sm f fs la j))]) hx hb dX0_sum_47 hl (k := 5) rfl (ii1 j) (by decide) rfl (fun ls hl => ?_)
                have hl : lv_has ls 6 [(0, .ref (a 0)), (1, .int (nI k)), (2, .int fs), (3, .int la), (4, .int (sm f fs la j)), (5, .int (nI (j + 1)))] := lv_sub hl [1, 2, 3, 4, 5, 0] rfl
                refine lv_goto (tgt := 16) hx hb dX0_sum_50 (by decide) ?_
                have hl : lv_has ls 6 [(0, .ref (a 0)), (1, .int (nI k)), (2, .int fs), (3, .int la), (4, .int (sm f fs la (j + 1))), (5, .int (nI (j + 1)))] := by rw [e9]; exact hl
                exact ih _ H locs ls (by omega) hI hl
              · refine lv_iload hx hb dX0_sum_35 (lv_at hl 4 rfl) ?_
                refine lv_aload_n hx hb dX0_sum_37 rfl (lv_at hl 0 rfl) ?_
                refine lv_iload_n hx hb dX0_sum_38 rfl (lv_at hl 1 rfl) ?_
                refine lv_iload hx hb dX0_sum_39 (lv_at hl 5 rfl) ?_
                refine wcall_i (n := 2) (wr := []) (rest := [.int (sm f fs la j)]) (kX0_visible l D cI cZ a vo co ol fv fc nw cm op se be wr sn ow k j hk (by omega) Cs (hX.1 j (by omega)) (hX.len (by omega))) C (lw_V q83 q85 qs2 q12 q86) (by decide +kernel) ⟨by rw [hRf]; decide, by rw [hRl]; decide⟩ ⟨Nat.zero_le _, Nat.zero_le _⟩ rfl rfl hI.nil rfl hl.1 rfl (Nat.le_of_ble_eq_true rfl) dX0_sum_41 (fun r3 u3 H locs hp3 hI => ?_)
                have hI : wI D cI cZ A s (xw cI cZ a u3) H locs := hI
                obtain ⟨rfl, er⟩ := hp3
                rw [hf] at er
                refine lv_iadd hx hb dX0_sum_44 ?_
                refine lv_topi (fun x4 ex4 => ?_)
                have ex4 : x4 = sm f fs la (j + 1) := by
                  rw [ex4, er]
                  exact (if_pos ⟨Int32.not_lt.mp c2, Int32.not_lt.mp c3⟩).symm
                subst ex4
                refine lv_istore (lv' := [(4, .int (sm f fs la (j + 1))), (0, .ref (a 0)), (1, .int (nI k)), (2, .int fs), (3, .int la), (5, .int (nI j))]) hx hb dX0_sum_45 hl (by decide) rfl (fun ls hl => ?_)
                have hl : lv_has ls 6 [(0, .ref (a 0)), (1, .int (nI k)), (2, .int fs), (3, .int la), (4, .int (sm f fs la (j + 1))), (5, .int (nI j))] := lv_sub hl [1, 2, 3, 4, 0, 5] rfl
                refine lv_iinc (v := (nI (j + 1))) (lv' := [(5, .int (nI (j + 1))), (0, .ref (a 0)), (1, .int (nI k)), (2, .int fs), (3, .int la), (4, .int (sm f fs la (j + 1)))]) hx hb dX0_sum_47 hl (k := 5) rfl (ii1 j) (by decide) rfl (fun ls hl => ?_)
                have hl : lv_has ls 6 [(0, .ref (a 0)), (1, .int (nI k)), (2, .int fs), (3, .int la), (4, .int (sm f fs la (j + 1))), (5, .int (nI (j + 1)))] := lv_sub hl [1, 2, 3, 4, 5, 0] rfl
                refine lv_goto (tgt := 16) hx hb dX0_sum_50 (by decide) ?_
                exact ih _ H locs ls (by omega) hI hl
      refine lv_iconst (v := (sm f fs la 0)) hx hb dX0_sum_10 rfl ?_
      refine lv_istore (lv' := [(4, .int (sm f fs la 0)), (0, .ref (a 0)), (1, .int (nI k)), (2, .int fs), (3, .int la)]) hx hb dX0_sum_11 hl (by decide) rfl (fun ls hl => ?_)
      have hl : lv_has ls 6 [(0, .ref (a 0)), (1, .int (nI k)), (2, .int fs), (3, .int la), (4, .int (sm f fs la 0))] := lv_sub hl [1, 2, 3, 4, 0] rfl
      refine lv_iconst (v := (nI 0)) hx hb dX0_sum_13 (by decide) ?_
      refine lv_istore (lv' := [(5, .int (nI 0)), (0, .ref (a 0)), (1, .int (nI k)), (2, .int fs), (3, .int la), (4, .int (sm f fs la 0))]) hx hb dX0_sum_14 hl (by decide) rfl (fun ls hl => ?_)
      have hl : lv_has ls 6 [(0, .ref (a 0)), (1, .int (nI k)), (2, .int fs), (3, .int la), (4, .int (sm f fs la 0)), (5, .int (nI 0))] := lv_sub hl [1, 2, 3, 4, 5, 0] rfl
      exact loop 16 0 _ _ ls rfl hI hl
    · exact absurd c1 (by decide)
  · refine lv_if_ne (tgt := 10) hx hb dX0_sum_5 (by decide) (fun c1 => ?_) (fun c1 => ?_)
    · exact absurd rfl c1
    · refine lv_iconst (v := 0) hx hb dX0_sum_8 (by decide) ?_
      exact hret _ _ _ _ _ _ dX0_sum_9 rfl ⟨rfl, Or.inr ⟨hno, rfl⟩⟩ hI
set_option maxHeartbeats 4000000 in
/-- how many run -/
theorem kX0_open (l : Launch) (D : va_G) (cI cZ : ClassId) (a : Nat → Nat) (vo co ol : Nat → Int32) (fv fc : Int32) (nw : Nat → Int32) (cm : Int32) (op se be wr sn ow : Nat → Int32)   : WMi l yX0_open cX0_open 3 (some .int) 0 0 D cI cZ [.ref (a 0)] (xw cI cZ a (vo, co, ol, fv, fc, nw, cm, op, se, be, wr, sn, ow)) (xw cI cZ a) (fun r u => u = (vo, co, ol, fv, fc, nw, cm, op, se, be, wr, sn, ow) ∧ r = no op 6) := by
  refine wstart_i RX0 (by decide) rfl (Nat.le_of_ble_eq_true rfl) ?_
  intro p e R s m args below meth cd A Q ls hRf hRl C hl hI hret
  have hx := C.1
  have hb := C.2.1
  have hl : lv_has ls 3 [(0, .ref (a 0))] := hl
  have loop : ∀ (n j : Nat) (ls : Array Slot), j + n = 6 → lv_has ls 3 [(0, .ref (a 0)), (1, .int (no op j)), (2, .int (nI j))] → W p l e R s m args below meth cd s.heap [] 0 0 Q (F0 m 4 ls []) := by
    intro n
    induction n with
    | zero =>
      intro j ls hj hl
      refine lv_iload_n hx hb dX0_open_4 rfl (lv_at hl 2 rfl) ?_
      refine lv_bipush (v := (nI 6)) hx hb dX0_open_5 (by decide) ?_
      refine lv_icmp_ge (tgt := 33) hx hb dX0_open_7 (by decide) (fun c1 => ?_) (fun c1 => ?_)
      · have ej : j = 6 := by omega
        subst ej
        refine lv_iload_n hx hb dX0_open_33 rfl (lv_at hl 1 rfl) ?_
        exact hret _ _ _ _ _ _ dX0_open_34 rfl ⟨rfl, rfl⟩ hI
      · exact absurd (nI_le (by omega) (by omega)) c1
    | succ n ih =>
      intro j ls hj hl
      refine lv_iload_n hx hb dX0_open_4 rfl (lv_at hl 2 rfl) ?_
      refine lv_bipush (v := (nI 6)) hx hb dX0_open_5 (by decide) ?_
      refine lv_icmp_ge (tgt := 33) hx hb dX0_open_7 (by decide) (fun c1 => ?_) (fun c1 => ?_)
      · exact absurd c1 (nI_ge (by omega) (by decide))
      · refine lv_iload_n hx hb dX0_open_10 rfl (lv_at hl 1 rfl) ?_
        refine lv_aload_n hx hb dX0_open_11 rfl (lv_at hl 0 rfl) ?_
        refine xg_op C hI dX0_open_12 ?_
        refine lv_iload_n hx hb dX0_open_15 rfl (lv_at hl 2 rfl) ?_
        refine xl_op C hI rfl (by omega) dX0_open_16 ?_
        refine lv_if_eq (tgt := 24) hx hb dX0_open_17 (by decide) (fun c2 => ?_) (fun c2 => ?_)
        · refine lv_iconst (v := 0) hx hb dX0_open_24 (by decide) ?_
          refine lv_iadd hx hb dX0_open_25 ?_
          refine lv_topi (fun x4 ex4 => ?_)
          have ex4 : x4 = no op (j + 1) := by
            rw [ex4]
            show _ = no op j + (if op j = 0 then 0 else 1)
            rw [if_pos c2]
          subst ex4
          refine lv_istore_n (lv' := [(1, .int (no op (j + 1))), (0, .ref (a 0)), (2, .int (nI j))]) hx hb dX0_open_26 rfl hl (by decide) rfl (fun ls hl => ?_)
          have hl : lv_has ls 3 [(0, .ref (a 0)), (1, .int (no op (j + 1))), (2, .int (nI j))] := lv_sub hl [1, 0, 2] rfl
          refine lv_iinc (v := (nI (j + 1))) (lv' := [(2, .int (nI (j + 1))), (0, .ref (a 0)), (1, .int (no op (j + 1)))]) hx hb dX0_open_27 hl (k := 2) rfl (ii1 j) (by decide) rfl (fun ls hl => ?_)
          have hl : lv_has ls 3 [(0, .ref (a 0)), (1, .int (no op (j + 1))), (2, .int (nI (j + 1)))] := lv_sub hl [1, 2, 0] rfl
          refine lv_goto (tgt := 4) hx hb dX0_open_30 (by decide) ?_
          exact ih _ ls (by omega) hl
        · refine lv_iconst (v := 1) hx hb dX0_open_20 (by decide) ?_
          refine lv_goto (tgt := 25) hx hb dX0_open_21 (by decide) ?_
          refine lv_iadd hx hb dX0_open_25 ?_
          refine lv_topi (fun x4 ex4 => ?_)
          have ex4 : x4 = no op (j + 1) := by
            rw [ex4]
            show _ = no op j + (if op j = 0 then 0 else 1)
            rw [if_neg c2]
          subst ex4
          refine lv_istore_n (lv' := [(1, .int (no op (j + 1))), (0, .ref (a 0)), (2, .int (nI j))]) hx hb dX0_open_26 rfl hl (by decide) rfl (fun ls hl => ?_)
          have hl : lv_has ls 3 [(0, .ref (a 0)), (1, .int (no op (j + 1))), (2, .int (nI j))] := lv_sub hl [1, 0, 2] rfl
          refine lv_iinc (v := (nI (j + 1))) (lv' := [(2, .int (nI (j + 1))), (0, .ref (a 0)), (1, .int (no op (j + 1)))]) hx hb dX0_open_27 hl (k := 2) rfl (ii1 j) (by decide) rfl (fun ls hl => ?_)
          have hl : lv_has ls 3 [(0, .ref (a 0)), (1, .int (no op (j + 1))), (2, .int (nI (j + 1)))] := lv_sub hl [1, 2, 0] rfl
          refine lv_goto (tgt := 4) hx hb dX0_open_30 (by decide) ?_
          exact ih _ ls (by omega) hl
  refine lv_iconst (v := (no op 0)) hx hb dX0_open_0 rfl ?_
  refine lv_istore_n (lv' := [(1, .int (no op 0)), (0, .ref (a 0))]) hx hb dX0_open_1 rfl hl (by decide) rfl (fun ls hl => ?_)
  have hl : lv_has ls 3 [(0, .ref (a 0)), (1, .int (no op 0))] := lv_sub hl [1, 0] rfl
  refine lv_iconst (v := (nI 0)) hx hb dX0_open_2 (by decide) ?_
  refine lv_istore_n (lv' := [(2, .int (nI 0)), (0, .ref (a 0)), (1, .int (no op 0))]) hx hb dX0_open_3 rfl hl (by decide) rfl (fun ls hl => ?_)
  have hl : lv_has ls 3 [(0, .ref (a 0)), (1, .int (no op 0)), (2, .int (nI 0))] := lv_sub hl [1, 2, 0] rfl
  exact loop 6 0 ls rfl hl
set_option maxHeartbeats 4000000 in
/-- begin -/
theorem kX0_begin (l : Launch) (D : va_G) (cI cZ : ClassId) (a : Nat → Nat) (vo co ol : Nat → Int32) (fv fc : Int32) (nw : Nat → Int32) (cm : Int32) (op se be wr sn ow : Nat → Int32) (b : Int32)  : WMi l yX0_begin cX0_begin 3 (some .int) 0 0 D cI cZ [.ref (a 0), .int b] (xw cI cZ a (vo, co, ol, fv, fc, nw, cm, op, se, be, wr, sn, ow)) (xw cI cZ a) (fun r u => ∃ op' se' be' wr' sn', u = (vo, co, ol, fv, fc, nw, cm, op', se', be', wr', sn', ow) ∧ XBegin op se be wr sn cm b r op' se' be' wr' sn') := by
  refine wstart_i RX0 (by decide) rfl (Nat.le_of_ble_eq_true rfl) ?_
  intro p e R s m args below meth cd A Q ls hRf hRl C hl hI hret
  have hx := C.1
  have hb := C.2.1
  have hl : lv_has ls 3 [(0, .ref (a 0)), (1, .int b)] := hl
  have loop : ∀ (n j : Nat) (ls : Array Slot), j + n = 6 → (∀ i, i < j → ¬ op i = 0) → lv_has ls 3 [(0, .ref (a 0)), (1, .int b), (2, .int (nI j))] → W p l e R s m args below meth cd s.heap [] 0 0 Q (F0 m 2 ls []) := by
    intro n
    induction n with
    | zero =>
      intro j ls hj hs hl
      refine lv_iload_n hx hb dX0_begin_2 rfl (lv_at hl 2 rfl) ?_
      refine lv_bipush (v := (nI 6)) hx hb dX0_begin_3 (by decide) ?_
      refine lv_icmp_ge (tgt := 63) hx hb dX0_begin_5 (by decide) (fun c1 => ?_) (fun c1 => ?_)
      · have ej : j = 6 := by omega
        subst ej
        refine lv_iconst (v := (-1)) hx hb dX0_begin_63 (by decide) ?_
        exact hret _ _ _ _ _ _ dX0_begin_64 rfl ⟨_, _, _, _, _, rfl, Or.inr ⟨hs, rfl, rfl, rfl, rfl, rfl, rfl⟩⟩ hI
      · exact absurd (nI_le (by omega) (by omega)) c1
    | succ n ih =>
      intro j ls hj hs hl
      have hj6 : j < 6 := by omega
      refine lv_iload_n hx hb dX0_begin_2 rfl (lv_at hl 2 rfl) ?_
      refine lv_bipush (v := (nI 6)) hx hb dX0_begin_3 (by decide) ?_
      refine lv_icmp_ge (tgt := 63) hx hb dX0_begin_5 (by decide) (fun c1 => ?_) (fun c1 => ?_)
      · exact absurd c1 (nI_ge (by omega) (by decide))
      · refine lv_aload_n hx hb dX0_begin_8 rfl (lv_at hl 0 rfl) ?_
        refine xg_op C hI dX0_begin_9 ?_
        refine lv_iload_n hx hb dX0_begin_12 rfl (lv_at hl 2 rfl) ?_
        refine xl_op C hI rfl hj6 dX0_begin_13 ?_
        refine lv_if_ne (tgt := 57) hx hb dX0_begin_14 (by decide) (fun c2 => ?_) (fun c2 => ?_)
        · refine lv_iinc (v := (nI (j + 1))) (lv' := [(2, .int (nI (j + 1))), (0, .ref (a 0)), (1, .int b)]) hx hb dX0_begin_57 hl (k := 2) rfl (ii1 j) (by decide) rfl (fun ls hl => ?_)
          have hl : lv_has ls 3 [(0, .ref (a 0)), (1, .int b), (2, .int (nI (j + 1)))] := lv_sub hl [1, 2, 0] rfl
          refine lv_goto (tgt := 2) hx hb dX0_begin_60 (by decide) ?_
          exact ih _ ls (by omega) (lt_s hs c2) hl
        · refine lv_aload_n hx hb dX0_begin_17 rfl (lv_at hl 0 rfl) ?_
          refine xg_op C hI dX0_begin_18 ?_
          refine lv_iload_n hx hb dX0_begin_21 rfl (lv_at hl 2 rfl) ?_
          refine lv_iconst (v := 1) hx hb dX0_begin_22 (by decide) ?_
          refine xs_op (y9 := 1) C (by decide) hI rfl hj6 dX0_begin_23 (fun H locs hI => ?_)
          refine lv_aload_n hx hb dX0_begin_24 rfl (lv_at hl 0 rfl) ?_
          refine xg_se C hI dX0_begin_25 ?_
          refine lv_iload_n hx hb dX0_begin_28 rfl (lv_at hl 2 rfl) ?_
          refine lv_iload_n hx hb dX0_begin_29 rfl (lv_at hl 1 rfl) ?_
          refine xs_se (y9 := vp_nar .boolean b) C rfl hI rfl hj6 dX0_begin_30 (fun H locs hI => ?_)
          refine lv_aload_n hx hb dX0_begin_31 rfl (lv_at hl 0 rfl) ?_
          refine xg_be C hI dX0_begin_32 ?_
          refine lv_iload_n hx hb dX0_begin_35 rfl (lv_at hl 2 rfl) ?_
          refine lv_aload_n hx hb dX0_begin_36 rfl (lv_at hl 0 rfl) ?_
          refine xg_cm C hI dX0_begin_37 ?_
          refine xs_be C hI rfl hj6 dX0_begin_40 (fun H locs hI => ?_)
          refine lv_aload_n hx hb dX0_begin_41 rfl (lv_at hl 0 rfl) ?_
          refine xg_wr C hI dX0_begin_42 ?_
          refine lv_iload_n hx hb dX0_begin_45 rfl (lv_at hl 2 rfl) ?_
          refine lv_iconst (v := 0) hx hb dX0_begin_46 (by decide) ?_
          refine xs_wr C hI rfl hj6 dX0_begin_47 (fun H locs hI => ?_)
          refine lv_aload_n hx hb dX0_begin_48 rfl (lv_at hl 0 rfl) ?_
          refine xg_sn C hI dX0_begin_49 ?_
          refine lv_iload_n hx hb dX0_begin_52 rfl (lv_at hl 2 rfl) ?_
          refine lv_iconst (v := 0) hx hb dX0_begin_53 (by decide) ?_
          refine xs_sn C hI rfl hj6 dX0_begin_54 (fun H locs hI => ?_)
          refine lv_iload_n hx hb dX0_begin_55 rfl (lv_at hl 2 rfl) ?_
          exact hret _ _ _ _ _ _ dX0_begin_56 rfl ⟨_, _, _, _, _, rfl, Or.inl ⟨j, hj6, hs, c2, rfl, rfl, rfl, rfl, rfl, rfl⟩⟩ hI
  refine lv_iconst (v := (nI 0)) hx hb dX0_begin_0 (by decide) ?_
  refine lv_istore_n (lv' := [(2, .int (nI 0)), (0, .ref (a 0)), (1, .int b)]) hx hb dX0_begin_1 rfl hl (by decide) rfl (fun ls hl => ?_)
  have hl : lv_has ls 3 [(0, .ref (a 0)), (1, .int b), (2, .int (nI 0))] := lv_sub hl [1, 2, 0] rfl
  exact loop 6 0 ls rfl lt_0 hl
end
section
/-! THE STORE, 3: prune, tidy, install, commit -/
set_option maxRecDepth 100000
theorem Ch.det {ol ol' : Nat → Int32} {v v' : Int32} {L : List Nat} (h : Ch ol v L) (g : Ch ol' v' L) : v = v' := by
  cases L with
  | nil => exact Eq.trans (show v = -1 from h) (show v' = -1 from g).symm
  | cons k L => exact h.1.trans g.1.symm
theorem XR.tail {ol : Nat → Int32} {fv fc : Int32} {nw : Nat → Int32} {Cs : Nat → List Nat} {F : List Nat} (h : XR ol fv fc nw Cs F) {c kp : Nat} {P L : List Nat} (hc : c < 16) (hP : Cs c = P ++ kp :: L) : kp < 144 ∧ Ch ol (ol kp) L := by
  have hch := h.1 c hc
  rw [hP] at hch
  obtain ⟨w, -, -, g2, g3⟩ := Ch.split hch
  exact ⟨g2, g3⟩
/-- what the installing loop has done, the cells below j -/
def IJ (vo co wr ow : Nat → Int32) (cm1 : Int32) (k : Nat) (Cs1 : Nat → List Nat) (j : Nat) (vo1 co1 : Nat → Int32) (Cs2 : Nat → List Nat) : Prop :=
  (∀ d, d < 16 → (j ≤ d ∧ Cs2 d = Cs1 d) ∨ (d < j ∧ bt (wr k) d = false ∧ Cs2 d = Cs1 d) ∨ (d < j ∧ bt (wr k) d = true ∧ ∃ v, Cs2 d = v :: Cs1 d ∧ co1 v = cm1 ∧ vo1 v = ow (16 * k + d))) ∧ ∀ d, d < 16 → ∀ x, x ∈ Cs1 d → vo1 x = vo x ∧ co1 x = co x
theorem IJ.skip {vo co wr ow vo1 co1 : Nat → Int32} {cm1 : Int32} {k j : Nat} {Cs1 Cs2 : Nat → List Nat} (h : IJ vo co wr ow cm1 k Cs1 j vo1 co1 Cs2) (hb : bt (wr k) j = false) : IJ vo co wr ow cm1 k Cs1 (j + 1) vo1 co1 Cs2 := by
  refine ⟨fun d hd => ?_, h.2⟩
  rcases h.1 d hd with ⟨g1, g2⟩ | ⟨g1, g2⟩ | ⟨g1, g2⟩
  · by_cases e : d = j
    · subst e
      exact Or.inr (Or.inl ⟨by omega, hb, g2⟩)
    · exact Or.inl ⟨by omega, g2⟩
  · exact Or.inr (Or.inl ⟨by omega, g2⟩)
  · exact Or.inr (Or.inr ⟨by omega, g2⟩)
theorem IJ.push {vo co wr ow vo1 co1 : Nat → Int32} {cm1 : Int32} {k j v : Nat} {Cs1 Cs2 : Nat → List Nat} (h : IJ vo co wr ow cm1 k Cs1 j vo1 co1 Cs2) (hj : j < 16) (hb : bt (wr k) j = true) (hv : ∀ d, d < 16 → v ∉ Cs2 d) : IJ vo co wr ow cm1 k Cs1 (j + 1) (upd vo1 v (ow (16 * k + j))) (upd co1 v cm1) (va_up Cs2 j (v :: Cs2 j)) := by
  have hsub : ∀ d, d < 16 → ∀ x, x ∈ Cs1 d → x ∈ Cs2 d := by
    intro d hd x hx
    rcases h.1 d hd with ⟨-, g2⟩ | ⟨-, -, g2⟩ | ⟨-, -, v2, g2, -⟩
    · rw [g2]; exact hx
    · rw [g2]; exact hx
    · rw [g2]; exact List.mem_cons_of_mem _ hx
  refine ⟨fun d hd => ?_, fun d hd x hx => ?_⟩
  · by_cases e : d = j
    · subst e
      refine Or.inr (Or.inr ⟨by omega, hb, v, ?_, pk_us, pk_us⟩)
      rw [va_up_self]
      rcases h.1 d hd with ⟨-, g2⟩ | ⟨g1, -⟩ | ⟨g1, -⟩
      · rw [g2]
      · omega
      · omega
    · rw [va_up_ne _ _ e]
      rcases h.1 d hd with ⟨g1, g2⟩ | ⟨g1, g2⟩ | ⟨g1, gb, v2, g2, g3, g4⟩
      · exact Or.inl ⟨by omega, g2⟩
      · exact Or.inr (Or.inl ⟨by omega, g2⟩)
      · have hne : v2 ≠ v := fun q => hv d hd (by rw [g2, q]; exact List.mem_cons_self)
        exact Or.inr (Or.inr ⟨by omega, gb, v2, g2, by rw [pk_un hne]; exact g3, by rw [pk_un hne]; exact g4⟩)
  · have hne : x ≠ v := fun q => hv d hd (q ▸ hsub d hd x hx)
    rw [pk_un hne, pk_un hne]
    exact h.2 d hd x hx
set_option maxHeartbeats 4000000 in
/-- keeps the newest version of the cell, and those that a running transaction sees -/
theorem kX0_prune (l : Launch) (D : va_G) (cI cZ : ClassId) (a : Nat → Nat) (vo co ol : Nat → Int32) (fv fc : Int32) (nw : Nat → Int32) (cm : Int32) (op se be wr sn ow : Nat → Int32)  (i : Nat) (hi : i < 16) (Cs : Nat → List Nat) (F : List Nat) (hX : XR ol fv fc nw Cs F) : WMv l yX0_prune cX0_prune 8 1 23 D cI cZ [.ref (a 0), .int (nI i)] (xw cI cZ a (vo, co, ol, fv, fc, nw, cm, op, se, be, wr, sn, ow)) (xw cI cZ a) (fun u => ∃ ol' fv' fc', u = (vo, co, ol', fv', fc', nw, cm, op, se, be, wr, sn, ow) ∧ ∃ Cs' F', XR ol' fv' fc' nw Cs' F' ∧ Pr op be co (Cs i) (Cs' i) ∧ ∀ d, d ≠ i → Cs' d = Cs d) := by
  refine wstart_v RX0 (by decide) rfl (Nat.le_of_ble_eq_true rfl) ?_
  intro p e R s m args below meth cd A Q ls hRf hRl C hl hI hret
  have hx := C.1
  have hb := C.2.1
  have hl : lv_has ls 8 [(0, .ref (a 0)), (1, .int (nI i))] := hl
  have loop : ∀ (Rr P : List Nat) (kp : Nat) (v ab : Int32) (j : Nat) (ol : Nat → Int32) (fv fc : Int32) (Cs : Nat → List Nat) (F : List Nat) (H : Heap) (locs : List Loc) (ls : Array Slot), XR ol fv fc nw Cs F → Cs i = P ++ kp :: Rr → v = ol kp → j + Rr.length ≤ 144 →
      (∀ (ol' : Nat → Int32) (fv' fc' : Int32) (Cs' : Nat → List Nat) (F' K : List Nat) (H : Heap) (locs : List Loc) (ls : Array Slot), Kp op be co ab Rr K → XR ol' fv' fc' nw Cs' F' → Cs' i = P ++ kp :: K → (∀ d, d ≠ i → Cs' d = Cs d) → wI D cI cZ A s (xw cI cZ a (vo, co, ol', fv', fc', nw, cm, op, se, be, wr, sn, ow)) H locs → W p l e R s m args below meth cd H locs 0 0 Q (F0 m 120 ls [])) →
      wI D cI cZ A s (xw cI cZ a (vo, co, ol, fv, fc, nw, cm, op, se, be, wr, sn, ow)) H locs → lv_has ls 8 [(0, .ref (a 0)), (1, .int (nI i)), (2, .int (nI kp)), (3, .int v), (4, .int ab), (5, .int (nI j))] → W p l e R s m args below meth cd H locs 0 0 Q (F0 m 30 ls []) := by
    intro Rr
    induction Rr with
    | nil =>
      intro P kp v ab j ol fv fc Cs F H locs ls hX hP hv hj kk hI hl
      have hv1 : v = -1 := hv.trans (show ol kp = -1 from (hX.tail hi hP).2)
      refine lv_iload hx hb dX0_prune_30 (lv_at hl 5 rfl) ?_
      refine lv_sipush (v := (nI 144)) hx hb dX0_prune_32 (by decide) ?_
      refine lv_icmp_ge (tgt := 120) hx hb dX0_prune_35 (by decide) (fun c1 => ?_) (fun c1 => ?_)
      · exact kk ol fv fc Cs F [] H locs ls rfl hX hP (fun _ _ => rfl) hI
      · refine lv_iload_n hx hb dX0_prune_38 rfl (lv_at hl 3 rfl) ?_
        refine lv_if_lt (tgt := 120) hx hb dX0_prune_39 (by decide) (fun c2 => ?_) (fun c2 => ?_)
        · exact kk ol fv fc Cs F [] H locs ls rfl hX hP (fun _ _ => rfl) hI
        · exact absurd (by rw [hv1]; exact m1_neg) c2
    | cons k Rr ih =>
      intro P kp v ab j ol fv fc Cs F H locs ls hX hP hv hj kk hI hl
      obtain ⟨hkp, hch⟩ := hX.tail hi hP
      obtain ⟨ev, hk, hch2⟩ := hch
      rw [← hv] at ev
      rw [List.length_cons] at hj
      subst ev
      refine lv_iload hx hb dX0_prune_30 (lv_at hl 5 rfl) ?_
      refine lv_sipush (v := (nI 144)) hx hb dX0_prune_32 (by decide) ?_
      refine lv_icmp_ge (tgt := 120) hx hb dX0_prune_35 (by decide) (fun c1 => ?_) (fun c1 => ?_)
      · exact absurd c1 (nI_ge (by omega) (by decide))
      · refine lv_iload_n hx hb dX0_prune_38 rfl (lv_at hl 3 rfl) ?_
        refine lv_if_lt (tgt := 120) hx hb dX0_prune_39 (by decide) (fun c2 => ?_) (fun c2 => ?_)
        · exact absurd c2 (nI_pos (by omega))
        · refine lv_aload_n hx hb dX0_prune_42 rfl (lv_at hl 0 rfl) ?_
          refine xg_ol C hI dX0_prune_43 ?_
          refine lv_iload_n hx hb dX0_prune_46 rfl (lv_at hl 3 rfl) ?_
          refine xl_ol C hI rfl hk dX0_prune_47 ?_
          refine lv_istore (lv' := [(6, .int (ol k)), (0, .ref (a 0)), (1, .int (nI i)), (2, .int (nI kp)), (3, .int (nI k)), (4, .int ab), (5, .int (nI j))]) hx hb dX0_prune_48 hl (by decide) rfl (fun ls hl => ?_)
          have hl : lv_has ls 8 [(0, .ref (a 0)), (1, .int (nI i)), (2, .int (nI kp)), (3, .int (nI k)), (4, .int ab), (5, .int (nI j)), (6, .int (ol k))] := lv_sub hl [1, 2, 3, 4, 5, 6, 0] rfl
          refine lv_aload_n hx hb dX0_prune_50 rfl (lv_at hl 0 rfl) ?_
          refine xg_co C hI dX0_prune_51 ?_
          refine lv_iload_n hx hb dX0_prune_54 rfl (lv_at hl 3 rfl) ?_
          refine xl_co C hI rfl hk dX0_prune_55 ?_
          refine lv_istore (lv' := [(7, .int (co k)), (0, .ref (a 0)), (1, .int (nI i)), (2, .int (nI kp)), (3, .int (nI k)), (4, .int ab), (5, .int (nI j)), (6, .int (ol k))]) hx hb dX0_prune_56 hl (by decide) rfl (fun ls hl => ?_)
          have hl : lv_has ls 8 [(0, .ref (a 0)), (1, .int (nI i)), (2, .int (nI kp)), (3, .int (nI k)), (4, .int ab), (5, .int (nI j)), (6, .int (ol k)), (7, .int (co k))] := lv_sub hl [1, 2, 3, 4, 5, 6, 7, 0] rfl
          refine lv_aload_n hx hb dX0_prune_58 rfl (lv_at hl 0 rfl) ?_
          refine lv_iload hx hb dX0_prune_59 (lv_at hl 7 rfl) ?_
          refine lv_iload hx hb dX0_prune_61 (lv_at hl 4 rfl) ?_
          refine wcall_i (n := 2) (wr := []) (rest := []) (kX0_isSeen l D cI cZ a vo co ol fv fc nw cm op se be wr sn ow (co k) ab) C (lw_V q120 q122 qs7 q12 q123) (by decide +kernel) ⟨by rw [hRf]; decide, by rw [hRl]; decide⟩ ⟨Nat.zero_le _, Nat.zero_le _⟩ rfl rfl hI.nil rfl hl.1 rfl (Nat.le_of_ble_eq_true rfl) dX0_prune_63 (fun r1 u1 H locs hp hI => ?_)
          have hI : wI D cI cZ A s (xw cI cZ a u1) H locs := hI
          obtain ⟨rfl, hp⟩ := hp
          rcases hp with ⟨hse, rfl⟩ | ⟨hse, rfl⟩
          · refine lv_if_eq (tgt := 74) hx hb dX0_prune_66 (by decide) (fun c3 => ?_) (fun c3 => ?_)
            · exact absurd c3 (by decide)
            · refine lv_iload_n hx hb dX0_prune_69 rfl (lv_at hl 3 rfl) ?_
              refine lv_istore_n (lv' := [(2, .int (nI k)), (0, .ref (a 0)), (1, .int (nI i)), (3, .int (nI k)), (4, .int ab), (5, .int (nI j)), (6, .int (ol k)), (7, .int (co k))]) hx hb dX0_prune_70 rfl hl (by decide) rfl (fun ls hl => ?_)
              have hl : lv_has ls 8 [(0, .ref (a 0)), (1, .int (nI i)), (2, .int (nI k)), (3, .int (nI k)), (4, .int ab), (5, .int (nI j)), (6, .int (ol k)), (7, .int (co k))] := lv_sub hl [1, 2, 0, 3, 4, 5, 6, 7] rfl
              refine lv_goto (tgt := 107) hx hb dX0_prune_71 (by decide) ?_
              refine lv_iload hx hb dX0_prune_107 (lv_at hl 7 rfl) ?_
              refine lv_istore (lv' := [(4, .int (co k)), (0, .ref (a 0)), (1, .int (nI i)), (2, .int (nI k)), (3, .int (nI k)), (5, .int (nI j)), (6, .int (ol k)), (7, .int (co k))]) hx hb dX0_prune_109 hl (by decide) rfl (fun ls hl => ?_)
              have hl : lv_has ls 8 [(0, .ref (a 0)), (1, .int (nI i)), (2, .int (nI k)), (3, .int (nI k)), (4, .int (co k)), (5, .int (nI j)), (6, .int (ol k)), (7, .int (co k))] := lv_sub hl [1, 2, 3, 4, 0, 5, 6, 7] rfl
              refine lv_iload hx hb dX0_prune_111 (lv_at hl 6 rfl) ?_
              refine lv_istore_n (lv' := [(3, .int (ol k)), (0, .ref (a 0)), (1, .int (nI i)), (2, .int (nI k)), (4, .int (co k)), (5, .int (nI j)), (6, .int (ol k)), (7, .int (co k))]) hx hb dX0_prune_113 rfl hl (by decide) rfl (fun ls hl => ?_)
              have hl : lv_has ls 8 [(0, .ref (a 0)), (1, .int (nI i)), (2, .int (nI k)), (3, .int (ol k)), (4, .int (co k)), (5, .int (nI j)), (6, .int (ol k)), (7, .int (co k))] := lv_sub hl [1, 2, 3, 0, 4, 5, 6, 7] rfl
              refine lv_iinc (v := (nI (j + 1))) (lv' := [(5, .int (nI (j + 1))), (0, .ref (a 0)), (1, .int (nI i)), (2, .int (nI k)), (3, .int (ol k)), (4, .int (co k)), (6, .int (ol k)), (7, .int (co k))]) hx hb dX0_prune_114 hl (k := 5) rfl (ii1 j) (by decide) rfl (fun ls hl => ?_)
              have hl : lv_has ls 8 [(0, .ref (a 0)), (1, .int (nI i)), (2, .int (nI k)), (3, .int (ol k)), (4, .int (co k)), (5, .int (nI (j + 1))), (6, .int (ol k)), (7, .int (co k))] := lv_sub hl [1, 2, 3, 4, 5, 0, 6, 7] rfl
              refine lv_goto (tgt := 30) hx hb dX0_prune_117 (by decide) ?_
              refine ih (P ++ [kp]) k (ol k) (co k) (j + 1) ol fv fc Cs F H locs ls hX (by rw [hP]; simp) rfl (by omega) ?_ hI (lv_sub hl [0, 1, 2, 3, 4, 5] rfl)
              intro ol' fv' fc' Cs' F' K H locs ls hK hX' hP' hd hI
              exact kk ol' fv' fc' Cs' F' (k :: K) H locs ls (Or.inl ⟨hse, K, rfl, hK⟩) hX' (by rw [hP']; simp) hd hI
          · refine lv_if_eq (tgt := 74) hx hb dX0_prune_66 (by decide) (fun c3 => ?_) (fun c3 => ?_)
            · have hD2 := hX.drop hi hP
              have hv2 : ol k = upd (upd ol kp (ol k)) k fv kp := hch2.det (hD2.tail hi (va_up_self _ _ _)).2
              refine lv_aload_n hx hb dX0_prune_74 rfl (lv_at hl 0 rfl) ?_
              refine xg_ol C hI dX0_prune_75 ?_
              refine lv_iload_n hx hb dX0_prune_78 rfl (lv_at hl 2 rfl) ?_
              refine lv_iload hx hb dX0_prune_79 (lv_at hl 6 rfl) ?_
              refine xs_ol C hI rfl hkp dX0_prune_81 (fun H locs hI => ?_)
              refine lv_aload_n hx hb dX0_prune_82 rfl (lv_at hl 0 rfl) ?_
              refine xg_ol C hI dX0_prune_83 ?_
              refine lv_iload_n hx hb dX0_prune_86 rfl (lv_at hl 3 rfl) ?_
              refine lv_aload_n hx hb dX0_prune_87 rfl (lv_at hl 0 rfl) ?_
              refine xg_fv C hI dX0_prune_88 ?_
              refine xs_ol C hI rfl hk dX0_prune_91 (fun H locs hI => ?_)
              refine lv_aload_n hx hb dX0_prune_92 rfl (lv_at hl 0 rfl) ?_
              refine lv_iload_n hx hb dX0_prune_93 rfl (lv_at hl 3 rfl) ?_
              refine xp_fv C hI dX0_prune_94 (fun H locs hI => ?_)
              refine lv_aload_n hx hb dX0_prune_97 rfl (lv_at hl 0 rfl) ?_
              refine lv_dup hx hb dX0_prune_98 rfl ?_
              refine xg_fc C hI dX0_prune_99 ?_
              refine lv_iconst (v := 1) hx hb dX0_prune_102 (by decide) ?_
              refine lv_iadd hx hb dX0_prune_103 ?_
              refine xp_fc C hI dX0_prune_104 (fun H locs hI => ?_)
              refine lv_iload hx hb dX0_prune_107 (lv_at hl 7 rfl) ?_
              refine lv_istore (lv' := [(4, .int (co k)), (0, .ref (a 0)), (1, .int (nI i)), (2, .int (nI kp)), (3, .int (nI k)), (5, .int (nI j)), (6, .int (ol k)), (7, .int (co k))]) hx hb dX0_prune_109 hl (by decide) rfl (fun ls hl => ?_)
              have hl : lv_has ls 8 [(0, .ref (a 0)), (1, .int (nI i)), (2, .int (nI kp)), (3, .int (nI k)), (4, .int (co k)), (5, .int (nI j)), (6, .int (ol k)), (7, .int (co k))] := lv_sub hl [1, 2, 3, 4, 0, 5, 6, 7] rfl
              refine lv_iload hx hb dX0_prune_111 (lv_at hl 6 rfl) ?_
              refine lv_istore_n (lv' := [(3, .int (ol k)), (0, .ref (a 0)), (1, .int (nI i)), (2, .int (nI kp)), (4, .int (co k)), (5, .int (nI j)), (6, .int (ol k)), (7, .int (co k))]) hx hb dX0_prune_113 rfl hl (by decide) rfl (fun ls hl => ?_)
              have hl : lv_has ls 8 [(0, .ref (a 0)), (1, .int (nI i)), (2, .int (nI kp)), (3, .int (ol k)), (4, .int (co k)), (5, .int (nI j)), (6, .int (ol k)), (7, .int (co k))] := lv_sub hl [1, 2, 3, 0, 4, 5, 6, 7] rfl
              refine lv_iinc (v := (nI (j + 1))) (lv' := [(5, .int (nI (j + 1))), (0, .ref (a 0)), (1, .int (nI i)), (2, .int (nI kp)), (3, .int (ol k)), (4, .int (co k)), (6, .int (ol k)), (7, .int (co k))]) hx hb dX0_prune_114 hl (k := 5) rfl (ii1 j) (by decide) rfl (fun ls hl => ?_)
              have hl : lv_has ls 8 [(0, .ref (a 0)), (1, .int (nI i)), (2, .int (nI kp)), (3, .int (ol k)), (4, .int (co k)), (5, .int (nI (j + 1))), (6, .int (ol k)), (7, .int (co k))] := lv_sub hl [1, 2, 3, 4, 5, 0, 6, 7] rfl
              refine lv_goto (tgt := 30) hx hb dX0_prune_117 (by decide) ?_
              refine ih P kp (ol k) (co k) (j + 1) _ (nI k) (fc + 1) (va_up Cs i (P ++ kp :: Rr)) (k :: F) H locs ls hD2 (va_up_self _ _ _) hv2 (by omega) ?_ hI (lv_sub hl [0, 1, 2, 3, 4, 5] rfl)
              intro ol' fv' fc' Cs' F' K H locs ls hK hX' hP' hd hI
              exact kk ol' fv' fc' Cs' F' K H locs ls (Or.inr ⟨hse, hK⟩) hX' hP' (fun d hdi => by rw [hd d hdi, va_up_ne _ _ hdi]) hI
            · exact absurd rfl c3
  refine lv_aload_n hx hb dX0_prune_0 rfl (lv_at hl 0 rfl) ?_
  refine xg_nw C hI dX0_prune_1 ?_
  refine lv_iload_n hx hb dX0_prune_4 rfl (lv_at hl 1 rfl) ?_
  refine xl_nw C hI rfl hi dX0_prune_5 ?_
  refine lv_istore_n (lv' := [(2, .int (nw i)), (0, .ref (a 0)), (1, .int (nI i))]) hx hb dX0_prune_6 rfl hl (by decide) rfl (fun ls hl => ?_)
  have hl : lv_has ls 8 [(0, .ref (a 0)), (1, .int (nI i)), (2, .int (nw i))] := lv_sub hl [1, 2, 0] rfl
  refine lv_iload_n hx hb dX0_prune_7 rfl (lv_at hl 2 rfl) ?_
  refine lv_if_ge (tgt := 12) hx hb dX0_prune_8 (by decide) (fun c1 => ?_) (fun c1 => ?_)
  · obtain ⟨k0, R0, e0, e1, hk0, hch0⟩ := (hX.1 i hi).pos (Int32.not_lt.mpr c1)
    rw [e1] at hl
    refine lv_aload_n hx hb dX0_prune_12 rfl (lv_at hl 0 rfl) ?_
    refine xg_ol C hI dX0_prune_13 ?_
    refine lv_iload_n hx hb dX0_prune_16 rfl (lv_at hl 2 rfl) ?_
    refine xl_ol C hI rfl hk0 dX0_prune_17 ?_
    refine lv_istore_n (lv' := [(3, .int (ol k0)), (0, .ref (a 0)), (1, .int (nI i)), (2, .int (nI k0))]) hx hb dX0_prune_18 rfl hl (by decide) rfl (fun ls hl => ?_)
    have hl : lv_has ls 8 [(0, .ref (a 0)), (1, .int (nI i)), (2, .int (nI k0)), (3, .int (ol k0))] := lv_sub hl [1, 2, 3, 0] rfl
    refine lv_aload_n hx hb dX0_prune_19 rfl (lv_at hl 0 rfl) ?_
    refine xg_co C hI dX0_prune_20 ?_
    refine lv_iload_n hx hb dX0_prune_23 rfl (lv_at hl 2 rfl) ?_
    refine xl_co C hI rfl hk0 dX0_prune_24 ?_
    refine lv_istore (lv' := [(4, .int (co k0)), (0, .ref (a 0)), (1, .int (nI i)), (2, .int (nI k0)), (3, .int (ol k0))]) hx hb dX0_prune_25 hl (by decide) rfl (fun ls hl => ?_)
    have hl : lv_has ls 8 [(0, .ref (a 0)), (1, .int (nI i)), (2, .int (nI k0)), (3, .int (ol k0)), (4, .int (co k0))] := lv_sub hl [1, 2, 3, 4, 0] rfl
    refine lv_iconst (v := (nI 0)) hx hb dX0_prune_27 (by decide) ?_
    refine lv_istore (lv' := [(5, .int (nI 0)), (0, .ref (a 0)), (1, .int (nI i)), (2, .int (nI k0)), (3, .int (ol k0)), (4, .int (co k0))]) hx hb dX0_prune_28 hl (by decide) rfl (fun ls hl => ?_)
    have hl : lv_has ls 8 [(0, .ref (a 0)), (1, .int (nI i)), (2, .int (nI k0)), (3, .int (ol k0)), (4, .int (co k0)), (5, .int (nI 0))] := lv_sub hl [1, 2, 3, 4, 5, 0] rfl
    have hlen := hX.len hi
    rw [e0, List.length_cons] at hlen
    refine loop R0 [] k0 (ol k0) (co k0) 0 ol fv fc Cs F _ _ ls hX e0 rfl (by omega) ?_ hI hl
    intro ol' fv' fc' Cs' F' K H locs ls hK hX' hP' hd hI
    exact hret _ _ _ _ _ dX0_prune_120 ⟨ol', fv', fc', rfl, Cs', F', hX', Or.inr ⟨k0, R0, K, e0, hP', hK⟩, hd⟩ hI
  · have e0 := (hX.1 i hi).neg (Int32.not_le.mp c1)
    exact hret _ _ _ _ _ dX0_prune_11 ⟨ol, fv, fc, rfl, Cs, F, hX, Or.inl ⟨e0, e0⟩, fun _ _ => rfl⟩ hI
set_option maxHeartbeats 4000000 in
/-- tidy -/
theorem kX0_tidy (l : Launch) (D : va_G) (cI cZ : ClassId) (a : Nat → Nat) (vo co ol : Nat → Int32) (fv fc : Int32) (nw : Nat → Int32) (cm : Int32) (op se be wr sn ow : Nat → Int32)  (Cs : Nat → List Nat) (F : List Nat) (hX : XR ol fv fc nw Cs F) : WMv l yX0_tidy cX0_tidy 2 2 50 D cI cZ [.ref (a 0)] (xw cI cZ a (vo, co, ol, fv, fc, nw, cm, op, se, be, wr, sn, ow)) (xw cI cZ a) (fun u => ∃ ol' fv' fc', u = (vo, co, ol', fv', fc', nw, cm, op, se, be, wr, sn, ow) ∧ XTidy co op be nw Cs ol' fv' fc') := by
  refine wstart_v RX0 (by decide) rfl (Nat.le_of_ble_eq_true rfl) ?_
  intro p e R s m args below meth cd A Q ls hRf hRl C hl hI hret
  have hx := C.1
  have hb := C.2.1
  have hl : lv_has ls 2 [(0, .ref (a 0))] := hl
  have loop : ∀ (n j : Nat) (ol : Nat → Int32) (fv fc : Int32) (Cs1 : Nat → List Nat) (F1 : List Nat) (H : Heap) (locs : List Loc) (ls : Array Slot), j + n = 16 → XR ol fv fc nw Cs1 F1 → (∀ d, d < j → Pr op be co (Cs d) (Cs1 d)) → (∀ d, j ≤ d → Cs1 d = Cs d) → wI D cI cZ A s (xw cI cZ a (vo, co, ol, fv, fc, nw, cm, op, se, be, wr, sn, ow)) H locs → lv_has ls 2 [(0, .ref (a 0)), (1, .int (nI j))] → W p l e R s m args below meth cd H locs 0 0 Q (F0 m 2 ls []) := by
    intro n
    induction n with
    | zero =>
      intro j ol fv fc Cs1 F1 H locs ls hj hX h1 h2 hI hl
      refine lv_iload_n hx hb dX0_tidy_2 rfl (lv_at hl 1 rfl) ?_
      refine lv_bipush (v := (nI 16)) hx hb dX0_tidy_3 (by decide) ?_
      refine lv_icmp_ge (tgt := 19) hx hb dX0_tidy_5 (by decide) (fun c1 => ?_) (fun c1 => ?_)
      · exact hret _ _ _ _ _ dX0_tidy_19 ⟨ol, fv, fc, rfl, Cs1, F1, hX, fun d hd => h1 d (by omega)⟩ hI
      · exact absurd (nI_le (by omega) (by omega)) c1
    | succ n ih =>
      intro j ol fv fc Cs1 F1 H locs ls hj hX h1 h2 hI hl
      refine lv_iload_n hx hb dX0_tidy_2 rfl (lv_at hl 1 rfl) ?_
      refine lv_bipush (v := (nI 16)) hx hb dX0_tidy_3 (by decide) ?_
      refine lv_icmp_ge (tgt := 19) hx hb dX0_tidy_5 (by decide) (fun c1 => ?_) (fun c1 => ?_)
      · exact absurd c1 (nI_ge (by omega) (by decide))
      · refine lv_aload_n hx hb dX0_tidy_8 rfl (lv_at hl 0 rfl) ?_
        refine lv_iload_n hx hb dX0_tidy_9 rfl (lv_at hl 1 rfl) ?_
        refine wcall_v (n := 1) (wr := []) (rest := []) (kX0_prune l D cI cZ a vo co ol fv fc nw cm op se be wr sn ow j (by omega) Cs1 F1 hX) C (lw_V q116 q118 qs6 q12 q119) (by decide +kernel) ⟨by rw [hRf]; decide, by rw [hRl]; decide⟩ ⟨Nat.zero_le _, Nat.zero_le _⟩ rfl rfl hI.nil rfl hl.1 rfl (Nat.le_of_ble_eq_true rfl) dX0_tidy_10 (fun u1 H locs hp hI => ?_)
        have hI : wI D cI cZ A s (xw cI cZ a u1) H locs := hI
        obtain ⟨ol', fv', fc', rfl, Cs', F', hX', hPr, hd⟩ := hp
        refine lv_iinc (v := (nI (j + 1))) (lv' := [(1, .int (nI (j + 1))), (0, .ref (a 0))]) hx hb dX0_tidy_13 hl (k := 1) rfl (ii1 j) (by decide) rfl (fun ls hl => ?_)
        have hl : lv_has ls 2 [(0, .ref (a 0)), (1, .int (nI (j + 1)))] := lv_sub hl [1, 0] rfl
        refine lv_goto (tgt := 2) hx hb dX0_tidy_16 (by decide) ?_
        refine ih (j + 1) ol' fv' fc' Cs' F' H locs ls (by omega) hX' (fun d hdj => ?_) (fun d hdj => ?_) hI hl
        · by_cases q : d = j
          · subst q
            rw [h2 d (Nat.le_refl d)] at hPr
            exact hPr
          · rw [hd d q]
            exact h1 d (by omega)
        · rw [hd d (by omega)]
          exact h2 d (by omega)
  refine lv_iconst (v := (nI 0)) hx hb dX0_tidy_0 (by decide) ?_
  refine lv_istore_n (lv' := [(1, .int (nI 0)), (0, .ref (a 0))]) hx hb dX0_tidy_1 rfl hl (by decide) rfl (fun ls hl => ?_)
  have hl : lv_has ls 2 [(0, .ref (a 0)), (1, .int (nI 0))] := lv_sub hl [1, 0] rfl
  exact loop 16 0 ol fv fc Cs F _ _ ls rfl hX (fun d hd => absurd hd (Nat.not_lt_zero d)) (fun _ _ => rfl) hI hl
set_option maxHeartbeats 4000000 in
/-- one new version for each cell that was written -/
theorem kX0_install (l : Launch) (D : va_G) (cI cZ : ClassId) (a : Nat → Nat) (vo co ol : Nat → Int32) (fv fc : Int32) (nw : Nat → Int32) (cm : Int32) (op se be wr sn ow : Nat → Int32)  (k : Nat) (hk : k < 6) (Cs : Nat → List Nat) (F : List Nat) (hX : XR ol fv fc nw Cs F) (hpw : ∀ d, d < 16 → (Cs d).Pairwise (fun i j => co j < co i)) : WMv l yX0_install cX0_install 4 3 71 D cI cZ [.ref (a 0), .int (nI k)] (xw cI cZ a (vo, co, ol, fv, fc, nw, cm, op, se, be, wr, sn, ow)) (xw cI cZ a) (fun u => ∃ vo' co' ol' fv' fc' nw' cm', u = (vo', co', ol', fv', fc', nw', cm', op, se, be, wr, sn, ow) ∧ XInst vo co cm op be wr ow Cs nw' k vo' co' ol' fv' fc' cm') := by
  refine wstart_v RX0 (by decide) rfl (Nat.le_of_ble_eq_true rfl) ?_
  intro p e R s m args below meth cd A Q ls hRf hRl C hl hI hret
  have hx := C.1
  have hb := C.2.1
  have hl : lv_has ls 4 [(0, .ref (a 0)), (1, .int (nI k))] := hl
  have from13 : ∀ (ol : Nat → Int32) (fv fc : Int32) (Cs1 : Nat → List Nat) (F1 : List Nat) (H : Heap) (locs : List Loc) (ls : Array Slot), XR ol fv fc nw Cs1 F1 → 16 ≤ F1.length → Td op be co Cs Cs1 → wI D cI cZ A s (xw cI cZ a (vo, co, ol, fv, fc, nw, cm, op, se, be, wr, sn, ow)) H locs → lv_has ls 4 [(0, .ref (a 0)), (1, .int (nI k))] → W p l e R s m args below meth cd H locs 0 0 Q (F0 m 13 ls []) := by
    intro ol fv fc Cs1 F1 H locs ls hX hF hTd hI hl
    have loop : ∀ (n j : Nat) (vo1 co1 ol1 : Nat → Int32) (fv1 fc1 : Int32) (nw1 : Nat → Int32) (Cs2 : Nat → List Nat) (F2 : List Nat) (H : Heap) (locs : List Loc) (ls : Array Slot), j + n = 16 → XR ol1 fv1 fc1 nw1 Cs2 F2 → n ≤ F2.length → IJ vo co wr ow (cm + 1) k Cs1 j vo1 co1 Cs2 → wI D cI cZ A s (xw cI cZ a (vo1, co1, ol1, fv1, fc1, nw1, cm + 1, op, se, be, wr, sn, ow)) H locs → lv_has ls 4 [(0, .ref (a 0)), (1, .int (nI k)), (2, .int (nI j))] → W p l e R s m args below meth cd H locs 0 0 Q (F0 m 25 ls []) := by
      intro n
      induction n with
      | zero =>
        intro j vo1 co1 ol1 fv1 fc1 nw1 Cs2 F2 H locs ls hj hX2 hF2 hJ hI hl
        refine lv_iload_n hx hb dX0_install_25 rfl (lv_at hl 2 rfl) ?_
        refine lv_bipush (v := (nI 16)) hx hb dX0_install_26 (by decide) ?_
        refine lv_icmp_ge (tgt := 121) hx hb dX0_install_28 (by decide) (fun c1 => ?_) (fun c1 => ?_)
        · exact hret _ _ _ _ _ dX0_install_121 ⟨vo1, co1, ol1, fv1, fc1, nw1, cm + 1, rfl, rfl, Cs2, F2, Cs1, hX2, hTd, fun d hd => by
            rcases hJ.1 d hd with ⟨q, -⟩ | ⟨-, q⟩ | ⟨-, q⟩
            · omega
            · exact Or.inl q
            · exact Or.inr q, hJ.2⟩ hI
        · exact absurd (nI_le (by omega) (by omega)) c1
      | succ n ih =>
        intro j vo1 co1 ol1 fv1 fc1 nw1 Cs2 F2 H locs ls hj hX2 hF2 hJ hI hl
        have hj16 : j < 16 := by omega
        refine lv_iload_n hx hb dX0_install_25 rfl (lv_at hl 2 rfl) ?_
        refine lv_bipush (v := (nI 16)) hx hb dX0_install_26 (by decide) ?_
        refine lv_icmp_ge (tgt := 121) hx hb dX0_install_28 (by decide) (fun c1 => ?_) (fun c1 => ?_)
        · exact absurd c1 (nI_ge (by omega) (by decide))
        · refine lv_aload_n hx hb dX0_install_31 rfl (lv_at hl 0 rfl) ?_
          refine xg_wr C hI dX0_install_32 ?_
          refine lv_iload_n hx hb dX0_install_35 rfl (lv_at hl 1 rfl) ?_
          refine xl_wr C hI rfl hk dX0_install_36 ?_
          refine lv_iload_n hx hb dX0_install_37 rfl (lv_at hl 2 rfl) ?_
          refine lv_iushr hx hb dX0_install_38 rfl ?_
          refine lv_iconst (v := 1) hx hb dX0_install_39 (by decide) ?_
          refine lv_iand hx hb dX0_install_40 ?_
          refine lv_if_eq (tgt := 115) hx hb dX0_install_41 (by decide) (fun c2 => ?_) (fun c2 => ?_)
          · refine lv_iinc (v := (nI (j + 1))) (lv' := [(2, .int (nI (j + 1))), (0, .ref (a 0)), (1, .int (nI k))]) hx hb dX0_install_115 hl (k := 2) rfl (ii1 j) (by decide) rfl (fun ls hl => ?_)
            have hl : lv_has ls 4 [(0, .ref (a 0)), (1, .int (nI k)), (2, .int (nI (j + 1)))] := lv_sub hl [1, 2, 0] rfl
            refine lv_goto (tgt := 25) hx hb dX0_install_118 (by decide) ?_
            exact ih (j + 1) vo1 co1 ol1 fv1 fc1 nw1 Cs2 F2 H locs ls (by omega) hX2 (by omega) (hJ.skip (bq0 hj16 c2)) hI hl
          · obtain ⟨v, F3, rfl⟩ : ∃ v F3, F2 = v :: F3 := by
              cases F2 with
              | nil => exact absurd hF2 (Nat.not_succ_le_zero n)
              | cons v F3 => exact ⟨v, F3, rfl⟩
            obtain ⟨rfl, hv, hvn, hX3⟩ := hX2.push hj16
            rw [List.length_cons] at hF2
            refine lv_aload_n hx hb dX0_install_44 rfl (lv_at hl 0 rfl) ?_
            refine xg_fv C hI dX0_install_45 ?_
            refine lv_istore_n (lv' := [(3, .int (nI v)), (0, .ref (a 0)), (1, .int (nI k)), (2, .int (nI j))]) hx hb dX0_install_48 rfl hl (by decide) rfl (fun ls hl => ?_)
            have hl : lv_has ls 4 [(0, .ref (a 0)), (1, .int (nI k)), (2, .int (nI j)), (3, .int (nI v))] := lv_sub hl [1, 2, 3, 0] rfl
            refine lv_aload_n hx hb dX0_install_49 rfl (lv_at hl 0 rfl) ?_
            refine lv_aload_n hx hb dX0_install_50 rfl (lv_at hl 0 rfl) ?_
            refine xg_ol C hI dX0_install_51 ?_
            refine lv_iload_n hx hb dX0_install_54 rfl (lv_at hl 3 rfl) ?_
            refine xl_ol C hI rfl hv dX0_install_55 ?_
            refine xp_fv C hI dX0_install_56 (fun H locs hI => ?_)
            refine lv_aload_n hx hb dX0_install_59 rfl (lv_at hl 0 rfl) ?_
            refine lv_dup hx hb dX0_install_60 rfl ?_
            refine xg_fc C hI dX0_install_61 ?_
            refine lv_iconst (v := 1) hx hb dX0_install_64 (by decide) ?_
            refine lv_isub hx hb dX0_install_65 ?_
            refine xp_fc C hI dX0_install_66 (fun H locs hI => ?_)
            refine lv_aload_n hx hb dX0_install_69 rfl (lv_at hl 0 rfl) ?_
            refine xg_vo C hI dX0_install_70 ?_
            refine lv_iload_n hx hb dX0_install_73 rfl (lv_at hl 3 rfl) ?_
            refine lv_aload_n hx hb dX0_install_74 rfl (lv_at hl 0 rfl) ?_
            refine xg_ow C hI dX0_install_75 ?_
            refine lv_bipush (v := 16) hx hb dX0_install_78 (by decide) ?_
            refine lv_iload_n hx hb dX0_install_80 rfl (lv_at hl 1 rfl) ?_
            refine lv_imul hx hb dX0_install_81 ?_
            refine lv_iload_n hx hb dX0_install_82 rfl (lv_at hl 2 rfl) ?_
            refine lv_iadd hx hb dX0_install_83 ?_
            refine xl_ow C hI (ix16 k j) (by omega) dX0_install_84 ?_
            refine xs_vo C hI rfl hv dX0_install_85 (fun H locs hI => ?_)
            refine lv_aload_n hx hb dX0_install_86 rfl (lv_at hl 0 rfl) ?_
            refine xg_co C hI dX0_install_87 ?_
            refine lv_iload_n hx hb dX0_install_90 rfl (lv_at hl 3 rfl) ?_
            refine lv_aload_n hx hb dX0_install_91 rfl (lv_at hl 0 rfl) ?_
            refine xg_cm C hI dX0_install_92 ?_
            refine xs_co C hI rfl hv dX0_install_95 (fun H locs hI => ?_)
            refine lv_aload_n hx hb dX0_install_96 rfl (lv_at hl 0 rfl) ?_
            refine xg_ol C hI dX0_install_97 ?_
            refine lv_iload_n hx hb dX0_install_100 rfl (lv_at hl 3 rfl) ?_
            refine lv_aload_n hx hb dX0_install_101 rfl (lv_at hl 0 rfl) ?_
            refine xg_nw C hI dX0_install_102 ?_
            refine lv_iload_n hx hb dX0_install_105 rfl (lv_at hl 2 rfl) ?_
            refine xl_nw C hI rfl hj16 dX0_install_106 ?_
            refine xs_ol C hI rfl hv dX0_install_107 (fun H locs hI => ?_)
            refine lv_aload_n hx hb dX0_install_108 rfl (lv_at hl 0 rfl) ?_
            refine xg_nw C hI dX0_install_109 ?_
            refine lv_iload_n hx hb dX0_install_112 rfl (lv_at hl 2 rfl) ?_
            refine lv_iload_n hx hb dX0_install_113 rfl (lv_at hl 3 rfl) ?_
            refine xs_nw C hI rfl hj16 dX0_install_114 (fun H locs hI => ?_)
            refine lv_iinc (v := (nI (j + 1))) (lv' := [(2, .int (nI (j + 1))), (0, .ref (a 0)), (1, .int (nI k)), (3, .int (nI v))]) hx hb dX0_install_115 hl (k := 2) rfl (ii1 j) (by decide) rfl (fun ls hl => ?_)
            have hl : lv_has ls 4 [(0, .ref (a 0)), (1, .int (nI k)), (2, .int (nI (j + 1))), (3, .int (nI v))] := lv_sub hl [1, 2, 0, 3] rfl
            refine lv_goto (tgt := 25) hx hb dX0_install_118 (by decide) ?_
            exact ih (j + 1) _ _ _ _ _ _ _ F3 H locs ls (by omega) hX3 (by omega) (hJ.push hj16 (bq1 hj16 c2) hvn) hI (lv_sub hl [0, 1, 2] rfl)
    refine lv_aload_n hx hb dX0_install_13 rfl (lv_at hl 0 rfl) ?_
    refine lv_dup hx hb dX0_install_14 rfl ?_
    refine xg_cm C hI dX0_install_15 ?_
    refine lv_iconst (v := 1) hx hb dX0_install_18 (by decide) ?_
    refine lv_iadd hx hb dX0_install_19 ?_
    refine xp_cm C hI dX0_install_20 (fun H locs hI => ?_)
    refine lv_iconst (v := (nI 0)) hx hb dX0_install_23 (by decide) ?_
    refine lv_istore_n (lv' := [(2, .int (nI 0)), (0, .ref (a 0)), (1, .int (nI k))]) hx hb dX0_install_24 rfl hl (by decide) rfl (fun ls hl => ?_)
    have hl : lv_has ls 4 [(0, .ref (a 0)), (1, .int (nI k)), (2, .int (nI 0))] := lv_sub hl [1, 2, 0] rfl
    exact loop 16 0 vo co ol fv fc nw Cs1 F1 H locs ls rfl hX hF ⟨fun d hd => Or.inl ⟨Nat.zero_le d, rfl⟩, fun d hd x hx => ⟨rfl, rfl⟩⟩ hI hl
  have hFle : F.length ≤ 144 := by have := hX.2.2.2.2; omega
  refine lv_aload_n hx hb dX0_install_0 rfl (lv_at hl 0 rfl) ?_
  refine xg_fc C hI dX0_install_1 ?_
  refine lv_bipush (v := (nI 16)) hx hb dX0_install_4 (by decide) ?_
  refine lv_icmp_ge (tgt := 13) hx hb dX0_install_6 (by decide) (fun c1 => ?_) (fun c1 => ?_)
  · rw [hX.2.2.1] at c1
    exact from13 ol fv fc Cs F _ _ ls hX ((nI_leI (by omega) (by omega)).mp c1) (fun d hd => Or.inl rfl) hI hl
  · refine lv_aload_n hx hb dX0_install_9 rfl (lv_at hl 0 rfl) ?_
    refine wcall_v (n := 0) (wr := []) (rest := []) (kX0_tidy l D cI cZ a vo co ol fv fc nw cm op se be wr sn ow Cs F hX) C (lw_V q112 q113 q114 q12 q115) (by decide +kernel) ⟨by rw [hRf]; decide, by rw [hRl]; decide⟩ ⟨Nat.zero_le _, Nat.zero_le _⟩ rfl rfl hI.nil rfl hl.1 rfl (Nat.le_of_ble_eq_true rfl) dX0_install_10 (fun u1 H locs hp hI => ?_)
    have hI : wI D cI cZ A s (xw cI cZ a u1) H locs := hI
    obtain ⟨ol', fv', fc', rfl, Cs', F', hX', hPr⟩ := hp
    have hb7 := totL_b (Cs := Cs') (b := 7) (n := 16) (fun d hd => (hPr d hd).len (hpw d hd))
    have h144 := hX'.2.2.2.2
    exact from13 ol' fv' fc' Cs' F' _ _ ls hX' (by omega) (fun d hd => Or.inr (hPr d hd)) hI hl
set_option maxHeartbeats 4000000 in
/-- commit -/
theorem kX0_commit (l : Launch) (D : va_G) (cI cZ : ClassId) (a : Nat → Nat) (vo co ol : Nat → Int32) (fv fc : Int32) (nw : Nat → Int32) (cm : Int32) (op se be wr sn ow : Nat → Int32) (t : Int32) (Cs : Nat → List Nat) (F : List Nat) (hX : XR ol fv fc nw Cs F) (hpw : ∀ d, d < 16 → (Cs d).Pairwise (fun i j => co j < co i)) : WMi l yX0_commit cX0_commit 3 (some .int) 4 94 D cI cZ [.ref (a 0), .int t] (xw cI cZ a (vo, co, ol, fv, fc, nw, cm, op, se, be, wr, sn, ow)) (xw cI cZ a) (fun r u => ∃ vo' co' ol' fv' fc' nw' cm' op', u = (vo', co', ol', fv', fc', nw', cm', op', se, be, wr, sn, ow) ∧ XCommit vo co ol fv fc nw cm op se be wr sn ow Cs t r vo' co' ol' fv' fc' nw' cm' op') := by
  refine wstart_i RX0 (by decide) rfl (Nat.le_of_ble_eq_true rfl) ?_
  intro p e R s m args below meth cd A Q ls hRf hRl C hl hI hret
  have hx := C.1
  have hb := C.2.1
  have hl : lv_has ls 3 [(0, .ref (a 0)), (1, .int t)] := hl
  refine lv_aload_n hx hb dX0_commit_0 rfl (lv_at hl 0 rfl) ?_
  refine lv_iload_n hx hb dX0_commit_1 rfl (lv_at hl 1 rfl) ?_
  refine wcall_i (n := 1) (wr := []) (rest := []) (kX0_isOpen l D cI cZ a vo co ol fv fc nw cm op se be wr sn ow t) C (lw_V q72 q74 qs0 q12 q75) (by decide +kernel) ⟨by rw [hRf]; decide, by rw [hRl]; decide⟩ ⟨Nat.zero_le _, Nat.zero_le _⟩ rfl rfl hI.nil rfl hl.1 rfl (Nat.le_of_ble_eq_true rfl) dX0_commit_2 (fun r1 u1 H locs hp hI => ?_)
  have hI : wI D cI cZ A s (xw cI cZ a u1) H locs := hI
  obtain ⟨rfl, hp⟩ := hp
  rcases hp with ⟨k, ⟨hk, rfl, ho⟩, rfl⟩ | ⟨hno, rfl⟩
  · refine lv_if_ne (tgt := 10) hx hb dX0_commit_5 (by decide) (fun c1 => ?_) (fun c1 => ?_)
    · refine lv_aload_n hx hb dX0_commit_10 rfl (lv_at hl 0 rfl) ?_
      refine lv_iload_n hx hb dX0_commit_11 rfl (lv_at hl 1 rfl) ?_
      refine wcall_i (n := 1) (wr := []) (rest := []) (kX0_mayCommit l D cI cZ a vo co ol fv fc nw cm op se be wr sn ow k hk Cs F hX) C (lw_V q104 q106 qs4 q12 q107) (by decide +kernel) ⟨by rw [hRf]; decide, by rw [hRl]; decide⟩ ⟨Nat.zero_le _, Nat.zero_le _⟩ rfl rfl hI.nil rfl hl.1 rfl (Nat.le_of_ble_eq_true rfl) dX0_commit_12 (fun r2 u2 H locs hp2 hI => ?_)
      have hI : wI D cI cZ A s (xw cI cZ a u2) H locs := hI
      obtain ⟨rfl, hp2⟩ := hp2
      rcases hp2 with ⟨ho2, rfl⟩ | ⟨ho2, rfl⟩
      · refine lv_istore_n (lv' := [(2, .int 0), (0, .ref (a 0)), (1, .int (nI k))]) hx hb dX0_commit_15 rfl hl (by decide) rfl (fun ls hl => ?_)
        have hl : lv_has ls 3 [(0, .ref (a 0)), (1, .int (nI k)), (2, .int 0)] := lv_sub hl [1, 2, 0] rfl
        refine lv_aload_n hx hb dX0_commit_16 rfl (lv_at hl 0 rfl) ?_
        refine xg_op C hI dX0_commit_17 ?_
        refine lv_iload_n hx hb dX0_commit_20 rfl (lv_at hl 1 rfl) ?_
        refine lv_iconst (v := 0) hx hb dX0_commit_21 (by decide) ?_
        refine xs_op (y9 := 0) C (by decide) hI rfl hk dX0_commit_22 (fun H locs hI => ?_)
        refine lv_iload_n hx hb dX0_commit_23 rfl (lv_at hl 2 rfl) ?_
        refine lv_if_ne (tgt := 29) hx hb dX0_commit_24 (by decide) (fun c2 => ?_) (fun c2 => ?_)
        · exact absurd rfl c2
        · refine lv_iconst (v := 1) hx hb dX0_commit_27 (by decide) ?_
          exact hret _ _ _ _ _ _ dX0_commit_28 rfl ⟨_, _, _, _, _, _, _, _, rfl, Or.inl ⟨k, ⟨hk, rfl, ho⟩, rfl, Or.inl ⟨rfl, ho2, rfl, rfl, rfl, rfl, rfl, rfl, rfl⟩⟩⟩ hI
      · refine lv_istore_n (lv' := [(2, .int 1), (0, .ref (a 0)), (1, .int (nI k))]) hx hb dX0_commit_15 rfl hl (by decide) rfl (fun ls hl => ?_)
        have hl : lv_has ls 3 [(0, .ref (a 0)), (1, .int (nI k)), (2, .int 1)] := lv_sub hl [1, 2, 0] rfl
        refine lv_aload_n hx hb dX0_commit_16 rfl (lv_at hl 0 rfl) ?_
        refine xg_op C hI dX0_commit_17 ?_
        refine lv_iload_n hx hb dX0_commit_20 rfl (lv_at hl 1 rfl) ?_
        refine lv_iconst (v := 0) hx hb dX0_commit_21 (by decide) ?_
        refine xs_op (y9 := 0) C (by decide) hI rfl hk dX0_commit_22 (fun H locs hI => ?_)
        refine lv_iload_n hx hb dX0_commit_23 rfl (lv_at hl 2 rfl) ?_
        refine lv_if_ne (tgt := 29) hx hb dX0_commit_24 (by decide) (fun c2 => ?_) (fun c2 => ?_)
        · refine lv_aload_n hx hb dX0_commit_29 rfl (lv_at hl 0 rfl) ?_
          refine xg_wr C hI dX0_commit_30 ?_
          refine lv_iload_n hx hb dX0_commit_33 rfl (lv_at hl 1 rfl) ?_
          refine xl_wr C hI rfl hk dX0_commit_34 ?_
          refine lv_if_eq (tgt := 43) hx hb dX0_commit_35 (by decide) (fun c3 => ?_) (fun c3 => ?_)
          · refine lv_iconst (v := 0) hx hb dX0_commit_43 (by decide) ?_
            exact hret _ _ _ _ _ _ dX0_commit_44 rfl ⟨_, _, _, _, _, _, _, _, rfl, Or.inl ⟨k, ⟨hk, rfl, ho⟩, rfl, Or.inr (Or.inl ⟨rfl, ho2, c3, rfl, rfl, rfl, rfl, rfl, rfl, rfl⟩)⟩⟩ hI
          · refine lv_aload_n hx hb dX0_commit_38 rfl (lv_at hl 0 rfl) ?_
            refine lv_iload_n hx hb dX0_commit_39 rfl (lv_at hl 1 rfl) ?_
            refine wcall_v (n := 1) (wr := []) (rest := []) (kX0_install l D cI cZ a vo co ol fv fc nw cm (upd op k 0) se be wr sn ow k hk Cs F hX hpw) C (lw_V q108 q110 qs5 q12 q111) (by decide +kernel) ⟨by rw [hRf]; decide, by rw [hRl]; decide⟩ ⟨Nat.zero_le _, Nat.zero_le _⟩ rfl rfl hI.nil rfl hl.1 rfl (Nat.le_of_ble_eq_true rfl) dX0_commit_40 (fun u3 H locs hp3 hI => ?_)
            have hI : wI D cI cZ A s (xw cI cZ a u3) H locs := hI
            obtain ⟨vo', co', ol', fv', fc', nw', cm', rfl, hin⟩ := hp3
            refine lv_iconst (v := 0) hx hb dX0_commit_43 (by decide) ?_
            exact hret _ _ _ _ _ _ dX0_commit_44 rfl ⟨vo', co', ol', fv', fc', nw', cm', _, rfl, Or.inl ⟨k, ⟨hk, rfl, ho⟩, rfl, Or.inr (Or.inr ⟨rfl, ho2, hin⟩)⟩⟩ hI
        · exact absurd c2 (by decide)
    · exact absurd c1 (by decide)
  · refine lv_if_ne (tgt := 10) hx hb dX0_commit_5 (by decide) (fun c1 => ?_) (fun c1 => ?_)
    · exact absurd rfl c1
    · refine lv_iconst (v := (-1)) hx hb dX0_commit_8 (by decide) ?_
      exact hret _ _ _ _ _ _ dX0_commit_9 rfl ⟨_, _, _, _, _, _, _, _, rfl, Or.inr ⟨hno, rfl, rfl, rfl, rfl, rfl, rfl, rfl, rfl, rfl⟩⟩ hI
end
section
/-! THE REFERENCE: all its methods but the constructor -/
set_option maxRecDepth 100000
theorem fill_step {f g h : Nat → Int32} {b i : Nat} (h1 : ∀ x, g x = if b ≤ x ∧ x < b + i then h (x - b) else f x) : ∀ x, upd g (b + i) (h i) x = if b ≤ x ∧ x < b + (i + 1) then h (x - b) else f x := by
  intro x
  by_cases e : x = b + i
  · subst e
    rw [pk_us, if_pos (by omega), show b + i - b = i by omega]
  · rw [pk_un e, h1 x]
    by_cases q : b ≤ x ∧ x < b + i
    · rw [if_pos q, if_pos (by omega)]
    · rw [if_neg q, if_neg (by omega)]
theorem fill_0 {f h : Nat → Int32} {b : Nat} : ∀ x, f x = if b ≤ x ∧ x < b + 0 then h (x - b) else f x := fun x => (if_neg (by omega)).symm
set_option maxHeartbeats 4000000 in
theorem kX1_bad (l : Launch) (D : va_G) (cI cZ : ClassId) (a : Nat → Nat) (st wt : Nat → Int32) (mc : Int32) (lv ss mb vw wo mo lk : Nat → Int32) (t : Int32)  : WMi l yX1_bad cX1_bad 2 (some .boolean) 0 0 D cI cZ [.ref (a 0), .int t] (mw cI cZ a (st, wt, mc, lv, ss, mb, vw, wo, mo, lk)) (mw cI cZ a) (fun r u => u = (st, wt, mc, lv, ss, mb, vw, wo, mo, lk) ∧ ((∃ k, Tok lv t k ∧ r = 0) ∨ ((∀ k, ¬ Tok lv t k) ∧ r = 1))) := by
  refine wstart_i RX1 (by decide) rfl (Nat.le_of_ble_eq_true rfl) ?_
  intro p e R s m args below meth cd A Q ls hRf hRl C hl hI hret
  have hx := C.1
  have hb := C.2.1
  have hl : lv_has ls 2 [(0, .ref (a 0)), (1, .int t)] := hl
  refine lv_iload_n hx hb dX1_bad_0 rfl (lv_at hl 1 rfl) ?_
  refine lv_if_lt (tgt := 18) hx hb dX1_bad_1 (by decide) (fun c1 => ?_) (fun c1 => ?_)
  · refine lv_iconst (v := 1) hx hb dX1_bad_18 (by decide) ?_
    refine lv_goto (tgt := 23) hx hb dX1_bad_19 (by decide) ?_
    exact hret _ _ _ _ _ _ dX1_bad_23 rfl ⟨rfl, Or.inr ⟨tr_no1 c1, rfl⟩⟩ hI
  · refine lv_iload_n hx hb dX1_bad_4 rfl (lv_at hl 1 rfl) ?_
    refine lv_iconst (v := 5) hx hb dX1_bad_5 (by decide) ?_
    refine lv_icmp_gt (tgt := 18) hx hb dX1_bad_6 (by decide) (fun c2 => ?_) (fun c2 => ?_)
    · refine lv_iconst (v := 1) hx hb dX1_bad_18 (by decide) ?_
      refine lv_goto (tgt := 23) hx hb dX1_bad_19 (by decide) ?_
      exact hret _ _ _ _ _ _ dX1_bad_23 rfl ⟨rfl, Or.inr ⟨tr_no2 c2, rfl⟩⟩ hI
    · obtain ⟨k, hk, ek⟩ := tr_ok c1 c2
      refine lv_aload_n hx hb dX1_bad_9 rfl (lv_at hl 0 rfl) ?_
      refine mg_lv C hI dX1_bad_10 ?_
      refine lv_iload_n hx hb dX1_bad_13 rfl (lv_at hl 1 rfl) ?_
      refine ml_lv C hI ek hk dX1_bad_14 ?_
      refine lv_if_ne (tgt := 22) hx hb dX1_bad_15 (by decide) (fun c3 => ?_) (fun c3 => ?_)
      · refine lv_iconst (v := 0) hx hb dX1_bad_22 (by decide) ?_
        exact hret _ _ _ _ _ _ dX1_bad_23 rfl ⟨rfl, Or.inl ⟨k, ⟨hk, ek, c3⟩, rfl⟩⟩ hI
      · refine lv_iconst (v := 1) hx hb dX1_bad_18 (by decide) ?_
        refine lv_goto (tgt := 23) hx hb dX1_bad_19 (by decide) ?_
        exact hret _ _ _ _ _ _ dX1_bad_23 rfl ⟨rfl, Or.inr ⟨tr_no3 hk ek c3, rfl⟩⟩ hI
set_option maxHeartbeats 4000000 in
theorem kX1_badCell (l : Launch) (D : va_G) (cI cZ : ClassId) (cell : Int32)  : WMi l yX1_badCell cX1_badCell 1 (some .boolean) 0 0 D cI cZ [.int cell] [] (fun _ : Unit => []) (fun r _ => (∃ c, c < 16 ∧ cell = nI c ∧ r = 0) ∨ ((∀ c, c < 16 → ¬ cell = nI c) ∧ r = 1)) := by
  refine wstart_i RX1 (by decide) rfl (Nat.le_of_ble_eq_true rfl) ?_
  intro p e R s m args below meth cd A Q ls hRf hRl C hl hI hret
  have hx := C.1
  have hb := C.2.1
  have hl : lv_has ls 1 [(0, .int cell)] := hl
  refine lv_iload_n hx hb dX1_badCell_0 rfl (lv_at hl 0 rfl) ?_
  refine lv_if_lt (tgt := 10) hx hb dX1_badCell_1 (by decide) (fun c1 => ?_) (fun c1 => ?_)
  · refine lv_iconst (v := 1) hx hb dX1_badCell_10 (by decide) ?_
    refine lv_goto (tgt := 15) hx hb dX1_badCell_11 (by decide) ?_
    exact hret _ _ _ _ _ () dX1_badCell_15 rfl (Or.inr ⟨cl_no1 c1, rfl⟩) hI
  · refine lv_iload_n hx hb dX1_badCell_4 rfl (lv_at hl 0 rfl) ?_
    refine lv_bipush (v := 15) hx hb dX1_badCell_5 (by decide) ?_
    refine lv_icmp_le (tgt := 14) hx hb dX1_badCell_7 (by decide) (fun c2 => ?_) (fun c2 => ?_)
    · obtain ⟨k, hk, ek⟩ := cl_ok c1 (Int32.not_lt.mpr c2)
      refine lv_iconst (v := 0) hx hb dX1_badCell_14 (by decide) ?_
      exact hret _ _ _ _ _ () dX1_badCell_15 rfl (Or.inl ⟨k, hk, ek, rfl⟩) hI
    · refine lv_iconst (v := 1) hx hb dX1_badCell_10 (by decide) ?_
      refine lv_goto (tgt := 15) hx hb dX1_badCell_11 (by decide) ?_
      exact hret _ _ _ _ _ () dX1_badCell_15 rfl (Or.inr ⟨cl_no2 (Int32.not_le.mp c2), rfl⟩) hI
set_option maxHeartbeats 4000000 in
theorem kX1_seen (l : Launch) (D : va_G) (cI cZ : ClassId) (a : Nat → Nat) (st wt : Nat → Int32) (mc : Int32) (lv ss mb vw wo mo lk : Nat → Int32)  (i : Nat) (hi : i < 96) : WMi l yX1_seen cX1_seen 2 (some .int) 0 0 D cI cZ [.ref (a 0), .int (nI i)] (mw cI cZ a (st, wt, mc, lv, ss, mb, vw, wo, mo, lk)) (mw cI cZ a) (fun r u => u = (st, wt, mc, lv, ss, mb, vw, wo, mo, lk) ∧ r = sv vw wo mo i) := by
  refine wstart_i RX1 (by decide) rfl (Nat.le_of_ble_eq_true rfl) ?_
  intro p e R s m args below meth cd A Q ls hRf hRl C hl hI hret
  have hx := C.1
  have hb := C.2.1
  have hl : lv_has ls 2 [(0, .ref (a 0)), (1, .int (nI i))] := hl
  refine lv_aload_n hx hb dX1_seen_0 rfl (lv_at hl 0 rfl) ?_
  refine mg_wo C hI dX1_seen_1 ?_
  refine lv_iload_n hx hb dX1_seen_4 rfl (lv_at hl 1 rfl) ?_
  refine ml_wo C hI rfl hi dX1_seen_5 ?_
  refine lv_if_eq (tgt := 18) hx hb dX1_seen_6 (by decide) (fun c1 => ?_) (fun c1 => ?_)
  · refine lv_aload_n hx hb dX1_seen_18 rfl (lv_at hl 0 rfl) ?_
    refine mg_vw C hI dX1_seen_19 ?_
    refine lv_iload_n hx hb dX1_seen_22 rfl (lv_at hl 1 rfl) ?_
    refine ml_vw C hI rfl hi dX1_seen_23 ?_
    exact hret _ _ _ _ _ _ dX1_seen_24 rfl ⟨rfl, (if_pos c1).symm⟩ hI
  · refine lv_aload_n hx hb dX1_seen_9 rfl (lv_at hl 0 rfl) ?_
    refine mg_mo C hI dX1_seen_10 ?_
    refine lv_iload_n hx hb dX1_seen_13 rfl (lv_at hl 1 rfl) ?_
    refine ml_mo C hI rfl hi dX1_seen_14 ?_
    refine lv_goto (tgt := 24) hx hb dX1_seen_15 (by decide) ?_
    exact hret _ _ _ _ _ _ dX1_seen_24 rfl ⟨rfl, (if_neg c1).symm⟩ hI
set_option maxHeartbeats 4000000 in
theorem kX1_read (l : Launch) (D : va_G) (cI cZ : ClassId) (a : Nat → Nat) (st wt : Nat → Int32) (mc : Int32) (lv ss mb vw wo mo lk : Nat → Int32) (t cell : Int32)  : WMi l yX1_read cX1_read 4 (some .int) 1 21 D cI cZ [.ref (a 0), .int t, .int cell] (mw cI cZ a (st, wt, mc, lv, ss, mb, vw, wo, mo, lk)) (mw cI cZ a) (fun r u => ∃ lk', u = (st, wt, mc, lv, ss, mb, vw, wo, mo, lk') ∧ MRead lv vw wo mo lk t cell r lk') := by
  refine wstart_i RX1 (by decide) rfl (Nat.le_of_ble_eq_true rfl) ?_
  intro p e R s m args below meth cd A Q ls hRf hRl C hl hI hret
  have hx := C.1
  have hb := C.2.1
  have hl : lv_has ls 4 [(0, .ref (a 0)), (1, .int t), (2, .int cell)] := hl
  refine lv_aload_n hx hb dX1_read_0 rfl (lv_at hl 0 rfl) ?_
  refine lv_iload_n hx hb dX1_read_1 rfl (lv_at hl 1 rfl) ?_
  refine wcall_i (n := 1) (wr := []) (rest := []) (kX1_bad l D cI cZ a st wt mc lv ss mb vw wo mo lk t) C (lw_V q190 q192 qs8 q13 q193) (by decide +kernel) ⟨by rw [hRf]; decide, by rw [hRl]; decide⟩ ⟨Nat.zero_le _, Nat.zero_le _⟩ rfl rfl hI.nil rfl hl.1 rfl (Nat.le_of_ble_eq_true rfl) dX1_read_2 (fun r1 u1 H locs hp hI => ?_)
  have hI : wI D cI cZ A s (mw cI cZ a u1) H locs := hI
  obtain ⟨rfl, hp⟩ := hp
  rcases hp with ⟨k, ⟨hk, rfl, ho⟩, rfl⟩ | ⟨hno, rfl⟩
  · refine lv_if_ne (tgt := 15) hx hb dX1_read_5 (by decide) (fun c1 => ?_) (fun c1 => ?_)
    · exact absurd rfl c1
    · refine lv_iload_n hx hb dX1_read_8 rfl (lv_at hl 2 rfl) ?_
      refine wcall_s (n := 1) (rest := []) (kX1_badCell l D cI cZ cell) C (lw_S q194 q195 q13 q196) (by decide +kernel) ⟨by rw [hRf]; decide, by rw [hRl]; decide⟩ ⟨Nat.zero_le _, Nat.zero_le _⟩ hI rfl hl.1 rfl (Nat.le_of_ble_eq_true rfl) dX1_read_9 (fun r2 H locs hp2 hI => ?_)
      rcases hp2 with ⟨i, hi, rfl, rfl⟩ | ⟨hnc, rfl⟩
      · refine lv_if_eq (tgt := 17) hx hb dX1_read_12 (by decide) (fun c2 => ?_) (fun c2 => ?_)
        · have hki : 16 * k + i < 96 := by omega
          refine lv_bipush (v := 16) hx hb dX1_read_17 (by decide) ?_
          refine lv_iload_n hx hb dX1_read_19 rfl (lv_at hl 1 rfl) ?_
          refine lv_imul hx hb dX1_read_20 ?_
          refine lv_iload_n hx hb dX1_read_21 rfl (lv_at hl 2 rfl) ?_
          refine lv_iadd hx hb dX1_read_22 ?_
          refine lv_topi (fun x3 ex3 => ?_)
          have ex3 : x3 = nI (16 * k + i) := ex3.trans (ix16 k i)
          subst ex3
          refine lv_istore_n (lv' := [(3, .int (nI (16 * k + i))), (0, .ref (a 0)), (1, .int (nI k)), (2, .int (nI i))]) hx hb dX1_read_23 rfl hl (by decide) rfl (fun ls hl => ?_)
          have hl : lv_has ls 4 [(0, .ref (a 0)), (1, .int (nI k)), (2, .int (nI i)), (3, .int (nI (16 * k + i)))] := lv_sub hl [1, 2, 3, 0] rfl
          refine lv_aload_n hx hb dX1_read_24 rfl (lv_at hl 0 rfl) ?_
          refine mg_wo C hI dX1_read_25 ?_
          refine lv_iload_n hx hb dX1_read_28 rfl (lv_at hl 3 rfl) ?_
          refine ml_wo C hI rfl hki dX1_read_29 ?_
          refine lv_if_ne (tgt := 40) hx hb dX1_read_30 (by decide) (fun c3 => ?_) (fun c3 => ?_)
          · refine lv_aload_n hx hb dX1_read_40 rfl (lv_at hl 0 rfl) ?_
            refine lv_iload_n hx hb dX1_read_41 rfl (lv_at hl 3 rfl) ?_
            refine wcall_i (n := 1) (wr := []) (rest := []) (kX1_seen l D cI cZ a st wt mc lv ss mb vw wo mo lk (16 * k + i) hki) C (lw_V q197 q199 qs9 q13 q200) (by decide +kernel) ⟨by rw [hRf]; decide, by rw [hRl]; decide⟩ ⟨Nat.zero_le _, Nat.zero_le _⟩ rfl rfl hI.nil rfl hl.1 rfl (Nat.le_of_ble_eq_true rfl) dX1_read_42 (fun r4 u4 H locs hp4 hI => ?_)
            have hI : wI D cI cZ A s (mw cI cZ a u4) H locs := hI
            obtain ⟨rfl, hr⟩ := hp4
            exact hret _ _ _ _ _ _ dX1_read_45 rfl ⟨_, rfl, Or.inl ⟨k, i, ⟨hk, hi, rfl, rfl, ho⟩, hr, (if_neg c3).symm⟩⟩ hI
          · refine lv_aload_n hx hb dX1_read_33 rfl (lv_at hl 0 rfl) ?_
            refine mg_lk C hI dX1_read_34 ?_
            refine lv_iload_n hx hb dX1_read_37 rfl (lv_at hl 3 rfl) ?_
            refine lv_iconst (v := 1) hx hb dX1_read_38 (by decide) ?_
            refine ms_lk (y9 := 1) C (by decide) hI rfl hki dX1_read_39 (fun H locs hI => ?_)
            refine lv_aload_n hx hb dX1_read_40 rfl (lv_at hl 0 rfl) ?_
            refine lv_iload_n hx hb dX1_read_41 rfl (lv_at hl 3 rfl) ?_
            refine wcall_i (n := 1) (wr := []) (rest := []) (kX1_seen l D cI cZ a st wt mc lv ss mb vw wo mo (upd lk (16 * k + i) 1) (16 * k + i) hki) C (lw_V q197 q199 qs9 q13 q200) (by decide +kernel) ⟨by rw [hRf]; decide, by rw [hRl]; decide⟩ ⟨Nat.zero_le _, Nat.zero_le _⟩ rfl rfl hI.nil rfl hl.1 rfl (Nat.le_of_ble_eq_true rfl) dX1_read_42 (fun r4 u4 H locs hp4 hI => ?_)
            have hI : wI D cI cZ A s (mw cI cZ a u4) H locs := hI
            obtain ⟨rfl, hr⟩ := hp4
            exact hret _ _ _ _ _ _ dX1_read_45 rfl ⟨_, rfl, Or.inl ⟨k, i, ⟨hk, hi, rfl, rfl, ho⟩, hr, (if_pos c3).symm⟩⟩ hI
        · exact absurd rfl c2
      · refine lv_if_eq (tgt := 17) hx hb dX1_read_12 (by decide) (fun c2 => ?_) (fun c2 => ?_)
        · exact absurd c2 (by decide)
        · refine lv_iconst (v := 0) hx hb dX1_read_15 (by decide) ?_
          exact hret _ _ _ _ _ _ dX1_read_16 rfl ⟨_, rfl, Or.inr ⟨(fun k2 i2 q => hnc i2 q.2.1 q.2.2.2.1), rfl, rfl⟩⟩ hI
  · refine lv_if_ne (tgt := 15) hx hb dX1_read_5 (by decide) (fun c1 => ?_) (fun c1 => ?_)
    · refine lv_iconst (v := 0) hx hb dX1_read_15 (by decide) ?_
      exact hret _ _ _ _ _ _ dX1_read_16 rfl ⟨_, rfl, Or.inr ⟨(fun k2 i2 q => hno k2 ⟨q.1, q.2.2.1, q.2.2.2.2⟩), rfl, rfl⟩⟩ hI
    · exact absurd c1 (by decide)
set_option maxHeartbeats 4000000 in
theorem kX1_write (l : Launch) (D : va_G) (cI cZ : ClassId) (a : Nat → Nat) (st wt : Nat → Int32) (mc : Int32) (lv ss mb vw wo mo lk : Nat → Int32) (t cell v : Int32)  : WMi l yX1_write cX1_write 5 (some .int) 1 21 D cI cZ [.ref (a 0), .int t, .int cell, .int v] (mw cI cZ a (st, wt, mc, lv, ss, mb, vw, wo, mo, lk)) (mw cI cZ a) (fun r u => ∃ wo' mo', u = (st, wt, mc, lv, ss, mb, vw, wo', mo', lk) ∧ MWrite lv wo mo t cell v r wo' mo') := by
  refine wstart_i RX1 (by decide) rfl (Nat.le_of_ble_eq_true rfl) ?_
  intro p e R s m args below meth cd A Q ls hRf hRl C hl hI hret
  have hx := C.1
  have hb := C.2.1
  have hl : lv_has ls 5 [(0, .ref (a 0)), (1, .int t), (2, .int cell), (3, .int v)] := hl
  refine lv_aload_n hx hb dX1_write_0 rfl (lv_at hl 0 rfl) ?_
  refine lv_iload_n hx hb dX1_write_1 rfl (lv_at hl 1 rfl) ?_
  refine wcall_i (n := 1) (wr := []) (rest := []) (kX1_bad l D cI cZ a st wt mc lv ss mb vw wo mo lk t) C (lw_V q190 q192 qs8 q13 q193) (by decide +kernel) ⟨by rw [hRf]; decide, by rw [hRl]; decide⟩ ⟨Nat.zero_le _, Nat.zero_le _⟩ rfl rfl hI.nil rfl hl.1 rfl (Nat.le_of_ble_eq_true rfl) dX1_write_2 (fun r1 u1 H locs hp hI => ?_)
  have hI : wI D cI cZ A s (mw cI cZ a u1) H locs := hI
  obtain ⟨rfl, hp⟩ := hp
  rcases hp with ⟨k, ⟨hk, rfl, ho⟩, rfl⟩ | ⟨hno, rfl⟩
  · refine lv_if_ne (tgt := 15) hx hb dX1_write_5 (by decide) (fun c1 => ?_) (fun c1 => ?_)
    · exact absurd rfl c1
    · refine lv_iload_n hx hb dX1_write_8 rfl (lv_at hl 2 rfl) ?_
      refine wcall_s (n := 1) (rest := []) (kX1_badCell l D cI cZ cell) C (lw_S q194 q195 q13 q196) (by decide +kernel) ⟨by rw [hRf]; decide, by rw [hRl]; decide⟩ ⟨Nat.zero_le _, Nat.zero_le _⟩ hI rfl hl.1 rfl (Nat.le_of_ble_eq_true rfl) dX1_write_9 (fun r2 H locs hp2 hI => ?_)
      rcases hp2 with ⟨i, hi, rfl, rfl⟩ | ⟨hnc, rfl⟩
      · refine lv_if_eq (tgt := 17) hx hb dX1_write_12 (by decide) (fun c2 => ?_) (fun c2 => ?_)
        · have hki : 16 * k + i < 96 := by omega
          refine lv_bipush (v := 16) hx hb dX1_write_17 (by decide) ?_
          refine lv_iload_n hx hb dX1_write_19 rfl (lv_at hl 1 rfl) ?_
          refine lv_imul hx hb dX1_write_20 ?_
          refine lv_iload_n hx hb dX1_write_21 rfl (lv_at hl 2 rfl) ?_
          refine lv_iadd hx hb dX1_write_22 ?_
          refine lv_topi (fun x4 ex4 => ?_)
          have ex4 : x4 = nI (16 * k + i) := ex4.trans (ix16 k i)
          subst ex4
          refine lv_istore (lv' := [(4, .int (nI (16 * k + i))), (0, .ref (a 0)), (1, .int (nI k)), (2, .int (nI i)), (3, .int v)]) hx hb dX1_write_23 hl (by decide) rfl (fun ls hl => ?_)
          have hl : lv_has ls 5 [(0, .ref (a 0)), (1, .int (nI k)), (2, .int (nI i)), (3, .int v), (4, .int (nI (16 * k + i)))] := lv_sub hl [1, 2, 3, 4, 0] rfl
          refine lv_aload_n hx hb dX1_write_25 rfl (lv_at hl 0 rfl) ?_
          refine mg_wo C hI dX1_write_26 ?_
          refine lv_iload hx hb dX1_write_29 (lv_at hl 4 rfl) ?_
          refine lv_iconst (v := 1) hx hb dX1_write_31 (by decide) ?_
          refine ms_wo (y9 := 1) C (by decide) hI rfl hki dX1_write_32 (fun H locs hI => ?_)
          refine lv_aload_n hx hb dX1_write_33 rfl (lv_at hl 0 rfl) ?_
          refine mg_mo C hI dX1_write_34 ?_
          refine lv_iload hx hb dX1_write_37 (lv_at hl 4 rfl) ?_
          refine lv_iload_n hx hb dX1_write_39 rfl (lv_at hl 3 rfl) ?_
          refine ms_mo C hI rfl hki dX1_write_40 (fun H locs hI => ?_)
          refine lv_iconst (v := 0) hx hb dX1_write_41 (by decide) ?_
          exact hret _ _ _ _ _ _ dX1_write_42 rfl ⟨_, _, rfl, Or.inl ⟨k, i, ⟨hk, hi, rfl, rfl, ho⟩, rfl, rfl, rfl⟩⟩ hI
        · exact absurd rfl c2
      · refine lv_if_eq (tgt := 17) hx hb dX1_write_12 (by decide) (fun c2 => ?_) (fun c2 => ?_)
        · exact absurd c2 (by decide)
        · refine lv_iconst (v := (-1)) hx hb dX1_write_15 (by decide) ?_
          exact hret _ _ _ _ _ _ dX1_write_16 rfl ⟨_, _, rfl, Or.inr ⟨(fun k2 i2 q => hnc i2 q.2.1 q.2.2.2.1), rfl, rfl, rfl⟩⟩ hI
  · refine lv_if_ne (tgt := 15) hx hb dX1_write_5 (by decide) (fun c1 => ?_) (fun c1 => ?_)
    · refine lv_iconst (v := (-1)) hx hb dX1_write_15 (by decide) ?_
      exact hret _ _ _ _ _ _ dX1_write_16 rfl ⟨_, _, rfl, Or.inr ⟨(fun k2 i2 q => hno k2 ⟨q.1, q.2.2.1, q.2.2.2.2⟩), rfl, rfl, rfl⟩⟩ hI
    · exact absurd c1 (by decide)
set_option maxHeartbeats 4000000 in
theorem kX1_add (l : Launch) (D : va_G) (cI cZ : ClassId) (a : Nat → Nat) (st wt : Nat → Int32) (mc : Int32) (lv ss mb vw wo mo lk : Nat → Int32) (t cell v : Int32)  : WMi l yX1_add cX1_add 5 (some .int) 2 45 D cI cZ [.ref (a 0), .int t, .int cell, .int v] (mw cI cZ a (st, wt, mc, lv, ss, mb, vw, wo, mo, lk)) (mw cI cZ a) (fun r u => ∃ wo' mo' lk', u = (st, wt, mc, lv, ss, mb, vw, wo', mo', lk') ∧ MAdd lv vw wo mo lk t cell v r wo' mo' lk') := by
  refine wstart_i RX1 (by decide) rfl (Nat.le_of_ble_eq_true rfl) ?_
  intro p e R s m args below meth cd A Q ls hRf hRl C hl hI hret
  have hx := C.1
  have hb := C.2.1
  have hl : lv_has ls 5 [(0, .ref (a 0)), (1, .int t), (2, .int cell), (3, .int v)] := hl
  refine lv_aload_n hx hb dX1_add_0 rfl (lv_at hl 0 rfl) ?_
  refine lv_iload_n hx hb dX1_add_1 rfl (lv_at hl 1 rfl) ?_
  refine wcall_i (n := 1) (wr := []) (rest := []) (kX1_bad l D cI cZ a st wt mc lv ss mb vw wo mo lk t) C (lw_V q190 q192 qs8 q13 q193) (by decide +kernel) ⟨by rw [hRf]; decide, by rw [hRl]; decide⟩ ⟨Nat.zero_le _, Nat.zero_le _⟩ rfl rfl hI.nil rfl hl.1 rfl (Nat.le_of_ble_eq_true rfl) dX1_add_2 (fun r1 u1 H locs hp hI => ?_)
  have hI : wI D cI cZ A s (mw cI cZ a u1) H locs := hI
  obtain ⟨rfl, hp⟩ := hp
  rcases hp with ⟨k, ⟨hk, rfl, ho⟩, rfl⟩ | ⟨hno, rfl⟩
  · refine lv_if_ne (tgt := 15) hx hb dX1_add_5 (by decide) (fun c1 => ?_) (fun c1 => ?_)
    · exact absurd rfl c1
    · refine lv_iload_n hx hb dX1_add_8 rfl (lv_at hl 2 rfl) ?_
      refine wcall_s (n := 1) (rest := []) (kX1_badCell l D cI cZ cell) C (lw_S q194 q195 q13 q196) (by decide +kernel) ⟨by rw [hRf]; decide, by rw [hRl]; decide⟩ ⟨Nat.zero_le _, Nat.zero_le _⟩ hI rfl hl.1 rfl (Nat.le_of_ble_eq_true rfl) dX1_add_9 (fun r2 H locs hp2 hI => ?_)
      rcases hp2 with ⟨i, hi, rfl, rfl⟩ | ⟨hnc, rfl⟩
      · refine lv_if_eq (tgt := 17) hx hb dX1_add_12 (by decide) (fun c2 => ?_) (fun c2 => ?_)
        · have hvl : Val lv (nI k) (nI i) k i := ⟨hk, hi, rfl, rfl, ho⟩
          refine lv_aload_n hx hb dX1_add_17 rfl (lv_at hl 0 rfl) ?_
          refine lv_iload_n hx hb dX1_add_18 rfl (lv_at hl 1 rfl) ?_
          refine lv_iload_n hx hb dX1_add_19 rfl (lv_at hl 2 rfl) ?_
          refine wcall_i (n := 2) (wr := []) (rest := []) (kX1_read l D cI cZ a st wt mc lv ss mb vw wo mo lk (nI k) (nI i)) C (lw_V q209 q187 q188 q13 q189) (by decide +kernel) ⟨by rw [hRf]; decide, by rw [hRl]; decide⟩ ⟨Nat.zero_le _, Nat.zero_le _⟩ rfl rfl hI.nil rfl hl.1 rfl (Nat.le_of_ble_eq_true rfl) dX1_add_20 (fun r4 u4 H locs hp4 hI => ?_)
          have hI : wI D cI cZ A s (mw cI cZ a u4) H locs := hI
          obtain ⟨lk', rfl, hr⟩ := hp4
          rcases hr with ⟨k2, i2, hv2, er, el⟩ | ⟨hv2, -⟩
          · obtain ⟨rfl, rfl⟩ := val_one hvl hv2
            refine lv_iload_n hx hb dX1_add_23 rfl (lv_at hl 3 rfl) ?_
            refine lv_iadd hx hb dX1_add_24 ?_
            refine lv_topi (fun x4 ex4 => ?_)
            refine lv_istore (lv' := [(4, .int x4), (0, .ref (a 0)), (1, .int (nI k2)), (2, .int (nI i2)), (3, .int v)]) hx hb dX1_add_25 hl (by decide) rfl (fun ls hl => ?_)
            have hl : lv_has ls 5 [(0, .ref (a 0)), (1, .int (nI k2)), (2, .int (nI i2)), (3, .int v), (4, .int x4)] := lv_sub hl [1, 2, 3, 4, 0] rfl
            refine lv_aload_n hx hb dX1_add_27 rfl (lv_at hl 0 rfl) ?_
            refine lv_iload_n hx hb dX1_add_28 rfl (lv_at hl 1 rfl) ?_
            refine lv_iload_n hx hb dX1_add_29 rfl (lv_at hl 2 rfl) ?_
            refine lv_iload hx hb dX1_add_30 (lv_at hl 4 rfl) ?_
            refine wcall_i (n := 3) (wr := []) (rest := []) (kX1_write l D cI cZ a st wt mc lv ss mb vw wo mo lk' (nI k2) (nI i2) x4) C (lw_V q210 q202 q203 q13 q204) (by decide +kernel) ⟨by rw [hRf]; decide, by rw [hRl]; decide⟩ ⟨Nat.zero_le _, Nat.zero_le _⟩ rfl rfl hI.nil rfl hl.1 rfl (Nat.le_of_ble_eq_true rfl) dX1_add_32 (fun r5 u5 H locs hp5 hI => ?_)
            have hI : wI D cI cZ A s (mw cI cZ a u5) H locs := hI
            obtain ⟨wo', mo', rfl, hw⟩ := hp5
            rcases hw with ⟨k3, i3, hv3, -, e1, e2⟩ | ⟨hv3, -⟩
            · obtain ⟨rfl, rfl⟩ := val_one hv2 hv3
              refine lv_pop hx hb dX1_add_35 rfl ?_
              refine lv_iload hx hb dX1_add_36 (lv_at hl 4 rfl) ?_
              exact hret _ _ _ _ _ _ dX1_add_38 rfl ⟨wo', mo', lk', rfl, Or.inl ⟨_, _, hv3, by rw [ex4, er], el, e1, e2⟩⟩ hI
            · exact absurd hv2 (hv3 _ _)
          · exact absurd hvl (hv2 _ _)
        · exact absurd rfl c2
      · refine lv_if_eq (tgt := 17) hx hb dX1_add_12 (by decide) (fun c2 => ?_) (fun c2 => ?_)
        · exact absurd c2 (by decide)
        · refine lv_iconst (v := 0) hx hb dX1_add_15 (by decide) ?_
          exact hret _ _ _ _ _ _ dX1_add_16 rfl ⟨_, _, _, rfl, Or.inr ⟨(fun k2 i2 q => hnc i2 q.2.1 q.2.2.2.1), rfl, rfl, rfl, rfl⟩⟩ hI
  · refine lv_if_ne (tgt := 15) hx hb dX1_add_5 (by decide) (fun c1 => ?_) (fun c1 => ?_)
    · refine lv_iconst (v := 0) hx hb dX1_add_15 (by decide) ?_
      exact hret _ _ _ _ _ _ dX1_add_16 rfl ⟨_, _, _, rfl, Or.inr ⟨(fun k2 i2 q => hno k2 ⟨q.1, q.2.2.1, q.2.2.2.2⟩), rfl, rfl, rfl, rfl⟩⟩ hI
    · exact absurd c1 (by decide)
set_option maxHeartbeats 4000000 in
theorem kX1_overtaken (l : Launch) (D : va_G) (cI cZ : ClassId) (a : Nat → Nat) (st wt : Nat → Int32) (mc : Int32) (lv ss mb vw wo mo lk : Nat → Int32)  (k : Nat) (hk : k < 6) : WMi l yX1_overtaken cX1_overtaken 4 (some .boolean) 0 0 D cI cZ [.ref (a 0), .int (nI k)] (mw cI cZ a (st, wt, mc, lv, ss, mb, vw, wo, mo, lk)) (mw cI cZ a) (fun r u => u = (st, wt, mc, lv, ss, mb, vw, wo, mo, lk) ∧ ((OvM wt ss mb wo lk k ∧ r = 1) ∨ (¬ OvM wt ss mb wo lk k ∧ r = 0))) := by
  refine wstart_i RX1 (by decide) rfl (Nat.le_of_ble_eq_true rfl) ?_
  intro p e R s m args below meth cd A Q ls hRf hRl C hl hI hret
  have hx := C.1
  have hb := C.2.1
  have hl : lv_has ls 4 [(0, .ref (a 0)), (1, .int (nI k))] := hl
  have loop : ∀ (n j : Nat) (ls : Array Slot), j + n = 16 → (∀ i, i < j → ¬ ((¬ wo (16 * k + i) = 0 ∨ ¬ ss k = 0 ∧ ¬ lk (16 * k + i) = 0) ∧ mb k < wt i)) → lv_has ls 4 [(0, .ref (a 0)), (1, .int (nI k)), (2, .int (nI j))] → W p l e R s m args below meth cd s.heap [] 0 0 Q (F0 m 2 ls []) := by
    intro n
    induction n with
    | zero =>
      intro j ls hj hs hl
      refine lv_iload_n hx hb dX1_overtaken_2 rfl (lv_at hl 2 rfl) ?_
      refine lv_bipush (v := (nI 16)) hx hb dX1_overtaken_3 (by decide) ?_
      refine lv_icmp_ge (tgt := 78) hx hb dX1_overtaken_5 (by decide) (fun c1 => ?_) (fun c1 => ?_)
      · refine lv_iconst (v := 0) hx hb dX1_overtaken_78 (by decide) ?_
        exact hret _ _ _ _ _ _ dX1_overtaken_79 rfl ⟨rfl, Or.inr ⟨fun q => by obtain ⟨i, hi, q⟩ := q; exact hs i (by omega) q, rfl⟩⟩ hI
      · exact absurd (nI_le (by omega) (by omega)) c1
    | succ n ih =>
      intro j ls hj hs hl
      have hj16 : j < 16 := by omega
      have hkj : 16 * k + j < 96 := by omega
      have mid : ∀ (nv : Int32), ((nv = 1 ∧ (¬ wo (16 * k + j) = 0 ∨ ¬ ss k = 0 ∧ ¬ lk (16 * k + j) = 0)) ∨ (nv = 0 ∧ ¬ (¬ wo (16 * k + j) = 0 ∨ ¬ ss k = 0 ∧ ¬ lk (16 * k + j) = 0))) → W p l e R s m args below meth cd s.heap [] 0 0 Q (F0 m 50 ls [.int nv]) := by
        intro nv hnv
        refine lv_istore_n (lv' := [(3, .int nv), (0, .ref (a 0)), (1, .int (nI k)), (2, .int (nI j))]) hx hb dX1_overtaken_50 rfl hl (by decide) rfl (fun ls hl => ?_)
        have hl : lv_has ls 4 [(0, .ref (a 0)), (1, .int (nI k)), (2, .int (nI j)), (3, .int nv)] := lv_sub hl [1, 2, 3, 0] rfl
        refine lv_iload_n hx hb dX1_overtaken_51 rfl (lv_at hl 3 rfl) ?_
        refine lv_if_eq (tgt := 72) hx hb dX1_overtaken_52 (by decide) (fun c2 => ?_) (fun c2 => ?_)
        · have hnn : ¬ (¬ wo (16 * k + j) = 0 ∨ ¬ ss k = 0 ∧ ¬ lk (16 * k + j) = 0) := by
            rcases hnv with ⟨e1, -⟩ | ⟨-, q⟩
            · rw [e1] at c2
              exact absurd c2 (by decide)
            · exact q
          have hs : ∀ i, i < j + 1 → ¬ ((¬ wo (16 * k + i) = 0 ∨ ¬ ss k = 0 ∧ ¬ lk (16 * k + i) = 0) ∧ mb k < wt i) := lt_s hs (fun q => hnn q.1)
          refine lv_iinc (v := (nI (j + 1))) (lv' := [(2, .int (nI (j + 1))), (0, .ref (a 0)), (1, .int (nI k)), (3, .int nv)]) hx hb dX1_overtaken_72 hl (k := 2) rfl (ii1 j) (by decide) rfl (fun ls hl => ?_)
          have hl : lv_has ls 4 [(0, .ref (a 0)), (1, .int (nI k)), (2, .int (nI (j + 1))), (3, .int nv)] := lv_sub hl [1, 2, 0, 3] rfl
          refine lv_goto (tgt := 2) hx hb dX1_overtaken_75 (by decide) ?_
          exact ih _ ls (by omega) hs (lv_sub hl [0, 1, 2] rfl)
        · have hnn : (¬ wo (16 * k + j) = 0 ∨ ¬ ss k = 0 ∧ ¬ lk (16 * k + j) = 0) := by
            rcases hnv with ⟨-, q⟩ | ⟨e1, -⟩
            · exact q
            · exact absurd e1 c2
          refine lv_aload_n hx hb dX1_overtaken_55 rfl (lv_at hl 0 rfl) ?_
          refine mg_wt C hI dX1_overtaken_56 ?_
          refine lv_iload_n hx hb dX1_overtaken_59 rfl (lv_at hl 2 rfl) ?_
          refine ml_wt C hI rfl hj16 dX1_overtaken_60 ?_
          refine lv_aload_n hx hb dX1_overtaken_61 rfl (lv_at hl 0 rfl) ?_
          refine mg_mb C hI dX1_overtaken_62 ?_
          refine lv_iload_n hx hb dX1_overtaken_65 rfl (lv_at hl 1 rfl) ?_
          refine ml_mb C hI rfl hk dX1_overtaken_66 ?_
          refine lv_icmp_le (tgt := 72) hx hb dX1_overtaken_67 (by decide) (fun c3 => ?_) (fun c3 => ?_)
          · have hs : ∀ i, i < j + 1 → ¬ ((¬ wo (16 * k + i) = 0 ∨ ¬ ss k = 0 ∧ ¬ lk (16 * k + i) = 0) ∧ mb k < wt i) := lt_s hs (fun q => Int32.lt_irrefl (Int32.lt_of_lt_of_le q.2 c3))
            refine lv_iinc (v := (nI (j + 1))) (lv' := [(2, .int (nI (j + 1))), (0, .ref (a 0)), (1, .int (nI k)), (3, .int nv)]) hx hb dX1_overtaken_72 hl (k := 2) rfl (ii1 j) (by decide) rfl (fun ls hl => ?_)
            have hl : lv_has ls 4 [(0, .ref (a 0)), (1, .int (nI k)), (2, .int (nI (j + 1))), (3, .int nv)] := lv_sub hl [1, 2, 0, 3] rfl
            refine lv_goto (tgt := 2) hx hb dX1_overtaken_75 (by decide) ?_
            exact ih _ ls (by omega) hs (lv_sub hl [0, 1, 2] rfl)
          · refine lv_iconst (v := 1) hx hb dX1_overtaken_70 (by decide) ?_
            exact hret _ _ _ _ _ _ dX1_overtaken_71 rfl ⟨rfl, Or.inl ⟨⟨j, hj16, hnn, Int32.not_le.mp c3⟩, rfl⟩⟩ hI
      refine lv_iload_n hx hb dX1_overtaken_2 rfl (lv_at hl 2 rfl) ?_
      refine lv_bipush (v := (nI 16)) hx hb dX1_overtaken_3 (by decide) ?_
      refine lv_icmp_ge (tgt := 78) hx hb dX1_overtaken_5 (by decide) (fun c1 => ?_) (fun c1 => ?_)
      · exact absurd c1 (nI_ge (by omega) (by decide))
      · refine lv_aload_n hx hb dX1_overtaken_8 rfl (lv_at hl 0 rfl) ?_
        refine mg_wo C hI dX1_overtaken_9 ?_
        refine lv_bipush (v := 16) hx hb dX1_overtaken_12 (by decide) ?_
        refine lv_iload_n hx hb dX1_overtaken_14 rfl (lv_at hl 1 rfl) ?_
        refine lv_imul hx hb dX1_overtaken_15 ?_
        refine lv_iload_n hx hb dX1_overtaken_16 rfl (lv_at hl 2 rfl) ?_
        refine lv_iadd hx hb dX1_overtaken_17 ?_
        refine ml_wo C hI (ix16 k j) hkj dX1_overtaken_18 ?_
        refine lv_if_ne (tgt := 45) hx hb dX1_overtaken_19 (by decide) (fun c2 => ?_) (fun c2 => ?_)
        · refine lv_iconst (v := 1) hx hb dX1_overtaken_45 (by decide) ?_
          refine lv_goto (tgt := 50) hx hb dX1_overtaken_46 (by decide) ?_
          exact mid 1 (Or.inl ⟨rfl, Or.inl c2⟩)
        · refine lv_aload_n hx hb dX1_overtaken_22 rfl (lv_at hl 0 rfl) ?_
          refine mg_ss C hI dX1_overtaken_23 ?_
          refine lv_iload_n hx hb dX1_overtaken_26 rfl (lv_at hl 1 rfl) ?_
          refine ml_ss C hI rfl hk dX1_overtaken_27 ?_
          refine lv_if_eq (tgt := 49) hx hb dX1_overtaken_28 (by decide) (fun c3 => ?_) (fun c3 => ?_)
          · refine lv_iconst (v := 0) hx hb dX1_overtaken_49 (by decide) ?_
            exact mid 0 (Or.inr ⟨rfl, fun q => q.elim (fun z => z c2) (fun z => z.1 c3)⟩)
          · refine lv_aload_n hx hb dX1_overtaken_31 rfl (lv_at hl 0 rfl) ?_
            refine mg_lk C hI dX1_overtaken_32 ?_
            refine lv_bipush (v := 16) hx hb dX1_overtaken_35 (by decide) ?_
            refine lv_iload_n hx hb dX1_overtaken_37 rfl (lv_at hl 1 rfl) ?_
            refine lv_imul hx hb dX1_overtaken_38 ?_
            refine lv_iload_n hx hb dX1_overtaken_39 rfl (lv_at hl 2 rfl) ?_
            refine lv_iadd hx hb dX1_overtaken_40 ?_
            refine ml_lk C hI (ix16 k j) hkj dX1_overtaken_41 ?_
            refine lv_if_eq (tgt := 49) hx hb dX1_overtaken_42 (by decide) (fun c4 => ?_) (fun c4 => ?_)
            · refine lv_iconst (v := 0) hx hb dX1_overtaken_49 (by decide) ?_
              exact mid 0 (Or.inr ⟨rfl, fun q => q.elim (fun z => z c2) (fun z => z.2 c4)⟩)
            · refine lv_iconst (v := 1) hx hb dX1_overtaken_45 (by decide) ?_
              refine lv_goto (tgt := 50) hx hb dX1_overtaken_46 (by decide) ?_
              exact mid 1 (Or.inl ⟨rfl, Or.inr ⟨c3, c4⟩⟩)
  refine lv_iconst (v := (nI 0)) hx hb dX1_overtaken_0 (by decide) ?_
  refine lv_istore_n (lv' := [(2, .int (nI 0)), (0, .ref (a 0)), (1, .int (nI k))]) hx hb dX1_overtaken_1 rfl hl (by decide) rfl (fun ls hl => ?_)
  have hl : lv_has ls 4 [(0, .ref (a 0)), (1, .int (nI k)), (2, .int (nI 0))] := lv_sub hl [1, 2, 0] rfl
  exact loop 16 0 ls rfl lt_0 hl
set_option maxHeartbeats 4000000 in
theorem kX1_commit (l : Launch) (D : va_G) (cI cZ : ClassId) (a : Nat → Nat) (st wt : Nat → Int32) (mc : Int32) (lv ss mb vw wo mo lk : Nat → Int32) (t : Int32)  : WMi l yX1_commit cX1_commit 3 (some .int) 1 23 D cI cZ [.ref (a 0), .int t] (mw cI cZ a (st, wt, mc, lv, ss, mb, vw, wo, mo, lk)) (mw cI cZ a) (fun r u => ∃ st' wt' mc' lv', u = (st', wt', mc', lv', ss, mb, vw, wo, mo, lk) ∧ MCommit st wt mc lv ss mb wo mo lk t r st' wt' mc' lv') := by
  refine wstart_i RX1 (by decide) rfl (Nat.le_of_ble_eq_true rfl) ?_
  intro p e R s m args below meth cd A Q ls hRf hRl C hl hI hret
  have hx := C.1
  have hb := C.2.1
  have hl : lv_has ls 3 [(0, .ref (a 0)), (1, .int t)] := hl
  refine lv_aload_n hx hb dX1_commit_0 rfl (lv_at hl 0 rfl) ?_
  refine lv_iload_n hx hb dX1_commit_1 rfl (lv_at hl 1 rfl) ?_
  refine wcall_i (n := 1) (wr := []) (rest := []) (kX1_bad l D cI cZ a st wt mc lv ss mb vw wo mo lk t) C (lw_V q190 q192 qs8 q13 q193) (by decide +kernel) ⟨by rw [hRf]; decide, by rw [hRl]; decide⟩ ⟨Nat.zero_le _, Nat.zero_le _⟩ rfl rfl hI.nil rfl hl.1 rfl (Nat.le_of_ble_eq_true rfl) dX1_commit_2 (fun r1 u1 H locs hp hI => ?_)
  have hI : wI D cI cZ A s (mw cI cZ a u1) H locs := hI
  obtain ⟨rfl, hp⟩ := hp
  rcases hp with ⟨k, ⟨hk, rfl, ho⟩, rfl⟩ | ⟨hno, rfl⟩
  · refine lv_if_eq (tgt := 10) hx hb dX1_commit_5 (by decide) (fun c1 => ?_) (fun c1 => ?_)
    · refine lv_aload_n hx hb dX1_commit_10 rfl (lv_at hl 0 rfl) ?_
      refine mg_lv C hI dX1_commit_11 ?_
      refine lv_iload_n hx hb dX1_commit_14 rfl (lv_at hl 1 rfl) ?_
      refine lv_iconst (v := 0) hx hb dX1_commit_15 (by decide) ?_
      refine ms_lv (y9 := 0) C (by decide) hI rfl hk dX1_commit_16 (fun H locs hI => ?_)
      refine lv_aload_n hx hb dX1_commit_17 rfl (lv_at hl 0 rfl) ?_
      refine lv_iload_n hx hb dX1_commit_18 rfl (lv_at hl 1 rfl) ?_
      refine wcall_i (n := 1) (wr := []) (rest := []) (kX1_overtaken l D cI cZ a st wt mc (upd lv k 0) ss mb vw wo mo lk k hk) C (lw_V q215 q217 qs10 q13 q218) (by decide +kernel) ⟨by rw [hRf]; decide, by rw [hRl]; decide⟩ ⟨Nat.zero_le _, Nat.zero_le _⟩ rfl rfl hI.nil rfl hl.1 rfl (Nat.le_of_ble_eq_true rfl) dX1_commit_19 (fun r2 u2 H locs hp2 hI => ?_)
      have hI : wI D cI cZ A s (mw cI cZ a u2) H locs := hI
      obtain ⟨rfl, hp2⟩ := hp2
      rcases hp2 with ⟨ho2, rfl⟩ | ⟨ho2, rfl⟩
      · refine lv_if_eq (tgt := 27) hx hb dX1_commit_22 (by decide) (fun c2 => ?_) (fun c2 => ?_)
        · exact absurd c2 (by decide)
        · refine lv_iconst (v := 1) hx hb dX1_commit_25 (by decide) ?_
          exact hret _ _ _ _ _ _ dX1_commit_26 rfl ⟨_, _, _, _, rfl, Or.inl ⟨k, ⟨hk, rfl, ho⟩, rfl, Or.inl ⟨rfl, ho2, rfl, rfl, rfl⟩⟩⟩ hI
      · refine lv_if_eq (tgt := 27) hx hb dX1_commit_22 (by decide) (fun c2 => ?_) (fun c2 => ?_)
        · refine lv_aload_n hx hb dX1_commit_27 rfl (lv_at hl 0 rfl) ?_
          refine lv_dup hx hb dX1_commit_28 rfl ?_
          refine mg_mc C hI dX1_commit_29 ?_
          refine lv_iconst (v := 1) hx hb dX1_commit_32 (by decide) ?_
          refine lv_iadd hx hb dX1_commit_33 ?_
          refine mp_mc C hI dX1_commit_34 (fun H locs hI => ?_)
          refine lv_iconst (v := (nI 0)) hx hb dX1_commit_37 (by decide) ?_
          refine lv_istore_n (lv' := [(2, .int (nI 0)), (0, .ref (a 0)), (1, .int (nI k))]) hx hb dX1_commit_38 rfl hl (by decide) rfl (fun ls hl => ?_)
          have hl : lv_has ls 3 [(0, .ref (a 0)), (1, .int (nI k)), (2, .int (nI 0))] := lv_sub hl [1, 2, 0] rfl
          have loop : ∀ (n j : Nat) (st1 wt1 : Nat → Int32) (H : Heap) (locs : List Loc) (ls : Array Slot), j + n = 16 → (∀ d, d < 16 → (j ≤ d ∧ st1 d = st d ∧ wt1 d = wt d) ∨ (d < j ∧ wo (16 * k + d) = 0 ∧ st1 d = st d ∧ wt1 d = wt d) ∨ (d < j ∧ ¬ wo (16 * k + d) = 0 ∧ st1 d = mo (16 * k + d) ∧ wt1 d = mc + 1)) → wI D cI cZ A s (mw cI cZ a (st1, wt1, mc + 1, upd lv k 0, ss, mb, vw, wo, mo, lk)) H locs → lv_has ls 3 [(0, .ref (a 0)), (1, .int (nI k)), (2, .int (nI j))] → W p l e R s m args below meth cd H locs 0 0 Q (F0 m 39 ls []) := by
            intro n
            induction n with
            | zero =>
              intro j st1 wt1 H locs ls hj hs hI hl
              refine lv_iload_n hx hb dX1_commit_39 rfl (lv_at hl 2 rfl) ?_
              refine lv_bipush (v := (nI 16)) hx hb dX1_commit_40 (by decide) ?_
              refine lv_icmp_ge (tgt := 92) hx hb dX1_commit_42 (by decide) (fun c3 => ?_) (fun c3 => ?_)
              · refine lv_iconst (v := 0) hx hb dX1_commit_92 (by decide) ?_
                exact hret _ _ _ _ _ _ dX1_commit_93 rfl ⟨_, _, _, _, rfl, Or.inl ⟨k, ⟨hk, rfl, ho⟩, rfl, Or.inr ⟨rfl, ho2, rfl, fun d hd => by
                  rcases hs d hd with ⟨q, -⟩ | ⟨-, q⟩ | ⟨-, q⟩
                  · omega
                  · exact Or.inl q
                  · exact Or.inr q⟩⟩⟩ hI
              · exact absurd (nI_le (by omega) (by omega)) c3
            | succ n ih =>
              intro j st1 wt1 H locs ls hj hs hI hl
              have hj16 : j < 16 := by omega
              have hkj : 16 * k + j < 96 := by omega
              refine lv_iload_n hx hb dX1_commit_39 rfl (lv_at hl 2 rfl) ?_
              refine lv_bipush (v := (nI 16)) hx hb dX1_commit_40 (by decide) ?_
              refine lv_icmp_ge (tgt := 92) hx hb dX1_commit_42 (by decide) (fun c3 => ?_) (fun c3 => ?_)
              · exact absurd c3 (nI_ge (by omega) (by decide))
              · refine lv_aload_n hx hb dX1_commit_45 rfl (lv_at hl 0 rfl) ?_
                refine mg_wo C hI dX1_commit_46 ?_
                refine lv_bipush (v := 16) hx hb dX1_commit_49 (by decide) ?_
                refine lv_iload_n hx hb dX1_commit_51 rfl (lv_at hl 1 rfl) ?_
                refine lv_imul hx hb dX1_commit_52 ?_
                refine lv_iload_n hx hb dX1_commit_53 rfl (lv_at hl 2 rfl) ?_
                refine lv_iadd hx hb dX1_commit_54 ?_
                refine ml_wo C hI (ix16 k j) hkj dX1_commit_55 ?_
                refine lv_if_eq (tgt := 86) hx hb dX1_commit_56 (by decide) (fun c4 => ?_) (fun c4 => ?_)
                · refine lv_iinc (v := (nI (j + 1))) (lv' := [(2, .int (nI (j + 1))), (0, .ref (a 0)), (1, .int (nI k))]) hx hb dX1_commit_86 hl (k := 2) rfl (ii1 j) (by decide) rfl (fun ls hl => ?_)
                  have hl : lv_has ls 3 [(0, .ref (a 0)), (1, .int (nI k)), (2, .int (nI (j + 1)))] := lv_sub hl [1, 2, 0] rfl
                  refine lv_goto (tgt := 39) hx hb dX1_commit_89 (by decide) ?_
                  refine ih (j + 1) st1 wt1 H locs ls (by omega) (fun d hd => ?_) hI hl
                  rcases hs d hd with ⟨q, q2⟩ | ⟨q, q2⟩ | ⟨q, q2⟩
                  · by_cases e : d = j
                    · subst e
                      exact Or.inr (Or.inl ⟨by omega, c4, q2⟩)
                    · exact Or.inl ⟨by omega, q2⟩
                  · exact Or.inr (Or.inl ⟨by omega, q2⟩)
                  · exact Or.inr (Or.inr ⟨by omega, q2⟩)
                · refine lv_aload_n hx hb dX1_commit_59 rfl (lv_at hl 0 rfl) ?_
                  refine mg_st C hI dX1_commit_60 ?_
                  refine lv_iload_n hx hb dX1_commit_63 rfl (lv_at hl 2 rfl) ?_
                  refine lv_aload_n hx hb dX1_commit_64 rfl (lv_at hl 0 rfl) ?_
                  refine mg_mo C hI dX1_commit_65 ?_
                  refine lv_bipush (v := 16) hx hb dX1_commit_68 (by decide) ?_
                  refine lv_iload_n hx hb dX1_commit_70 rfl (lv_at hl 1 rfl) ?_
                  refine lv_imul hx hb dX1_commit_71 ?_
                  refine lv_iload_n hx hb dX1_commit_72 rfl (lv_at hl 2 rfl) ?_
                  refine lv_iadd hx hb dX1_commit_73 ?_
                  refine ml_mo C hI (ix16 k j) hkj dX1_commit_74 ?_
                  refine ms_st C hI rfl hj16 dX1_commit_75 (fun H locs hI => ?_)
                  refine lv_aload_n hx hb dX1_commit_76 rfl (lv_at hl 0 rfl) ?_
                  refine mg_wt C hI dX1_commit_77 ?_
                  refine lv_iload_n hx hb dX1_commit_80 rfl (lv_at hl 2 rfl) ?_
                  refine lv_aload_n hx hb dX1_commit_81 rfl (lv_at hl 0 rfl) ?_
                  refine mg_mc C hI dX1_commit_82 ?_
                  refine ms_wt C hI rfl hj16 dX1_commit_85 (fun H locs hI => ?_)
                  refine lv_iinc (v := (nI (j + 1))) (lv' := [(2, .int (nI (j + 1))), (0, .ref (a 0)), (1, .int (nI k))]) hx hb dX1_commit_86 hl (k := 2) rfl (ii1 j) (by decide) rfl (fun ls hl => ?_)
                  have hl : lv_has ls 3 [(0, .ref (a 0)), (1, .int (nI k)), (2, .int (nI (j + 1)))] := lv_sub hl [1, 2, 0] rfl
                  refine lv_goto (tgt := 39) hx hb dX1_commit_89 (by decide) ?_
                  refine ih (j + 1) _ _ H locs ls (by omega) (fun d hd => ?_) hI hl
                  by_cases e : d = j
                  · subst e
                    exact Or.inr (Or.inr ⟨by omega, c4, pk_us, pk_us⟩)
                  · rw [pk_un e, pk_un e]
                    rcases hs d hd with ⟨q, q2⟩ | ⟨q, q2⟩ | ⟨q, q2⟩
                    · exact Or.inl ⟨by omega, q2⟩
                    · exact Or.inr (Or.inl ⟨by omega, q2⟩)
                    · exact Or.inr (Or.inr ⟨by omega, q2⟩)
          exact loop 16 0 st wt _ _ ls rfl (fun d hd => Or.inl ⟨Nat.zero_le d, rfl, rfl⟩) hI hl
        · exact absurd rfl c2
    · exact absurd rfl c1
  · refine lv_if_eq (tgt := 10) hx hb dX1_commit_5 (by decide) (fun c1 => ?_) (fun c1 => ?_)
    · exact absurd c1 (by decide)
    · refine lv_iconst (v := (-1)) hx hb dX1_commit_8 (by decide) ?_
      exact hret _ _ _ _ _ _ dX1_commit_9 rfl ⟨_, _, _, _, rfl, Or.inr ⟨hno, rfl, rfl, rfl, rfl, rfl⟩⟩ hI
set_option maxHeartbeats 4000000 in
theorem kX1_abort (l : Launch) (D : va_G) (cI cZ : ClassId) (a : Nat → Nat) (st wt : Nat → Int32) (mc : Int32) (lv ss mb vw wo mo lk : Nat → Int32) (t : Int32)  : WMi l yX1_abort cX1_abort 2 (some .int) 1 21 D cI cZ [.ref (a 0), .int t] (mw cI cZ a (st, wt, mc, lv, ss, mb, vw, wo, mo, lk)) (mw cI cZ a) (fun r u => ∃ lv', u = (st, wt, mc, lv', ss, mb, vw, wo, mo, lk) ∧ Abort lv t r lv') := by
  refine wstart_i RX1 (by decide) rfl (Nat.le_of_ble_eq_true rfl) ?_
  intro p e R s m args below meth cd A Q ls hRf hRl C hl hI hret
  have hx := C.1
  have hb := C.2.1
  have hl : lv_has ls 2 [(0, .ref (a 0)), (1, .int t)] := hl
  refine lv_aload_n hx hb dX1_abort_0 rfl (lv_at hl 0 rfl) ?_
  refine lv_iload_n hx hb dX1_abort_1 rfl (lv_at hl 1 rfl) ?_
  refine wcall_i (n := 1) (wr := []) (rest := []) (kX1_bad l D cI cZ a st wt mc lv ss mb vw wo mo lk t) C (lw_V q190 q192 qs8 q13 q193) (by decide +kernel) ⟨by rw [hRf]; decide, by rw [hRl]; decide⟩ ⟨Nat.zero_le _, Nat.zero_le _⟩ rfl rfl hI.nil rfl hl.1 rfl (Nat.le_of_ble_eq_true rfl) dX1_abort_2 (fun r1 u1 H locs hp hI => ?_)
  have hI : wI D cI cZ A s (mw cI cZ a u1) H locs := hI
  obtain ⟨rfl, hp⟩ := hp
  rcases hp with ⟨k, ⟨hk, rfl, ho⟩, rfl⟩ | ⟨hno, rfl⟩
  · refine lv_if_eq (tgt := 10) hx hb dX1_abort_5 (by decide) (fun c1 => ?_) (fun c1 => ?_)
    · refine lv_aload_n hx hb dX1_abort_10 rfl (lv_at hl 0 rfl) ?_
      refine mg_lv C hI dX1_abort_11 ?_
      refine lv_iload_n hx hb dX1_abort_14 rfl (lv_at hl 1 rfl) ?_
      refine lv_iconst (v := 0) hx hb dX1_abort_15 (by decide) ?_
      refine ms_lv (y9 := 0) C (by decide) hI rfl hk dX1_abort_16 (fun H locs hI => ?_)
      refine lv_iconst (v := 0) hx hb dX1_abort_17 (by decide) ?_
      exact hret _ _ _ _ _ _ dX1_abort_18 rfl ⟨_, rfl, Or.inl ⟨k, ⟨hk, rfl, ho⟩, rfl, rfl⟩⟩ hI
    · exact absurd rfl c1
  · refine lv_if_eq (tgt := 10) hx hb dX1_abort_5 (by decide) (fun c1 => ?_) (fun c1 => ?_)
    · exact absurd c1 (by decide)
    · refine lv_iconst (v := (-1)) hx hb dX1_abort_8 (by decide) ?_
      exact hret _ _ _ _ _ _ dX1_abort_9 rfl ⟨_, rfl, Or.inr ⟨hno, rfl, rfl⟩⟩ hI
set_option maxHeartbeats 4000000 in
theorem kX1_might (l : Launch) (D : va_G) (cI cZ : ClassId) (a : Nat → Nat) (st wt : Nat → Int32) (mc : Int32) (lv ss mb vw wo mo lk : Nat → Int32) (t : Int32)  : WMi l yX1_might cX1_might 2 (some .int) 1 23 D cI cZ [.ref (a 0), .int t] (mw cI cZ a (st, wt, mc, lv, ss, mb, vw, wo, mo, lk)) (mw cI cZ a) (fun r u => u = (st, wt, mc, lv, ss, mb, vw, wo, mo, lk) ∧ MMight wt lv ss mb wo lk t r) := by
  refine wstart_i RX1 (by decide) rfl (Nat.le_of_ble_eq_true rfl) ?_
  intro p e R s m args below meth cd A Q ls hRf hRl C hl hI hret
  have hx := C.1
  have hb := C.2.1
  have hl : lv_has ls 2 [(0, .ref (a 0)), (1, .int t)] := hl
  refine lv_aload_n hx hb dX1_might_0 rfl (lv_at hl 0 rfl) ?_
  refine lv_iload_n hx hb dX1_might_1 rfl (lv_at hl 1 rfl) ?_
  refine wcall_i (n := 1) (wr := []) (rest := []) (kX1_bad l D cI cZ a st wt mc lv ss mb vw wo mo lk t) C (lw_V q190 q192 qs8 q13 q193) (by decide +kernel) ⟨by rw [hRf]; decide, by rw [hRl]; decide⟩ ⟨Nat.zero_le _, Nat.zero_le _⟩ rfl rfl hI.nil rfl hl.1 rfl (Nat.le_of_ble_eq_true rfl) dX1_might_2 (fun r1 u1 H locs hp hI => ?_)
  have hI : wI D cI cZ A s (mw cI cZ a u1) H locs := hI
  obtain ⟨rfl, hp⟩ := hp
  rcases hp with ⟨k, ⟨hk, rfl, ho⟩, rfl⟩ | ⟨hno, rfl⟩
  · refine lv_if_eq (tgt := 10) hx hb dX1_might_5 (by decide) (fun c1 => ?_) (fun c1 => ?_)
    · refine lv_aload_n hx hb dX1_might_10 rfl (lv_at hl 0 rfl) ?_
      refine lv_iload_n hx hb dX1_might_11 rfl (lv_at hl 1 rfl) ?_
      refine wcall_i (n := 1) (wr := []) (rest := []) (kX1_overtaken l D cI cZ a st wt mc lv ss mb vw wo mo lk k hk) C (lw_V q215 q217 qs10 q13 q218) (by decide +kernel) ⟨by rw [hRf]; decide, by rw [hRl]; decide⟩ ⟨Nat.zero_le _, Nat.zero_le _⟩ rfl rfl hI.nil rfl hl.1 rfl (Nat.le_of_ble_eq_true rfl) dX1_might_12 (fun r2 u2 H locs hp2 hI => ?_)
      have hI : wI D cI cZ A s (mw cI cZ a u2) H locs := hI
      obtain ⟨rfl, hp2⟩ := hp2
      rcases hp2 with ⟨ho2, rfl⟩ | ⟨ho2, rfl⟩
      · refine lv_if_eq (tgt := 22) hx hb dX1_might_15 (by decide) (fun c2 => ?_) (fun c2 => ?_)
        · exact absurd c2 (by decide)
        · refine lv_iconst (v := 0) hx hb dX1_might_18 (by decide) ?_
          refine lv_goto (tgt := 23) hx hb dX1_might_19 (by decide) ?_
          exact hret _ _ _ _ _ _ dX1_might_23 rfl ⟨rfl, Or.inl ⟨k, ⟨hk, rfl, ho⟩, Or.inl ⟨ho2, rfl⟩⟩⟩ hI
      · refine lv_if_eq (tgt := 22) hx hb dX1_might_15 (by decide) (fun c2 => ?_) (fun c2 => ?_)
        · refine lv_iconst (v := 1) hx hb dX1_might_22 (by decide) ?_
          exact hret _ _ _ _ _ _ dX1_might_23 rfl ⟨rfl, Or.inl ⟨k, ⟨hk, rfl, ho⟩, Or.inr ⟨ho2, rfl⟩⟩⟩ hI
        · exact absurd rfl c2
    · exact absurd rfl c1
  · refine lv_if_eq (tgt := 10) hx hb dX1_might_5 (by decide) (fun c1 => ?_) (fun c1 => ?_)
    · exact absurd c1 (by decide)
    · refine lv_iconst (v := (-1)) hx hb dX1_might_8 (by decide) ?_
      exact hret _ _ _ _ _ _ dX1_might_9 rfl ⟨rfl, Or.inr ⟨hno, rfl⟩⟩ hI
set_option maxHeartbeats 4000000 in
theorem kX1_committed (l : Launch) (D : va_G) (cI cZ : ClassId) (a : Nat → Nat) (st wt : Nat → Int32) (mc : Int32) (lv ss mb vw wo mo lk : Nat → Int32) (cell : Int32)  : WMi l yX1_committed cX1_committed 2 (some .int) 1 20 D cI cZ [.ref (a 0), .int cell] (mw cI cZ a (st, wt, mc, lv, ss, mb, vw, wo, mo, lk)) (mw cI cZ a) (fun r u => u = (st, wt, mc, lv, ss, mb, vw, wo, mo, lk) ∧ MComd st cell r) := by
  refine wstart_i RX1 (by decide) rfl (Nat.le_of_ble_eq_true rfl) ?_
  intro p e R s m args below meth cd A Q ls hRf hRl C hl hI hret
  have hx := C.1
  have hb := C.2.1
  have hl : lv_has ls 2 [(0, .ref (a 0)), (1, .int cell)] := hl
  refine lv_iload_n hx hb dX1_committed_0 rfl (lv_at hl 1 rfl) ?_
  refine wcall_s (n := 1) (rest := []) (kX1_badCell l D cI cZ cell) C (lw_S q194 q195 q13 q196) (by decide +kernel) ⟨by rw [hRf]; decide, by rw [hRl]; decide⟩ ⟨Nat.zero_le _, Nat.zero_le _⟩ hI rfl hl.1 rfl (Nat.le_of_ble_eq_true rfl) dX1_committed_1 (fun r2 H locs hp2 hI => ?_)
  rcases hp2 with ⟨i, hi, rfl, rfl⟩ | ⟨hnc, rfl⟩
  · refine lv_if_eq (tgt := 11) hx hb dX1_committed_4 (by decide) (fun c1 => ?_) (fun c1 => ?_)
    · refine lv_aload_n hx hb dX1_committed_11 rfl (lv_at hl 0 rfl) ?_
      refine mg_st C hI dX1_committed_12 ?_
      refine lv_iload_n hx hb dX1_committed_15 rfl (lv_at hl 1 rfl) ?_
      refine ml_st C hI rfl hi dX1_committed_16 ?_
      exact hret _ _ _ _ _ _ dX1_committed_17 rfl ⟨rfl, Or.inl ⟨i, hi, rfl, rfl⟩⟩ hI
    · exact absurd rfl c1
  · refine lv_if_eq (tgt := 11) hx hb dX1_committed_4 (by decide) (fun c1 => ?_) (fun c1 => ?_)
    · exact absurd c1 (by decide)
    · refine lv_iconst (v := 0) hx hb dX1_committed_7 (by decide) ?_
      refine lv_goto (tgt := 17) hx hb dX1_committed_8 (by decide) ?_
      exact hret _ _ _ _ _ _ dX1_committed_17 rfl ⟨rfl, Or.inr ⟨hnc, rfl⟩⟩ hI
set_option maxHeartbeats 4000000 in
theorem kX1_sum (l : Launch) (D : va_G) (cI cZ : ClassId) (a : Nat → Nat) (st wt : Nat → Int32) (mc : Int32) (lv ss mb vw wo mo lk : Nat → Int32) (t fs la : Int32)  : WMi l yX1_sum cX1_sum 6 (some .int) 1 21 D cI cZ [.ref (a 0), .int t, .int fs, .int la] (mw cI cZ a (st, wt, mc, lv, ss, mb, vw, wo, mo, lk)) (mw cI cZ a) (fun r u => u = (st, wt, mc, lv, ss, mb, vw, wo, mo, lk) ∧ MSum lv vw wo mo t fs la r) := by
  refine wstart_i RX1 (by decide) rfl (Nat.le_of_ble_eq_true rfl) ?_
  intro p e R s m args below meth cd A Q ls hRf hRl C hl hI hret
  have hx := C.1
  have hb := C.2.1
  have hl : lv_has ls 6 [(0, .ref (a 0)), (1, .int t), (2, .int fs), (3, .int la)] := hl
  refine lv_aload_n hx hb dX1_sum_0 rfl (lv_at hl 0 rfl) ?_
  refine lv_iload_n hx hb dX1_sum_1 rfl (lv_at hl 1 rfl) ?_
  refine wcall_i (n := 1) (wr := []) (rest := []) (kX1_bad l D cI cZ a st wt mc lv ss mb vw wo mo lk t) C (lw_V q190 q192 qs8 q13 q193) (by decide +kernel) ⟨by rw [hRf]; decide, by rw [hRl]; decide⟩ ⟨Nat.zero_le _, Nat.zero_le _⟩ rfl rfl hI.nil rfl hl.1 rfl (Nat.le_of_ble_eq_true rfl) dX1_sum_2 (fun r1 u1 H locs hp hI => ?_)
  have hI : wI D cI cZ A s (mw cI cZ a u1) H locs := hI
  obtain ⟨rfl, hp⟩ := hp
  rcases hp with ⟨k, ⟨hk, rfl, ho⟩, rfl⟩ | ⟨hno, rfl⟩
  · refine lv_if_eq (tgt := 10) hx hb dX1_sum_5 (by decide) (fun c1 => ?_) (fun c1 => ?_)
    · generalize hf : (fun c => sv vw wo mo (16 * k + c)) = f
      have loop : ∀ (n j : Nat) (H : Heap) (locs : List Loc) (ls : Array Slot), j + n = 16 → wI D cI cZ A s (mw cI cZ a (st, wt, mc, lv, ss, mb, vw, wo, mo, lk)) H locs → lv_has ls 6 [(0, .ref (a 0)), (1, .int (nI k)), (2, .int fs), (3, .int la), (4, .int (sm f fs la j)), (5, .int (nI j))] → W p l e R s m args below meth cd H locs 0 0 Q (F0 m 16 ls []) := by
        intro n
        induction n with
        | zero =>
          intro j H locs ls hj hI hl
          refine lv_iload hx hb dX1_sum_16 (lv_at hl 5 rfl) ?_
          refine lv_bipush (v := (nI 16)) hx hb dX1_sum_18 (by decide) ?_
          refine lv_icmp_ge (tgt := 57) hx hb dX1_sum_20 (by decide) (fun c1 => ?_) (fun c1 => ?_)
          · have ej : j = 16 := by omega
            subst ej
            refine lv_iload hx hb dX1_sum_57 (lv_at hl 4 rfl) ?_
            exact hret _ _ _ _ _ _ dX1_sum_59 rfl ⟨rfl, Or.inl ⟨k, ⟨hk, rfl, ho⟩, by rw [hf]⟩⟩ hI
          · exact absurd (nI_le (by omega) (by omega)) c1
        | succ n ih =>
          intro j H locs ls hj hI hl
          have hkj : 16 * k + j < 96 := by omega
          refine lv_iload hx hb dX1_sum_16 (lv_at hl 5 rfl) ?_
          refine lv_bipush (v := (nI 16)) hx hb dX1_sum_18 (by decide) ?_
          refine lv_icmp_ge (tgt := 57) hx hb dX1_sum_20 (by decide) (fun c1 => ?_) (fun c1 => ?_)
          · exact absurd c1 (nI_ge (by omega) (by decide))
          · refine lv_iload hx hb dX1_sum_23 (lv_at hl 5 rfl) ?_
            refine lv_iload_n hx hb dX1_sum_25 rfl (lv_at hl 2 rfl) ?_
            refine lv_icmp_lt (tgt := 51) hx hb dX1_sum_26 (by decide) (fun c2 => ?_) (fun c2 => ?_)
            · have e9 : sm f fs la (j + 1) = sm f fs la j := if_neg (fun q => Int32.lt_irrefl (Int32.lt_of_lt_of_le c2 q.1))
              refine lv_iinc (v := (nI (j + 1))) (lv' := [(5, .int (nI (j + 1))), (0, .ref (a 0)), (1, .int (nI k)), (2, .int fs), (3, .int la), (4, .int (sm f fs la j))]) hx hb dX1_sum_51 hl (k := 5) rfl (ii1 j) (by decide) rfl (fun ls hl => ?_)
              have hl : lv_has ls 6 [(0, .ref (a 0)), (1, .int (nI k)), (2, .int fs), (3, .int la), (4, .int (sm f fs la j)), (5, .int (nI (j + 1)))] := lv_sub hl [1, 2, 3, 4, 5, 0] rfl
              refine lv_goto (tgt := 16) hx hb dX1_sum_54 (by decide) ?_
              have hl : lv_has ls 6 [(0, .ref (a 0)), (1, .int (nI k)), (2, .int fs), (3, .int la), (4, .int (sm f fs la (j + 1))), (5, .int (nI (j + 1)))] := by rw [e9]; exact hl
              exact ih _ H locs ls (by omega) hI hl
            · refine lv_iload hx hb dX1_sum_29 (lv_at hl 5 rfl) ?_
              refine lv_iload_n hx hb dX1_sum_31 rfl (lv_at hl 3 rfl) ?_
              refine lv_icmp_gt (tgt := 51) hx hb dX1_sum_32 (by decide) (fun c3 => ?_) (fun c3 => ?_)
              · have e9 : sm f fs la (j + 1) = sm f fs la j := if_neg (fun q => Int32.lt_irrefl (Int32.lt_of_lt_of_le c3 q.2))
                refine lv_iinc (v := (nI (j + 1))) (lv' := [(5, .int (nI (j + 1))), (0, .ref (a 0)), (1, .int (nI k)), (2, .int fs), (3, .int la), (4, .int (sm f fs la j))]) hx hb dX1_sum_51 hl (k := 5) rfl (ii1 j) (by decide) rfl (fun ls hl => ?_)
                have hl : lv_has ls 6 [(0, .ref (a 0)), (1, .int (nI k)), (2, .int fs), (3, .int la), (4, .int (sm f fs la j)), (5, .int (nI (j + 1)))] := lv_sub hl [1, 2, 3, 4, 5, 0] rfl
                refine lv_goto (tgt := 16) hx hb dX1_sum_54 (by decide) ?_
                have hl : lv_has ls 6 [(0, .ref (a 0)), (1, .int (nI k)), (2, .int fs), (3, .int la), (4, .int (sm f fs la (j + 1))), (5, .int (nI (j + 1)))] := by rw [e9]; exact hl
                exact ih _ H locs ls (by omega) hI hl
              · refine lv_iload hx hb dX1_sum_35 (lv_at hl 4 rfl) ?_
                refine lv_aload_n hx hb dX1_sum_37 rfl (lv_at hl 0 rfl) ?_
                refine lv_bipush (v := 16) hx hb dX1_sum_38 (by decide) ?_
                refine lv_iload_n hx hb dX1_sum_40 rfl (lv_at hl 1 rfl) ?_
                refine lv_imul hx hb dX1_sum_41 ?_
                refine lv_iload hx hb dX1_sum_42 (lv_at hl 5 rfl) ?_
                refine lv_iadd hx hb dX1_sum_44 ?_
                refine lv_topi (fun x5 ex5 => ?_)
                have ex5 : x5 = nI (16 * k + j) := ex5.trans (ix16 k j)
                subst ex5
                refine wcall_i (n := 1) (wr := []) (rest := [.int (sm f fs la j)]) (kX1_seen l D cI cZ a st wt mc lv ss mb vw wo mo lk (16 * k + j) hkj) C (lw_V q197 q199 qs9 q13 q200) (by decide +kernel) ⟨by rw [hRf]; decide, by rw [hRl]; decide⟩ ⟨Nat.zero_le _, Nat.zero_le _⟩ rfl rfl hI.nil rfl hl.1 rfl (Nat.le_of_ble_eq_true rfl) dX1_sum_45 (fun r3 u3 H locs hp3 hI => ?_)
                have hI : wI D cI cZ A s (mw cI cZ a u3) H locs := hI
                obtain ⟨rfl, er⟩ := hp3
                have er : r3 = f j := er.trans (congrFun hf j)
                refine lv_iadd hx hb dX1_sum_48 ?_
                refine lv_topi (fun x4 ex4 => ?_)
                have ex4 : x4 = sm f fs la (j + 1) := by
                  rw [ex4, er]
                  exact (if_pos ⟨Int32.not_lt.mp c2, Int32.not_lt.mp c3⟩).symm
                subst ex4
                refine lv_istore (lv' := [(4, .int (sm f fs la (j + 1))), (0, .ref (a 0)), (1, .int (nI k)), (2, .int fs), (3, .int la), (5, .int (nI j))]) hx hb dX1_sum_49 hl (by decide) rfl (fun ls hl => ?_)
                have hl : lv_has ls 6 [(0, .ref (a 0)), (1, .int (nI k)), (2, .int fs), (3, .int la), (4, .int (sm f fs la (j + 1))), (5, .int (nI j))] := lv_sub hl [1, 2, 3, 4, 0, 5] rfl
                refine lv_iinc (v := (nI (j + 1))) (lv' := [(5, .int (nI (j + 1))), (0, .ref (a 0)), (1, .int (nI k)), (2, .int fs), (3, .int la), (4, .int (sm f fs la (j + 1)))]) hx hb dX1_sum_51 hl (k := 5) rfl (ii1 j) (by decide) rfl (fun ls hl => ?_)
                have hl : lv_has ls 6 [(0, .ref (a 0)), (1, .int (nI k)), (2, .int fs), (3, .int la), (4, .int (sm f fs la (j + 1))), (5, .int (nI (j + 1)))] := lv_sub hl [1, 2, 3, 4, 5, 0] rfl
                refine lv_goto (tgt := 16) hx hb dX1_sum_54 (by decide) ?_
                exact ih _ H locs ls (by omega) hI hl
      refine lv_iconst (v := (sm f fs la 0)) hx hb dX1_sum_10 rfl ?_
      refine lv_istore (lv' := [(4, .int (sm f fs la 0)), (0, .ref (a 0)), (1, .int (nI k)), (2, .int fs), (3, .int la)]) hx hb dX1_sum_11 hl (by decide) rfl (fun ls hl => ?_)
      have hl : lv_has ls 6 [(0, .ref (a 0)), (1, .int (nI k)), (2, .int fs), (3, .int la), (4, .int (sm f fs la 0))] := lv_sub hl [1, 2, 3, 4, 0] rfl
      refine lv_iconst (v := (nI 0)) hx hb dX1_sum_13 (by decide) ?_
      refine lv_istore (lv' := [(5, .int (nI 0)), (0, .ref (a 0)), (1, .int (nI k)), (2, .int fs), (3, .int la), (4, .int (sm f fs la 0))]) hx hb dX1_sum_14 hl (by decide) rfl (fun ls hl => ?_)
      have hl : lv_has ls 6 [(0, .ref (a 0)), (1, .int (nI k)), (2, .int fs), (3, .int la), (4, .int (sm f fs la 0)), (5, .int (nI 0))] := lv_sub hl [1, 2, 3, 4, 5, 0] rfl
      exact loop 16 0 _ _ ls rfl hI hl
    · exact absurd rfl c1
  · refine lv_if_eq (tgt := 10) hx hb dX1_sum_5 (by decide) (fun c1 => ?_) (fun c1 => ?_)
    · exact absurd c1 (by decide)
    · refine lv_iconst (v := 0) hx hb dX1_sum_8 (by decide) ?_
      exact hret _ _ _ _ _ _ dX1_sum_9 rfl ⟨rfl, Or.inr ⟨hno, rfl⟩⟩ hI
set_option maxHeartbeats 4000000 in
theorem kX1_tidy (l : Launch) (D : va_G) (cI cZ : ClassId) (a : Nat → Nat) (st wt : Nat → Int32) (mc : Int32) (lv ss mb vw wo mo lk : Nat → Int32)   : WMv l yX1_tidy cX1_tidy 1 0 0 D cI cZ [.ref (a 0)] (mw cI cZ a (st, wt, mc, lv, ss, mb, vw, wo, mo, lk)) (mw cI cZ a) (fun u => u = (st, wt, mc, lv, ss, mb, vw, wo, mo, lk)) := by
  refine wstart_v RX1 (by decide) rfl (Nat.le_of_ble_eq_true rfl) ?_
  intro p e R s m args below meth cd A Q ls hRf hRl C hl hI hret
  have hx := C.1
  have hb := C.2.1
  have hl : lv_has ls 1 [(0, .ref (a 0))] := hl
  exact hret _ _ _ _ _ dX1_tidy_0 rfl hI
set_option maxHeartbeats 4000000 in
theorem kX1_open (l : Launch) (D : va_G) (cI cZ : ClassId) (a : Nat → Nat) (st wt : Nat → Int32) (mc : Int32) (lv ss mb vw wo mo lk : Nat → Int32)   : WMi l yX1_open cX1_open 3 (some .int) 0 0 D cI cZ [.ref (a 0)] (mw cI cZ a (st, wt, mc, lv, ss, mb, vw, wo, mo, lk)) (mw cI cZ a) (fun r u => u = (st, wt, mc, lv, ss, mb, vw, wo, mo, lk) ∧ r = no lv 6) := by
  refine wstart_i RX1 (by decide) rfl (Nat.le_of_ble_eq_true rfl) ?_
  intro p e R s m args below meth cd A Q ls hRf hRl C hl hI hret
  have hx := C.1
  have hb := C.2.1
  have hl : lv_has ls 3 [(0, .ref (a 0))] := hl
  have loop : ∀ (n j : Nat) (ls : Array Slot), j + n = 6 → lv_has ls 3 [(0, .ref (a 0)), (1, .int (no lv j)), (2, .int (nI j))] → W p l e R s m args below meth cd s.heap [] 0 0 Q (F0 m 4 ls []) := by
    intro n
    induction n with
    | zero =>
      intro j ls hj hl
      refine lv_iload_n hx hb dX1_open_4 rfl (lv_at hl 2 rfl) ?_
      refine lv_bipush (v := (nI 6)) hx hb dX1_open_5 (by decide) ?_
      refine lv_icmp_ge (tgt := 28) hx hb dX1_open_7 (by decide) (fun c1 => ?_) (fun c1 => ?_)
      · have ej : j = 6 := by omega
        subst ej
        refine lv_iload_n hx hb dX1_open_28 rfl (lv_at hl 1 rfl) ?_
        exact hret _ _ _ _ _ _ dX1_open_29 rfl ⟨rfl, rfl⟩ hI
      · exact absurd (nI_le (by omega) (by omega)) c1
    | succ n ih =>
      intro j ls hj hl
      have e8 : no lv (j + 1) = no lv j + (if lv j = 0 then 0 else 1) := rfl
      refine lv_iload_n hx hb dX1_open_4 rfl (lv_at hl 2 rfl) ?_
      refine lv_bipush (v := (nI 6)) hx hb dX1_open_5 (by decide) ?_
      refine lv_icmp_ge (tgt := 28) hx hb dX1_open_7 (by decide) (fun c1 => ?_) (fun c1 => ?_)
      · exact absurd c1 (nI_ge (by omega) (by decide))
      · refine lv_aload_n hx hb dX1_open_10 rfl (lv_at hl 0 rfl) ?_
        refine mg_lv C hI dX1_open_11 ?_
        refine lv_iload_n hx hb dX1_open_14 rfl (lv_at hl 2 rfl) ?_
        refine ml_lv C hI rfl (by omega) dX1_open_15 ?_
        refine lv_if_eq (tgt := 22) hx hb dX1_open_16 (by decide) (fun c2 => ?_) (fun c2 => ?_)
        · rw [if_pos c2, Int32.add_zero] at e8
          refine lv_iinc (v := (nI (j + 1))) (lv' := [(2, .int (nI (j + 1))), (0, .ref (a 0)), (1, .int (no lv j))]) hx hb dX1_open_22 hl (k := 2) rfl (ii1 j) (by decide) rfl (fun ls hl => ?_)
          have hl : lv_has ls 3 [(0, .ref (a 0)), (1, .int (no lv j)), (2, .int (nI (j + 1)))] := lv_sub hl [1, 2, 0] rfl
          refine lv_goto (tgt := 4) hx hb dX1_open_25 (by decide) ?_
          rw [← e8] at hl
          exact ih _ ls (by omega) hl
        · rw [if_neg c2] at e8
          refine lv_iinc (v := (no lv (j + 1))) (lv' := [(1, .int (no lv (j + 1))), (0, .ref (a 0)), (2, .int (nI j))]) hx hb dX1_open_19 hl (k := 1) rfl e8.symm (by decide) rfl (fun ls hl => ?_)
          have hl : lv_has ls 3 [(0, .ref (a 0)), (1, .int (no lv (j + 1))), (2, .int (nI j))] := lv_sub hl [1, 0, 2] rfl
          refine lv_iinc (v := (nI (j + 1))) (lv' := [(2, .int (nI (j + 1))), (0, .ref (a 0)), (1, .int (no lv (j + 1)))]) hx hb dX1_open_22 hl (k := 2) rfl (ii1 j) (by decide) rfl (fun ls hl => ?_)
          have hl : lv_has ls 3 [(0, .ref (a 0)), (1, .int (no lv (j + 1))), (2, .int (nI (j + 1)))] := lv_sub hl [1, 2, 0] rfl
          refine lv_goto (tgt := 4) hx hb dX1_open_25 (by decide) ?_
          exact ih _ ls (by omega) hl
  refine lv_iconst (v := (no lv 0)) hx hb dX1_open_0 rfl ?_
  refine lv_istore_n (lv' := [(1, .int (no lv 0)), (0, .ref (a 0))]) hx hb dX1_open_1 rfl hl (by decide) rfl (fun ls hl => ?_)
  have hl : lv_has ls 3 [(0, .ref (a 0)), (1, .int (no lv 0))] := lv_sub hl [1, 0] rfl
  refine lv_iconst (v := (nI 0)) hx hb dX1_open_2 (by decide) ?_
  refine lv_istore_n (lv' := [(2, .int (nI 0)), (0, .ref (a 0)), (1, .int (no lv 0))]) hx hb dX1_open_3 rfl hl (by decide) rfl (fun ls hl => ?_)
  have hl : lv_has ls 3 [(0, .ref (a 0)), (1, .int (no lv 0)), (2, .int (nI 0))] := lv_sub hl [1, 2, 0] rfl
  exact loop 6 0 ls rfl hl
set_option maxHeartbeats 4000000 in
theorem kX1_begin (l : Launch) (D : va_G) (cI cZ : ClassId) (a : Nat → Nat) (st wt : Nat → Int32) (mc : Int32) (lv ss mb vw wo mo lk : Nat → Int32) (b : Int32)  : WMi l yX1_begin cX1_begin 4 (some .int) 0 0 D cI cZ [.ref (a 0), .int b] (mw cI cZ a (st, wt, mc, lv, ss, mb, vw, wo, mo, lk)) (mw cI cZ a) (fun r u => ∃ lv' ss' mb' vw' wo' lk', u = (st, wt, mc, lv', ss', mb', vw', wo', mo, lk') ∧ MBegin st mc lv ss mb vw wo lk b r lv' ss' mb' vw' wo' lk') := by
  refine wstart_i RX1 (by decide) rfl (Nat.le_of_ble_eq_true rfl) ?_
  intro p e R s m args below meth cd A Q ls hRf hRl C hl hI hret
  have hx := C.1
  have hb := C.2.1
  have hl : lv_has ls 4 [(0, .ref (a 0)), (1, .int b)] := hl
  have loop : ∀ (n j : Nat) (ls : Array Slot), j + n = 6 → (∀ i, i < j → ¬ lv i = 0) → lv_has ls 4 [(0, .ref (a 0)), (1, .int b), (2, .int (nI j))] → W p l e R s m args below meth cd s.heap [] 0 0 Q (F0 m 2 ls []) := by
    intro n
    induction n with
    | zero =>
      intro j ls hj hs hl
      refine lv_iload_n hx hb dX1_begin_2 rfl (lv_at hl 2 rfl) ?_
      refine lv_bipush (v := (nI 6)) hx hb dX1_begin_3 (by decide) ?_
      refine lv_icmp_ge (tgt := 104) hx hb dX1_begin_5 (by decide) (fun c1 => ?_) (fun c1 => ?_)
      · have ej : j = 6 := by omega
        subst ej
        refine lv_iconst (v := (-1)) hx hb dX1_begin_104 (by decide) ?_
        exact hret _ _ _ _ _ _ dX1_begin_105 rfl ⟨_, _, _, _, _, _, rfl, Or.inr ⟨hs, rfl, rfl, rfl, rfl, rfl, rfl, rfl⟩⟩ hI
      · exact absurd (nI_le (by omega) (by omega)) c1
    | succ n ih =>
      intro j ls hj hs hl
      have hj6 : j < 6 := by omega
      refine lv_iload_n hx hb dX1_begin_2 rfl (lv_at hl 2 rfl) ?_
      refine lv_bipush (v := (nI 6)) hx hb dX1_begin_3 (by decide) ?_
      refine lv_icmp_ge (tgt := 104) hx hb dX1_begin_5 (by decide) (fun c1 => ?_) (fun c1 => ?_)
      · exact absurd c1 (nI_ge (by omega) (by decide))
      · refine lv_aload_n hx hb dX1_begin_8 rfl (lv_at hl 0 rfl) ?_
        refine mg_lv C hI dX1_begin_9 ?_
        refine lv_iload_n hx hb dX1_begin_12 rfl (lv_at hl 2 rfl) ?_
        refine ml_lv C hI rfl hj6 dX1_begin_13 ?_
        refine lv_if_ne (tgt := 98) hx hb dX1_begin_14 (by decide) (fun c2 => ?_) (fun c2 => ?_)
        · refine lv_iinc (v := (nI (j + 1))) (lv' := [(2, .int (nI (j + 1))), (0, .ref (a 0)), (1, .int b)]) hx hb dX1_begin_98 hl (k := 2) rfl (ii1 j) (by decide) rfl (fun ls hl => ?_)
          have hl : lv_has ls 4 [(0, .ref (a 0)), (1, .int b), (2, .int (nI (j + 1)))] := lv_sub hl [1, 2, 0] rfl
          refine lv_goto (tgt := 2) hx hb dX1_begin_101 (by decide) ?_
          exact ih _ ls (by omega) (lt_s hs c2) hl
        · refine lv_aload_n hx hb dX1_begin_17 rfl (lv_at hl 0 rfl) ?_
          refine mg_lv C hI dX1_begin_18 ?_
          refine lv_iload_n hx hb dX1_begin_21 rfl (lv_at hl 2 rfl) ?_
          refine lv_iconst (v := 1) hx hb dX1_begin_22 (by decide) ?_
          refine ms_lv (y9 := 1) C (by decide) hI rfl hj6 dX1_begin_23 (fun H locs hI => ?_)
          refine lv_aload_n hx hb dX1_begin_24 rfl (lv_at hl 0 rfl) ?_
          refine mg_ss C hI dX1_begin_25 ?_
          refine lv_iload_n hx hb dX1_begin_28 rfl (lv_at hl 2 rfl) ?_
          refine lv_iload_n hx hb dX1_begin_29 rfl (lv_at hl 1 rfl) ?_
          refine ms_ss (y9 := vp_nar .boolean b) C rfl hI rfl hj6 dX1_begin_30 (fun H locs hI => ?_)
          refine lv_aload_n hx hb dX1_begin_31 rfl (lv_at hl 0 rfl) ?_
          refine mg_mb C hI dX1_begin_32 ?_
          refine lv_iload_n hx hb dX1_begin_35 rfl (lv_at hl 2 rfl) ?_
          refine lv_aload_n hx hb dX1_begin_36 rfl (lv_at hl 0 rfl) ?_
          refine mg_mc C hI dX1_begin_37 ?_
          refine ms_mb C hI rfl hj6 dX1_begin_40 (fun H locs hI => ?_)
          refine lv_iconst (v := (nI 0)) hx hb dX1_begin_41 (by decide) ?_
          refine lv_istore_n (lv' := [(3, .int (nI 0)), (0, .ref (a 0)), (1, .int b), (2, .int (nI j))]) hx hb dX1_begin_42 rfl hl (by decide) rfl (fun ls hl => ?_)
          have hl : lv_has ls 4 [(0, .ref (a 0)), (1, .int b), (2, .int (nI j)), (3, .int (nI 0))] := lv_sub hl [1, 2, 3, 0] rfl
          have inner : ∀ (n i : Nat) (vw1 wo1 lk1 : Nat → Int32) (H : Heap) (locs : List Loc) (ls : Array Slot), i + n = 16 → (∀ x, vw1 x = if 16 * j ≤ x ∧ x < 16 * j + i then st (x - 16 * j) else vw x) → (∀ x, wo1 x = if 16 * j ≤ x ∧ x < 16 * j + i then (fun _ => 0) (x - 16 * j) else wo x) → (∀ x, lk1 x = if 16 * j ≤ x ∧ x < 16 * j + i then (fun _ => 0) (x - 16 * j) else lk x) → wI D cI cZ A s (mw cI cZ a (st, wt, mc, upd lv j 1, upd ss j (vp_nar .boolean b), upd mb j mc, vw1, wo1, mo, lk1)) H locs → lv_has ls 4 [(0, .ref (a 0)), (1, .int b), (2, .int (nI j)), (3, .int (nI i))] → W p l e R s m args below meth cd H locs 0 0 Q (F0 m 43 ls []) := by
            intro n
            induction n with
            | zero =>
              intro i vw1 wo1 lk1 H locs ls hi h1 h2 h3 hI hl
              refine lv_iload_n hx hb dX1_begin_43 rfl (lv_at hl 3 rfl) ?_
              refine lv_bipush (v := (nI 16)) hx hb dX1_begin_44 (by decide) ?_
              refine lv_icmp_ge (tgt := 96) hx hb dX1_begin_46 (by decide) (fun c3 => ?_) (fun c3 => ?_)
              · have ei : i = 16 := by omega
                subst ei
                refine lv_iload_n hx hb dX1_begin_96 rfl (lv_at hl 2 rfl) ?_
                exact hret _ _ _ _ _ _ dX1_begin_97 rfl ⟨_, _, _, vw1, wo1, lk1, rfl, Or.inl ⟨j, hj6, hs, c2, rfl, rfl, rfl, rfl, h1, h2, h3⟩⟩ hI
              · exact absurd (nI_le (by omega) (by omega)) c3
            | succ n ih2 =>
              intro i vw1 wo1 lk1 H locs ls hi h1 h2 h3 hI hl
              have hi16 : i < 16 := by omega
              have hji : 16 * j + i < 96 := by omega
              refine lv_iload_n hx hb dX1_begin_43 rfl (lv_at hl 3 rfl) ?_
              refine lv_bipush (v := (nI 16)) hx hb dX1_begin_44 (by decide) ?_
              refine lv_icmp_ge (tgt := 96) hx hb dX1_begin_46 (by decide) (fun c3 => ?_) (fun c3 => ?_)
              · exact absurd c3 (nI_ge (by omega) (by decide))
              · refine lv_aload_n hx hb dX1_begin_49 rfl (lv_at hl 0 rfl) ?_
                refine mg_vw C hI dX1_begin_50 ?_
                refine lv_bipush (v := 16) hx hb dX1_begin_53 (by decide) ?_
                refine lv_iload_n hx hb dX1_begin_55 rfl (lv_at hl 2 rfl) ?_
                refine lv_imul hx hb dX1_begin_56 ?_
                refine lv_iload_n hx hb dX1_begin_57 rfl (lv_at hl 3 rfl) ?_
                refine lv_iadd hx hb dX1_begin_58 ?_
                refine lv_aload_n hx hb dX1_begin_59 rfl (lv_at hl 0 rfl) ?_
                refine mg_st C hI dX1_begin_60 ?_
                refine lv_iload_n hx hb dX1_begin_63 rfl (lv_at hl 3 rfl) ?_
                refine ml_st C hI rfl hi16 dX1_begin_64 ?_
                refine ms_vw C hI (ix16 j i) hji dX1_begin_65 (fun H locs hI => ?_)
                refine lv_aload_n hx hb dX1_begin_66 rfl (lv_at hl 0 rfl) ?_
                refine mg_wo C hI dX1_begin_67 ?_
                refine lv_bipush (v := 16) hx hb dX1_begin_70 (by decide) ?_
                refine lv_iload_n hx hb dX1_begin_72 rfl (lv_at hl 2 rfl) ?_
                refine lv_imul hx hb dX1_begin_73 ?_
                refine lv_iload_n hx hb dX1_begin_74 rfl (lv_at hl 3 rfl) ?_
                refine lv_iadd hx hb dX1_begin_75 ?_
                refine lv_iconst (v := 0) hx hb dX1_begin_76 (by decide) ?_
                refine ms_wo (y9 := 0) C (by decide) hI (ix16 j i) hji dX1_begin_77 (fun H locs hI => ?_)
                refine lv_aload_n hx hb dX1_begin_78 rfl (lv_at hl 0 rfl) ?_
                refine mg_lk C hI dX1_begin_79 ?_
                refine lv_bipush (v := 16) hx hb dX1_begin_82 (by decide) ?_
                refine lv_iload_n hx hb dX1_begin_84 rfl (lv_at hl 2 rfl) ?_
                refine lv_imul hx hb dX1_begin_85 ?_
                refine lv_iload_n hx hb dX1_begin_86 rfl (lv_at hl 3 rfl) ?_
                refine lv_iadd hx hb dX1_begin_87 ?_
                refine lv_iconst (v := 0) hx hb dX1_begin_88 (by decide) ?_
                refine ms_lk (y9 := 0) C (by decide) hI (ix16 j i) hji dX1_begin_89 (fun H locs hI => ?_)
                refine lv_iinc (v := (nI (i + 1))) (lv' := [(3, .int (nI (i + 1))), (0, .ref (a 0)), (1, .int b), (2, .int (nI j))]) hx hb dX1_begin_90 hl (k := 3) rfl (ii1 i) (by decide) rfl (fun ls hl => ?_)
                have hl : lv_has ls 4 [(0, .ref (a 0)), (1, .int b), (2, .int (nI j)), (3, .int (nI (i + 1)))] := lv_sub hl [1, 2, 3, 0] rfl
                refine lv_goto (tgt := 43) hx hb dX1_begin_93 (by decide) ?_
                exact ih2 (i + 1) _ _ _ H locs ls (by omega) (fill_step h1) (fill_step (h := fun _ => 0) h2) (fill_step (h := fun _ => 0) h3) hI hl
          exact inner 16 0 vw wo lk _ _ ls rfl fill_0 (fill_0 (h := fun _ => 0)) (fill_0 (h := fun _ => 0)) hI hl
  refine lv_iconst (v := (nI 0)) hx hb dX1_begin_0 (by decide) ?_
  refine lv_istore_n (lv' := [(2, .int (nI 0)), (0, .ref (a 0)), (1, .int b)]) hx hb dX1_begin_1 rfl hl (by decide) rfl (fun ls hl => ?_)
  have hl : lv_has ls 4 [(0, .ref (a 0)), (1, .int b), (2, .int (nI 0))] := lv_sub hl [1, 2, 0] rfl
  exact loop 6 0 ls rfl lt_0 hl
end
section
/-! THE CONSTRUCTORS -/
set_option maxRecDepth 100000
theorem va_K.sameI {D : va_G} {tys : List (ClassId × FieldType)} {U : State} (h : va_K D cl_ tys U) {i j : Nat} {cA cB : ClassId} (hi : tys[i]? = some (cA, .int)) (hj : tys[j]? = some (cB, .int)) : cA = cB := Option.some.inj ((h.2 i _ hi).2.symm.trans (h.2 j _ hj).2)
theorem va_K.sameZ {D : va_G} {tys : List (ClassId × FieldType)} {U : State} (h : va_K D cl_ tys U) {i j : Nat} {cA cB : ClassId} (hi : tys[i]? = some (cA, .boolean)) (hj : tys[j]? = some (cB, .boolean)) : cA = cB := Option.some.inj ((h.2 i _ hi).2.symm.trans (h.2 j _ hj).2)
def ad (q : List Nat) : Nat → Nat := fun k => q.getD k 0
/-- a constructor: from one bare cell to a world, with mc cells of ms slots new -/
def WMn (l : Launch) (y : MethodName) (cc : ByteArray) (nL : Nat) (D : va_G) (h0 ci : Nat) (fs0 : List Value) (mc ms : Nat) {S : Type} (w : ClassId → ClassId → (Nat → Nat) → S → va_W) (Pz : S → Prop) : Prop :=
  ∀ sz : Nat, Met l y (ws_ y cc nL none) ({ frames := 1, cells := mc, slots := ms, locals := 12 }) (va_Pc [.ref h0] (fun U => U.heap.size = sz ∧ va_P D cl_ [(h0, .inr (ci, fs0))] U.heap ∧ va_K D cl_ [] U ∧ va_D (fun _ => True) [(h0, .inr (ci, fs0))])) (va_Qv (fun z : ClassId × ClassId × (Nat → Nat) × S => z.2.2.1 0 = h0 ∧ Pz z.2.2.2) (fun z t => va_P D cl_ (w z.1 z.2.1 z.2.2.1 z.2.2.2) t.heap ∧ va_K D cl_ [(z.1, .int), (z.2.1, .boolean)] t ∧ va_D (va_A [(h0, .inr (ci, fs0))] sz) (w z.1 z.2.1 z.2.2.1 z.2.2.2)) (va_A [(h0, .inr (ci, fs0))] sz)) mc ms (va_A [(h0, .inr (ci, fs0))] sz)
theorem winit {l : Launch} {y : MethodName} {cc : ByteArray} {nL : Nat} {D : va_G} {h0 ci : Nat} {fs0 : List Value} {mc ms : Nat} {S : Type} {w : ClassId → ClassId → (Nat → Nat) → S → va_W} {Pz : S → Prop} (own : String) (hy : plainName y.cls = true) (hyn : y.name = "<init>") (hown : y.cls = own) (hav : 1 ≤ nL)
    (body : ∀ (p : Program) (e : Env) (R : Room) (s : State) (m : MethodId) (args : Array Value) (below : List Frame) (meth : Method) (c : Code) (A : Nat → Prop) (Q : State → Prop) (ls : Array Slot), R.frames = 1 → R.locals = 12 → R.cells = mc → R.slots = ms → meth.name = "<init>" → CallFix p m c cc nL s args lw_all own → lv_has ls nL [(0, .ref h0)] → va_K D cl_ [] s → va_P D cl_ [(h0, .inr (ci, fs0))] s.heap → va_D A [(h0, .inr (ci, fs0))] → va_S A s.heap s.heap [] → (∀ q : Nat, s.heap.size ≤ q → A q) →
      (∀ (pc : Nat) (ls : Array Slot) (H : Heap) (locs : List Loc) (cI cZ : ClassId) (a : Nat → Nat) (z : S), decode cc pc = .ok (.return_, 1) → a 0 = h0 → Pz z → wI D cI cZ A s (w cI cZ a z) H locs → W p l e R s m args below meth c H locs mc ms Q (F0 m pc ls [])) →
      W p l e R s m args below meth c s.heap [] 0 0 Q (F0 m 0 ls [])) : WMn l y cc nL D h0 ci fs0 mc ms w Pz := by
  intro sz
  refine Met.ofW (cc := cc) (maxL := nL) (ret := none) hy rfl ?_
  intro p e s m args below meth c s₁ B hml hv
  obtain ⟨rfl, hsz, hP, hK, hD0⟩ := hv
  have hts := atoms_spec (ws := ws_ y cc nL none) B.pre
  have hts : ∀ w ∈ lw_all, w.before _ s = true := fun w h => hts w (List.mem_cons_of_mem _ h)
  have hown' : s.vm.findClass y.cls = some m.cls := findClass_of_methodNamed B.named
  rw [hown] at hown'
  have hin : meth.name = "<init>" := by
    rw [← hyn]
    exact (name_of_methodNamed B.named B.method).1
  subst hsz
  have hD := hD0.self (sz := s.heap.size)
  have hl := lv_entry [.ref h0] (n := nL) hav
  rw [lg_entry_eq]
  refine body p e _ s m _ below meth c (va_A [(h0, .inr (ci, fs0))] s.heap.size) _ _ rfl rfl rfl rfl hin ⟨B.exec, B.bytes, hml, hown', hts⟩ hl hK hP hD va_S.rf (fun q h => Or.inr h) ?_
  intro pc ls H locs cI cZ a z hdg ha hz hI
  exact W.vret B.exec B.bytes B.returns (fun t ht hW => ⟨⟨(cI, cZ, a, z), rfl, ⟨ha, hz⟩, by rw [ht]; exact hI.2.1, va_K.moved hW.alike hI.1, hI.2.2.1⟩, hI.2.2.2.1.F ht⟩) hI.2.2.2.1.2.2 hdg B.notSynchronized
set_option maxHeartbeats 4000000 in
theorem kX0_init (l : Launch) (D : va_G) (h0 : Nat) : WMn l yX0_init cX0_init 2 D h0 0 [.null, .null, .null, .int 0, .int 0, .null, .int 0, .null, .null, .null, .null, .null, .null] 10 574 xw (fun z => ∃ ol nw, z = (fun _ => 0, fun _ => 0, ol, 0, nI 144, nw, 0, fun _ => 0, fun _ => 0, fun _ => 0, fun _ => 0, fun _ => 0, fun _ => 0) ∧ (∀ v, v < 144 → ol v = if v = 143 then -1 else nI (v + 1)) ∧ ∀ i, i < 16 → nw i = -1) := by
  refine winit RX0 (by decide) rfl rfl (by decide) ?_
  intro p e R s m args below meth cd A Q ls hRf hRl hRc hRs hin C hl hK hP hD hS hA hret
  have hx := C.1
  have hb := C.2.1
  have hts := C.2.2.2.2
  have hown := C.2.2.2.1
  refine lv_aload_n hx hb dX0_init_0 rfl (lv_at hl 0 rfl) ?_
  refine W.objInit hx hb hown (hts _ q19) (hts _ q20) (hts _ q21) rfl (by rw [C.2.2.1]; exact hl.1) rfl dX0_init_1 (by rw [hRf]; decide) (by rw [hRl]; exact Nat.le_of_ble_eq_true rfl) ?_
  refine W.eq (g2 := F0 m 4 ls []) rfl ?_
  refine lv_aload_n hx hb dX0_init_4 rfl (lv_at hl 0 rfl) ?_
  refine lv_sipush (v := 144) hx hb dX0_init_5 (by decide) ?_
  refine va_newa (atype := .int) (ty := .int) (N' := 144) (a0 := (144, .inl (fun _ => 0))) hx hb (hts _ q62) rfl hK hP hD hS hA (fun _ => rfl) (by decide) (by decide) (by decide) (by rw [hRc]; decide) (by rw [hRs]; decide) dX0_init_8 (fun q1 cA1 H hK hP hD hS => ?_)
  generalize cA1 = cI at hK hP hD
  have hK : va_K D cl_ [(cI, .int)] s := hK
  have hP : va_P D cl_ [(h0, .inr (0, [.null, .null, .null, .int 0, .int 0, .null, .int 0, .null, .null, .null, .null, .null, .null])), (q1, .inl (cI, 144, .inl (fun _ => 0)))] H := hP
  have hD : va_D A [(h0, .inr (0, [.null, .null, .null, .int 0, .int 0, .null, .int 0, .null, .null, .null, .null, .null, .null])), (q1, .inl (cI, 144, .inl (fun _ => 0)))] := hD
  refine W.widen (k := 1) (n := 144) (by omega) (by omega) ?_
  refine va_putF (D := D) (ci := 0) (v := .ref q1) (ty := .array .int) (C := RX0) (T := TX0) (N := 13) hx hb hts in_X0 tyX0 tyX0_ok nmX0 hown hK hP hD hS 0 rfl rfl 0 (by decide) (hts _ q22) (fun _ h9 => h9) rfl hin rfl (by decide +kernel) rfl rfl (Nat.le_of_ble_eq_true rfl) dX0_init_10 (fun H locs hP hD hS => ?_)
  have hP : va_P D cl_ [(h0, .inr (0, [.ref q1, .null, .null, .int 0, .int 0, .null, .int 0, .null, .null, .null, .null, .null, .null])), (q1, .inl (cI, 144, .inl (fun _ => 0)))] H := hP
  have hD : va_D A [(h0, .inr (0, [.ref q1, .null, .null, .int 0, .int 0, .null, .int 0, .null, .null, .null, .null, .null, .null])), (q1, .inl (cI, 144, .inl (fun _ => 0)))] := hD
  refine lv_aload_n hx hb dX0_init_13 rfl (lv_at hl 0 rfl) ?_
  refine lv_sipush (v := 144) hx hb dX0_init_14 (by decide) ?_
  refine va_newa (atype := .int) (ty := .int) (N' := 144) (a0 := (144, .inl (fun _ => 0))) hx hb (hts _ q62) rfl hK hP hD hS hA (fun _ => rfl) (by decide) (by decide) (by decide) (by rw [hRc]; decide) (by rw [hRs]; decide) dX0_init_17 (fun q2 cA2 H hK hP hD hS => ?_)
  have e2 : cI = cA2 := hK.sameI (i := 0) (j := 1) rfl rfl
  subst e2
  have hK : va_K D cl_ [(cI, .int)] s := hK.sub [0] rfl
  have hP : va_P D cl_ [(h0, .inr (0, [.ref q1, .null, .null, .int 0, .int 0, .null, .int 0, .null, .null, .null, .null, .null, .null])), (q1, .inl (cI, 144, .inl (fun _ => 0))), (q2, .inl (cI, 144, .inl (fun _ => 0)))] H := hP
  have hD : va_D A [(h0, .inr (0, [.ref q1, .null, .null, .int 0, .int 0, .null, .int 0, .null, .null, .null, .null, .null, .null])), (q1, .inl (cI, 144, .inl (fun _ => 0))), (q2, .inl (cI, 144, .inl (fun _ => 0)))] := hD
  refine W.widen (k := 2) (n := 288) (by omega) (by omega) ?_
  refine va_putF (D := D) (ci := 0) (v := .ref q2) (ty := .array .int) (C := RX0) (T := TX0) (N := 13) hx hb hts in_X0 tyX0 tyX0_ok nmX0 hown hK hP hD hS 0 rfl rfl 1 (by decide) (hts _ q23) (fun _ h9 => h9) rfl hin rfl (by decide +kernel) rfl rfl (Nat.le_of_ble_eq_true rfl) dX0_init_19 (fun H locs hP hD hS => ?_)
  have hP : va_P D cl_ [(h0, .inr (0, [.ref q1, .ref q2, .null, .int 0, .int 0, .null, .int 0, .null, .null, .null, .null, .null, .null])), (q1, .inl (cI, 144, .inl (fun _ => 0))), (q2, .inl (cI, 144, .inl (fun _ => 0)))] H := hP
  have hD : va_D A [(h0, .inr (0, [.ref q1, .ref q2, .null, .int 0, .int 0, .null, .int 0, .null, .null, .null, .null, .null, .null])), (q1, .inl (cI, 144, .inl (fun _ => 0))), (q2, .inl (cI, 144, .inl (fun _ => 0)))] := hD
  refine lv_aload_n hx hb dX0_init_22 rfl (lv_at hl 0 rfl) ?_
  refine lv_sipush (v := 144) hx hb dX0_init_23 (by decide) ?_
  refine va_newa (atype := .int) (ty := .int) (N' := 144) (a0 := (144, .inl (fun _ => 0))) hx hb (hts _ q62) rfl hK hP hD hS hA (fun _ => rfl) (by decide) (by decide) (by decide) (by rw [hRc]; decide) (by rw [hRs]; decide) dX0_init_26 (fun q3 cA3 H hK hP hD hS => ?_)
  have e3 : cI = cA3 := hK.sameI (i := 0) (j := 1) rfl rfl
  subst e3
  have hK : va_K D cl_ [(cI, .int)] s := hK.sub [0] rfl
  have hP : va_P D cl_ [(h0, .inr (0, [.ref q1, .ref q2, .null, .int 0, .int 0, .null, .int 0, .null, .null, .null, .null, .null, .null])), (q1, .inl (cI, 144, .inl (fun _ => 0))), (q2, .inl (cI, 144, .inl (fun _ => 0))), (q3, .inl (cI, 144, .inl (fun _ => 0)))] H := hP
  have hD : va_D A [(h0, .inr (0, [.ref q1, .ref q2, .null, .int 0, .int 0, .null, .int 0, .null, .null, .null, .null, .null, .null])), (q1, .inl (cI, 144, .inl (fun _ => 0))), (q2, .inl (cI, 144, .inl (fun _ => 0))), (q3, .inl (cI, 144, .inl (fun _ => 0)))] := hD
  refine W.widen (k := 3) (n := 432) (by omega) (by omega) ?_
  refine va_putF (D := D) (ci := 0) (v := .ref q3) (ty := .array .int) (C := RX0) (T := TX0) (N := 13) hx hb hts in_X0 tyX0 tyX0_ok nmX0 hown hK hP hD hS 0 rfl rfl 2 (by decide) (hts _ q24) (fun _ h9 => h9) rfl hin rfl (by decide +kernel) rfl rfl (Nat.le_of_ble_eq_true rfl) dX0_init_28 (fun H locs hP hD hS => ?_)
  have hP : va_P D cl_ [(h0, .inr (0, [.ref q1, .ref q2, .ref q3, .int 0, .int 0, .null, .int 0, .null, .null, .null, .null, .null, .null])), (q1, .inl (cI, 144, .inl (fun _ => 0))), (q2, .inl (cI, 144, .inl (fun _ => 0))), (q3, .inl (cI, 144, .inl (fun _ => 0)))] H := hP
  have hD : va_D A [(h0, .inr (0, [.ref q1, .ref q2, .ref q3, .int 0, .int 0, .null, .int 0, .null, .null, .null, .null, .null, .null])), (q1, .inl (cI, 144, .inl (fun _ => 0))), (q2, .inl (cI, 144, .inl (fun _ => 0))), (q3, .inl (cI, 144, .inl (fun _ => 0)))] := hD
  refine lv_aload_n hx hb dX0_init_31 rfl (lv_at hl 0 rfl) ?_
  refine lv_bipush (v := 16) hx hb dX0_init_32 (by decide) ?_
  refine va_newa (atype := .int) (ty := .int) (N' := 16) (a0 := (16, .inl (fun _ => 0))) hx hb (hts _ q62) rfl hK hP hD hS hA (fun _ => rfl) (by decide) (by decide) (by decide) (by rw [hRc]; decide) (by rw [hRs]; decide) dX0_init_34 (fun q4 cA4 H hK hP hD hS => ?_)
  have e4 : cI = cA4 := hK.sameI (i := 0) (j := 1) rfl rfl
  subst e4
  have hK : va_K D cl_ [(cI, .int)] s := hK.sub [0] rfl
  have hP : va_P D cl_ [(h0, .inr (0, [.ref q1, .ref q2, .ref q3, .int 0, .int 0, .null, .int 0, .null, .null, .null, .null, .null, .null])), (q1, .inl (cI, 144, .inl (fun _ => 0))), (q2, .inl (cI, 144, .inl (fun _ => 0))), (q3, .inl (cI, 144, .inl (fun _ => 0))), (q4, .inl (cI, 16, .inl (fun _ => 0)))] H := hP
  have hD : va_D A [(h0, .inr (0, [.ref q1, .ref q2, .ref q3, .int 0, .int 0, .null, .int 0, .null, .null, .null, .null, .null, .null])), (q1, .inl (cI, 144, .inl (fun _ => 0))), (q2, .inl (cI, 144, .inl (fun _ => 0))), (q3, .inl (cI, 144, .inl (fun _ => 0))), (q4, .inl (cI, 16, .inl (fun _ => 0)))] := hD
  refine W.widen (k := 4) (n := 448) (by omega) (by omega) ?_
  refine va_putF (D := D) (ci := 0) (v := .ref q4) (ty := .array .int) (C := RX0) (T := TX0) (N := 13) hx hb hts in_X0 tyX0 tyX0_ok nmX0 hown hK hP hD hS 0 rfl rfl 5 (by decide) (hts _ q27) (fun _ h9 => h9) rfl hin rfl (by decide +kernel) rfl rfl (Nat.le_of_ble_eq_true rfl) dX0_init_36 (fun H locs hP hD hS => ?_)
  have hP : va_P D cl_ [(h0, .inr (0, [.ref q1, .ref q2, .ref q3, .int 0, .int 0, .ref q4, .int 0, .null, .null, .null, .null, .null, .null])), (q1, .inl (cI, 144, .inl (fun _ => 0))), (q2, .inl (cI, 144, .inl (fun _ => 0))), (q3, .inl (cI, 144, .inl (fun _ => 0))), (q4, .inl (cI, 16, .inl (fun _ => 0)))] H := hP
  have hD : va_D A [(h0, .inr (0, [.ref q1, .ref q2, .ref q3, .int 0, .int 0, .ref q4, .int 0, .null, .null, .null, .null, .null, .null])), (q1, .inl (cI, 144, .inl (fun _ => 0))), (q2, .inl (cI, 144, .inl (fun _ => 0))), (q3, .inl (cI, 144, .inl (fun _ => 0))), (q4, .inl (cI, 16, .inl (fun _ => 0)))] := hD
  refine lv_aload_n hx hb dX0_init_39 rfl (lv_at hl 0 rfl) ?_
  refine lv_bipush (v := 6) hx hb dX0_init_40 (by decide) ?_
  refine va_newa (atype := .boolean) (ty := .boolean) (N' := 6) (a0 := (6, .inl (fun _ => 0))) hx hb (hts _ q63) rfl hK hP hD hS hA (fun _ => rfl) (by decide) (by decide) (by decide) (by rw [hRc]; decide) (by rw [hRs]; decide) dX0_init_42 (fun q5 cA5 H hK hP hD hS => ?_)
  generalize cA5 = cZ at hK hP hD
  have hK : va_K D cl_ [(cI, .int), (cZ, .boolean)] s := hK
  have hP : va_P D cl_ [(h0, .inr (0, [.ref q1, .ref q2, .ref q3, .int 0, .int 0, .ref q4, .int 0, .null, .null, .null, .null, .null, .null])), (q1, .inl (cI, 144, .inl (fun _ => 0))), (q2, .inl (cI, 144, .inl (fun _ => 0))), (q3, .inl (cI, 144, .inl (fun _ => 0))), (q4, .inl (cI, 16, .inl (fun _ => 0))), (q5, .inl (cZ, 6, .inl (fun _ => 0)))] H := hP
  have hD : va_D A [(h0, .inr (0, [.ref q1, .ref q2, .ref q3, .int 0, .int 0, .ref q4, .int 0, .null, .null, .null, .null, .null, .null])), (q1, .inl (cI, 144, .inl (fun _ => 0))), (q2, .inl (cI, 144, .inl (fun _ => 0))), (q3, .inl (cI, 144, .inl (fun _ => 0))), (q4, .inl (cI, 16, .inl (fun _ => 0))), (q5, .inl (cZ, 6, .inl (fun _ => 0)))] := hD
  refine W.widen (k := 5) (n := 454) (by omega) (by omega) ?_
  refine va_putF (D := D) (ci := 0) (v := .ref q5) (ty := .array .boolean) (C := RX0) (T := TX0) (N := 13) hx hb hts in_X0 tyX0 tyX0_ok nmX0 hown hK hP hD hS 0 rfl rfl 7 (by decide) (hts _ q29) (fun _ h9 => h9) rfl hin rfl (by decide +kernel) rfl rfl (Nat.le_of_ble_eq_true rfl) dX0_init_44 (fun H locs hP hD hS => ?_)
  have hP : va_P D cl_ [(h0, .inr (0, [.ref q1, .ref q2, .ref q3, .int 0, .int 0, .ref q4, .int 0, .ref q5, .null, .null, .null, .null, .null])), (q1, .inl (cI, 144, .inl (fun _ => 0))), (q2, .inl (cI, 144, .inl (fun _ => 0))), (q3, .inl (cI, 144, .inl (fun _ => 0))), (q4, .inl (cI, 16, .inl (fun _ => 0))), (q5, .inl (cZ, 6, .inl (fun _ => 0)))] H := hP
  have hD : va_D A [(h0, .inr (0, [.ref q1, .ref q2, .ref q3, .int 0, .int 0, .ref q4, .int 0, .ref q5, .null, .null, .null, .null, .null])), (q1, .inl (cI, 144, .inl (fun _ => 0))), (q2, .inl (cI, 144, .inl (fun _ => 0))), (q3, .inl (cI, 144, .inl (fun _ => 0))), (q4, .inl (cI, 16, .inl (fun _ => 0))), (q5, .inl (cZ, 6, .inl (fun _ => 0)))] := hD
  refine lv_aload_n hx hb dX0_init_47 rfl (lv_at hl 0 rfl) ?_
  refine lv_bipush (v := 6) hx hb dX0_init_48 (by decide) ?_
  refine va_newa (atype := .boolean) (ty := .boolean) (N' := 6) (a0 := (6, .inl (fun _ => 0))) hx hb (hts _ q63) rfl hK hP hD hS hA (fun _ => rfl) (by decide) (by decide) (by decide) (by rw [hRc]; decide) (by rw [hRs]; decide) dX0_init_50 (fun q6 cA6 H hK hP hD hS => ?_)
  have e6 : cZ = cA6 := hK.sameZ (i := 1) (j := 2) rfl rfl
  subst e6
  have hK : va_K D cl_ [(cI, .int), (cZ, .boolean)] s := hK.sub [0, 1] rfl
  have hP : va_P D cl_ [(h0, .inr (0, [.ref q1, .ref q2, .ref q3, .int 0, .int 0, .ref q4, .int 0, .ref q5, .null, .null, .null, .null, .null])), (q1, .inl (cI, 144, .inl (fun _ => 0))), (q2, .inl (cI, 144, .inl (fun _ => 0))), (q3, .inl (cI, 144, .inl (fun _ => 0))), (q4, .inl (cI, 16, .inl (fun _ => 0))), (q5, .inl (cZ, 6, .inl (fun _ => 0))), (q6, .inl (cZ, 6, .inl (fun _ => 0)))] H := hP
  have hD : va_D A [(h0, .inr (0, [.ref q1, .ref q2, .ref q3, .int 0, .int 0, .ref q4, .int 0, .ref q5, .null, .null, .null, .null, .null])), (q1, .inl (cI, 144, .inl (fun _ => 0))), (q2, .inl (cI, 144, .inl (fun _ => 0))), (q3, .inl (cI, 144, .inl (fun _ => 0))), (q4, .inl (cI, 16, .inl (fun _ => 0))), (q5, .inl (cZ, 6, .inl (fun _ => 0))), (q6, .inl (cZ, 6, .inl (fun _ => 0)))] := hD
  refine W.widen (k := 6) (n := 460) (by omega) (by omega) ?_
  refine va_putF (D := D) (ci := 0) (v := .ref q6) (ty := .array .boolean) (C := RX0) (T := TX0) (N := 13) hx hb hts in_X0 tyX0 tyX0_ok nmX0 hown hK hP hD hS 0 rfl rfl 8 (by decide) (hts _ q30) (fun _ h9 => h9) rfl hin rfl (by decide +kernel) rfl rfl (Nat.le_of_ble_eq_true rfl) dX0_init_52 (fun H locs hP hD hS => ?_)
  have hP : va_P D cl_ [(h0, .inr (0, [.ref q1, .ref q2, .ref q3, .int 0, .int 0, .ref q4, .int 0, .ref q5, .ref q6, .null, .null, .null, .null])), (q1, .inl (cI, 144, .inl (fun _ => 0))), (q2, .inl (cI, 144, .inl (fun _ => 0))), (q3, .inl (cI, 144, .inl (fun _ => 0))), (q4, .inl (cI, 16, .inl (fun _ => 0))), (q5, .inl (cZ, 6, .inl (fun _ => 0))), (q6, .inl (cZ, 6, .inl (fun _ => 0)))] H := hP
  have hD : va_D A [(h0, .inr (0, [.ref q1, .ref q2, .ref q3, .int 0, .int 0, .ref q4, .int 0, .ref q5, .ref q6, .null, .null, .null, .null])), (q1, .inl (cI, 144, .inl (fun _ => 0))), (q2, .inl (cI, 144, .inl (fun _ => 0))), (q3, .inl (cI, 144, .inl (fun _ => 0))), (q4, .inl (cI, 16, .inl (fun _ => 0))), (q5, .inl (cZ, 6, .inl (fun _ => 0))), (q6, .inl (cZ, 6, .inl (fun _ => 0)))] := hD
  refine lv_aload_n hx hb dX0_init_55 rfl (lv_at hl 0 rfl) ?_
  refine lv_bipush (v := 6) hx hb dX0_init_56 (by decide) ?_
  refine va_newa (atype := .int) (ty := .int) (N' := 6) (a0 := (6, .inl (fun _ => 0))) hx hb (hts _ q62) rfl hK hP hD hS hA (fun _ => rfl) (by decide) (by decide) (by decide) (by rw [hRc]; decide) (by rw [hRs]; decide) dX0_init_58 (fun q7 cA7 H hK hP hD hS => ?_)
  have e7 : cI = cA7 := hK.sameI (i := 0) (j := 2) rfl rfl
  subst e7
  have hK : va_K D cl_ [(cI, .int), (cZ, .boolean)] s := hK.sub [0, 1] rfl
  have hP : va_P D cl_ [(h0, .inr (0, [.ref q1, .ref q2, .ref q3, .int 0, .int 0, .ref q4, .int 0, .ref q5, .ref q6, .null, .null, .null, .null])), (q1, .inl (cI, 144, .inl (fun _ => 0))), (q2, .inl (cI, 144, .inl (fun _ => 0))), (q3, .inl (cI, 144, .inl (fun _ => 0))), (q4, .inl (cI, 16, .inl (fun _ => 0))), (q5, .inl (cZ, 6, .inl (fun _ => 0))), (q6, .inl (cZ, 6, .inl (fun _ => 0))), (q7, .inl (cI, 6, .inl (fun _ => 0)))] H := hP
  have hD : va_D A [(h0, .inr (0, [.ref q1, .ref q2, .ref q3, .int 0, .int 0, .ref q4, .int 0, .ref q5, .ref q6, .null, .null, .null, .null])), (q1, .inl (cI, 144, .inl (fun _ => 0))), (q2, .inl (cI, 144, .inl (fun _ => 0))), (q3, .inl (cI, 144, .inl (fun _ => 0))), (q4, .inl (cI, 16, .inl (fun _ => 0))), (q5, .inl (cZ, 6, .inl (fun _ => 0))), (q6, .inl (cZ, 6, .inl (fun _ => 0))), (q7, .inl (cI, 6, .inl (fun _ => 0)))] := hD
  refine W.widen (k := 7) (n := 466) (by omega) (by omega) ?_
  refine va_putF (D := D) (ci := 0) (v := .ref q7) (ty := .array .int) (C := RX0) (T := TX0) (N := 13) hx hb hts in_X0 tyX0 tyX0_ok nmX0 hown hK hP hD hS 0 rfl rfl 9 (by decide) (hts _ q31) (fun _ h9 => h9) rfl hin rfl (by decide +kernel) rfl rfl (Nat.le_of_ble_eq_true rfl) dX0_init_60 (fun H locs hP hD hS => ?_)
  have hP : va_P D cl_ [(h0, .inr (0, [.ref q1, .ref q2, .ref q3, .int 0, .int 0, .ref q4, .int 0, .ref q5, .ref q6, .ref q7, .null, .null, .null])), (q1, .inl (cI, 144, .inl (fun _ => 0))), (q2, .inl (cI, 144, .inl (fun _ => 0))), (q3, .inl (cI, 144, .inl (fun _ => 0))), (q4, .inl (cI, 16, .inl (fun _ => 0))), (q5, .inl (cZ, 6, .inl (fun _ => 0))), (q6, .inl (cZ, 6, .inl (fun _ => 0))), (q7, .inl (cI, 6, .inl (fun _ => 0)))] H := hP
  have hD : va_D A [(h0, .inr (0, [.ref q1, .ref q2, .ref q3, .int 0, .int 0, .ref q4, .int 0, .ref q5, .ref q6, .ref q7, .null, .null, .null])), (q1, .inl (cI, 144, .inl (fun _ => 0))), (q2, .inl (cI, 144, .inl (fun _ => 0))), (q3, .inl (cI, 144, .inl (fun _ => 0))), (q4, .inl (cI, 16, .inl (fun _ => 0))), (q5, .inl (cZ, 6, .inl (fun _ => 0))), (q6, .inl (cZ, 6, .inl (fun _ => 0))), (q7, .inl (cI, 6, .inl (fun _ => 0)))] := hD
  refine lv_aload_n hx hb dX0_init_63 rfl (lv_at hl 0 rfl) ?_
  refine lv_bipush (v := 6) hx hb dX0_init_64 (by decide) ?_
  refine va_newa (atype := .int) (ty := .int) (N' := 6) (a0 := (6, .inl (fun _ => 0))) hx hb (hts _ q62) rfl hK hP hD hS hA (fun _ => rfl) (by decide) (by decide) (by decide) (by rw [hRc]; decide) (by rw [hRs]; decide) dX0_init_66 (fun q8 cA8 H hK hP hD hS => ?_)
  have e8 : cI = cA8 := hK.sameI (i := 0) (j := 2) rfl rfl
  subst e8
  have hK : va_K D cl_ [(cI, .int), (cZ, .boolean)] s := hK.sub [0, 1] rfl
  have hP : va_P D cl_ [(h0, .inr (0, [.ref q1, .ref q2, .ref q3, .int 0, .int 0, .ref q4, .int 0, .ref q5, .ref q6, .ref q7, .null, .null, .null])), (q1, .inl (cI, 144, .inl (fun _ => 0))), (q2, .inl (cI, 144, .inl (fun _ => 0))), (q3, .inl (cI, 144, .inl (fun _ => 0))), (q4, .inl (cI, 16, .inl (fun _ => 0))), (q5, .inl (cZ, 6, .inl (fun _ => 0))), (q6, .inl (cZ, 6, .inl (fun _ => 0))), (q7, .inl (cI, 6, .inl (fun _ => 0))), (q8, .inl (cI, 6, .inl (fun _ => 0)))] H := hP
  have hD : va_D A [(h0, .inr (0, [.ref q1, .ref q2, .ref q3, .int 0, .int 0, .ref q4, .int 0, .ref q5, .ref q6, .ref q7, .null, .null, .null])), (q1, .inl (cI, 144, .inl (fun _ => 0))), (q2, .inl (cI, 144, .inl (fun _ => 0))), (q3, .inl (cI, 144, .inl (fun _ => 0))), (q4, .inl (cI, 16, .inl (fun _ => 0))), (q5, .inl (cZ, 6, .inl (fun _ => 0))), (q6, .inl (cZ, 6, .inl (fun _ => 0))), (q7, .inl (cI, 6, .inl (fun _ => 0))), (q8, .inl (cI, 6, .inl (fun _ => 0)))] := hD
  refine W.widen (k := 8) (n := 472) (by omega) (by omega) ?_
  refine va_putF (D := D) (ci := 0) (v := .ref q8) (ty := .array .int) (C := RX0) (T := TX0) (N := 13) hx hb hts in_X0 tyX0 tyX0_ok nmX0 hown hK hP hD hS 0 rfl rfl 10 (by decide) (hts _ q32) (fun _ h9 => h9) rfl hin rfl (by decide +kernel) rfl rfl (Nat.le_of_ble_eq_true rfl) dX0_init_68 (fun H locs hP hD hS => ?_)
  have hP : va_P D cl_ [(h0, .inr (0, [.ref q1, .ref q2, .ref q3, .int 0, .int 0, .ref q4, .int 0, .ref q5, .ref q6, .ref q7, .ref q8, .null, .null])), (q1, .inl (cI, 144, .inl (fun _ => 0))), (q2, .inl (cI, 144, .inl (fun _ => 0))), (q3, .inl (cI, 144, .inl (fun _ => 0))), (q4, .inl (cI, 16, .inl (fun _ => 0))), (q5, .inl (cZ, 6, .inl (fun _ => 0))), (q6, .inl (cZ, 6, .inl (fun _ => 0))), (q7, .inl (cI, 6, .inl (fun _ => 0))), (q8, .inl (cI, 6, .inl (fun _ => 0)))] H := hP
  have hD : va_D A [(h0, .inr (0, [.ref q1, .ref q2, .ref q3, .int 0, .int 0, .ref q4, .int 0, .ref q5, .ref q6, .ref q7, .ref q8, .null, .null])), (q1, .inl (cI, 144, .inl (fun _ => 0))), (q2, .inl (cI, 144, .inl (fun _ => 0))), (q3, .inl (cI, 144, .inl (fun _ => 0))), (q4, .inl (cI, 16, .inl (fun _ => 0))), (q5, .inl (cZ, 6, .inl (fun _ => 0))), (q6, .inl (cZ, 6, .inl (fun _ => 0))), (q7, .inl (cI, 6, .inl (fun _ => 0))), (q8, .inl (cI, 6, .inl (fun _ => 0)))] := hD
  refine lv_aload_n hx hb dX0_init_71 rfl (lv_at hl 0 rfl) ?_
  refine lv_bipush (v := 6) hx hb dX0_init_72 (by decide) ?_
  refine va_newa (atype := .int) (ty := .int) (N' := 6) (a0 := (6, .inl (fun _ => 0))) hx hb (hts _ q62) rfl hK hP hD hS hA (fun _ => rfl) (by decide) (by decide) (by decide) (by rw [hRc]; decide) (by rw [hRs]; decide) dX0_init_74 (fun q9 cA9 H hK hP hD hS => ?_)
  have e9 : cI = cA9 := hK.sameI (i := 0) (j := 2) rfl rfl
  subst e9
  have hK : va_K D cl_ [(cI, .int), (cZ, .boolean)] s := hK.sub [0, 1] rfl
  have hP : va_P D cl_ [(h0, .inr (0, [.ref q1, .ref q2, .ref q3, .int 0, .int 0, .ref q4, .int 0, .ref q5, .ref q6, .ref q7, .ref q8, .null, .null])), (q1, .inl (cI, 144, .inl (fun _ => 0))), (q2, .inl (cI, 144, .inl (fun _ => 0))), (q3, .inl (cI, 144, .inl (fun _ => 0))), (q4, .inl (cI, 16, .inl (fun _ => 0))), (q5, .inl (cZ, 6, .inl (fun _ => 0))), (q6, .inl (cZ, 6, .inl (fun _ => 0))), (q7, .inl (cI, 6, .inl (fun _ => 0))), (q8, .inl (cI, 6, .inl (fun _ => 0))), (q9, .inl (cI, 6, .inl (fun _ => 0)))] H := hP
  have hD : va_D A [(h0, .inr (0, [.ref q1, .ref q2, .ref q3, .int 0, .int 0, .ref q4, .int 0, .ref q5, .ref q6, .ref q7, .ref q8, .null, .null])), (q1, .inl (cI, 144, .inl (fun _ => 0))), (q2, .inl (cI, 144, .inl (fun _ => 0))), (q3, .inl (cI, 144, .inl (fun _ => 0))), (q4, .inl (cI, 16, .inl (fun _ => 0))), (q5, .inl (cZ, 6, .inl (fun _ => 0))), (q6, .inl (cZ, 6, .inl (fun _ => 0))), (q7, .inl (cI, 6, .inl (fun _ => 0))), (q8, .inl (cI, 6, .inl (fun _ => 0))), (q9, .inl (cI, 6, .inl (fun _ => 0)))] := hD
  refine W.widen (k := 9) (n := 478) (by omega) (by omega) ?_
  refine va_putF (D := D) (ci := 0) (v := .ref q9) (ty := .array .int) (C := RX0) (T := TX0) (N := 13) hx hb hts in_X0 tyX0 tyX0_ok nmX0 hown hK hP hD hS 0 rfl rfl 11 (by decide) (hts _ q33) (fun _ h9 => h9) rfl hin rfl (by decide +kernel) rfl rfl (Nat.le_of_ble_eq_true rfl) dX0_init_76 (fun H locs hP hD hS => ?_)
  have hP : va_P D cl_ [(h0, .inr (0, [.ref q1, .ref q2, .ref q3, .int 0, .int 0, .ref q4, .int 0, .ref q5, .ref q6, .ref q7, .ref q8, .ref q9, .null])), (q1, .inl (cI, 144, .inl (fun _ => 0))), (q2, .inl (cI, 144, .inl (fun _ => 0))), (q3, .inl (cI, 144, .inl (fun _ => 0))), (q4, .inl (cI, 16, .inl (fun _ => 0))), (q5, .inl (cZ, 6, .inl (fun _ => 0))), (q6, .inl (cZ, 6, .inl (fun _ => 0))), (q7, .inl (cI, 6, .inl (fun _ => 0))), (q8, .inl (cI, 6, .inl (fun _ => 0))), (q9, .inl (cI, 6, .inl (fun _ => 0)))] H := hP
  have hD : va_D A [(h0, .inr (0, [.ref q1, .ref q2, .ref q3, .int 0, .int 0, .ref q4, .int 0, .ref q5, .ref q6, .ref q7, .ref q8, .ref q9, .null])), (q1, .inl (cI, 144, .inl (fun _ => 0))), (q2, .inl (cI, 144, .inl (fun _ => 0))), (q3, .inl (cI, 144, .inl (fun _ => 0))), (q4, .inl (cI, 16, .inl (fun _ => 0))), (q5, .inl (cZ, 6, .inl (fun _ => 0))), (q6, .inl (cZ, 6, .inl (fun _ => 0))), (q7, .inl (cI, 6, .inl (fun _ => 0))), (q8, .inl (cI, 6, .inl (fun _ => 0))), (q9, .inl (cI, 6, .inl (fun _ => 0)))] := hD
  refine lv_aload_n hx hb dX0_init_79 rfl (lv_at hl 0 rfl) ?_
  refine lv_bipush (v := 96) hx hb dX0_init_80 (by decide) ?_
  refine va_newa (atype := .int) (ty := .int) (N' := 96) (a0 := (96, .inl (fun _ => 0))) hx hb (hts _ q62) rfl hK hP hD hS hA (fun _ => rfl) (by decide) (by decide) (by decide) (by rw [hRc]; decide) (by rw [hRs]; decide) dX0_init_82 (fun q10 cA10 H hK hP hD hS => ?_)
  have e10 : cI = cA10 := hK.sameI (i := 0) (j := 2) rfl rfl
  subst e10
  have hK : va_K D cl_ [(cI, .int), (cZ, .boolean)] s := hK.sub [0, 1] rfl
  have hP : va_P D cl_ [(h0, .inr (0, [.ref q1, .ref q2, .ref q3, .int 0, .int 0, .ref q4, .int 0, .ref q5, .ref q6, .ref q7, .ref q8, .ref q9, .null])), (q1, .inl (cI, 144, .inl (fun _ => 0))), (q2, .inl (cI, 144, .inl (fun _ => 0))), (q3, .inl (cI, 144, .inl (fun _ => 0))), (q4, .inl (cI, 16, .inl (fun _ => 0))), (q5, .inl (cZ, 6, .inl (fun _ => 0))), (q6, .inl (cZ, 6, .inl (fun _ => 0))), (q7, .inl (cI, 6, .inl (fun _ => 0))), (q8, .inl (cI, 6, .inl (fun _ => 0))), (q9, .inl (cI, 6, .inl (fun _ => 0))), (q10, .inl (cI, 96, .inl (fun _ => 0)))] H := hP
  have hD : va_D A [(h0, .inr (0, [.ref q1, .ref q2, .ref q3, .int 0, .int 0, .ref q4, .int 0, .ref q5, .ref q6, .ref q7, .ref q8, .ref q9, .null])), (q1, .inl (cI, 144, .inl (fun _ => 0))), (q2, .inl (cI, 144, .inl (fun _ => 0))), (q3, .inl (cI, 144, .inl (fun _ => 0))), (q4, .inl (cI, 16, .inl (fun _ => 0))), (q5, .inl (cZ, 6, .inl (fun _ => 0))), (q6, .inl (cZ, 6, .inl (fun _ => 0))), (q7, .inl (cI, 6, .inl (fun _ => 0))), (q8, .inl (cI, 6, .inl (fun _ => 0))), (q9, .inl (cI, 6, .inl (fun _ => 0))), (q10, .inl (cI, 96, .inl (fun _ => 0)))] := hD
  refine W.widen (k := 10) (n := 574) (by omega) (by omega) ?_
  refine va_putF (D := D) (ci := 0) (v := .ref q10) (ty := .array .int) (C := RX0) (T := TX0) (N := 13) hx hb hts in_X0 tyX0 tyX0_ok nmX0 hown hK hP hD hS 0 rfl rfl 12 (by decide) (hts _ q34) (fun _ h9 => h9) rfl hin rfl (by decide +kernel) rfl rfl (Nat.le_of_ble_eq_true rfl) dX0_init_84 (fun H locs hP hD hS => ?_)
  have hP : va_P D cl_ [(h0, .inr (0, [.ref q1, .ref q2, .ref q3, .int 0, .int 0, .ref q4, .int 0, .ref q5, .ref q6, .ref q7, .ref q8, .ref q9, .ref q10])), (q1, .inl (cI, 144, .inl (fun _ => 0))), (q2, .inl (cI, 144, .inl (fun _ => 0))), (q3, .inl (cI, 144, .inl (fun _ => 0))), (q4, .inl (cI, 16, .inl (fun _ => 0))), (q5, .inl (cZ, 6, .inl (fun _ => 0))), (q6, .inl (cZ, 6, .inl (fun _ => 0))), (q7, .inl (cI, 6, .inl (fun _ => 0))), (q8, .inl (cI, 6, .inl (fun _ => 0))), (q9, .inl (cI, 6, .inl (fun _ => 0))), (q10, .inl (cI, 96, .inl (fun _ => 0)))] H := hP
  have hD : va_D A [(h0, .inr (0, [.ref q1, .ref q2, .ref q3, .int 0, .int 0, .ref q4, .int 0, .ref q5, .ref q6, .ref q7, .ref q8, .ref q9, .ref q10])), (q1, .inl (cI, 144, .inl (fun _ => 0))), (q2, .inl (cI, 144, .inl (fun _ => 0))), (q3, .inl (cI, 144, .inl (fun _ => 0))), (q4, .inl (cI, 16, .inl (fun _ => 0))), (q5, .inl (cZ, 6, .inl (fun _ => 0))), (q6, .inl (cZ, 6, .inl (fun _ => 0))), (q7, .inl (cI, 6, .inl (fun _ => 0))), (q8, .inl (cI, 6, .inl (fun _ => 0))), (q9, .inl (cI, 6, .inl (fun _ => 0))), (q10, .inl (cI, 96, .inl (fun _ => 0)))] := hD
  obtain ⟨a, ea⟩ : ∃ a : Nat → Nat, a = ad [h0, q1, q2, q3, q4, q5, q6, q7, q8, q9, q10] := ⟨_, rfl⟩
  have ha0 : a 0 = h0 := by rw [ea]; rfl
  have hI : wI D cI cZ A s (xw cI cZ a (fun _ => 0, fun _ => 0, fun _ => 0, 0, 0, fun _ => 0, 0, fun _ => 0, fun _ => 0, fun _ => 0, fun _ => 0, fun _ => 0, fun _ => 0)) H locs := by
    rw [ea]
    exact ⟨hK, hP, hD, hS, hA⟩
  rw [← ha0] at hl
  have loop2 : ∀ (n j : Nat) (ol nw : Nat → Int32) (H : Heap) (locs : List Loc) (ls : Array Slot), j + n = 16 → (∀ v, v < 144 → ol v = if v = 143 then -1 else nI (v + 1)) → (∀ i, i < j → nw i = -1) → wI D cI cZ A s (xw cI cZ a (fun _ => 0, fun _ => 0, ol, 0, nI 144, nw, 0, fun _ => 0, fun _ => 0, fun _ => 0, fun _ => 0, fun _ => 0, fun _ => 0)) H locs → lv_has ls 2 [(0, .ref (a 0)), (1, .int (nI j))] → W p l e R s m args below meth cd H locs 10 574 Q (F0 m 131 ls []) := by
    intro n
    induction n with
    | zero =>
      intro j ol nw H locs ls hj ho hn hI hl
      refine lv_iload_n hx hb dX0_init_131 rfl (lv_at hl 1 rfl) ?_
      refine lv_bipush (v := (nI 16)) hx hb dX0_init_132 (by decide) ?_
      refine lv_icmp_ge (tgt := 150) hx hb dX0_init_134 (by decide) (fun c1 => ?_) (fun c1 => ?_)
      · exact hret _ _ _ _ _ _ _ _ dX0_init_150 ha0 ⟨ol, nw, rfl, ho, fun i hi => hn i (by omega)⟩ hI
      · exact absurd (nI_le (by omega) (by omega)) c1
    | succ n ih =>
      intro j ol nw H locs ls hj ho hn hI hl
      have hj16 : j < 16 := by omega
      refine lv_iload_n hx hb dX0_init_131 rfl (lv_at hl 1 rfl) ?_
      refine lv_bipush (v := (nI 16)) hx hb dX0_init_132 (by decide) ?_
      refine lv_icmp_ge (tgt := 150) hx hb dX0_init_134 (by decide) (fun c1 => ?_) (fun c1 => ?_)
      · exact absurd c1 (nI_ge (by omega) (by decide))
      · refine lv_aload_n hx hb dX0_init_137 rfl (lv_at hl 0 rfl) ?_
        refine xg_nw C hI dX0_init_138 ?_
        refine lv_iload_n hx hb dX0_init_141 rfl (lv_at hl 1 rfl) ?_
        refine lv_iconst (v := (-1)) hx hb dX0_init_142 (by decide) ?_
        refine xs_nw C hI rfl hj16 dX0_init_143 (fun H locs hI => ?_)
        refine lv_iinc (v := (nI (j + 1))) (lv' := [(1, .int (nI (j + 1))), (0, .ref (a 0))]) hx hb dX0_init_144 hl (k := 1) rfl (ii1 j) (by decide) rfl (fun ls hl => ?_)
        have hl : lv_has ls 2 [(0, .ref (a 0)), (1, .int (nI (j + 1)))] := lv_sub hl [1, 0] rfl
        refine lv_goto (tgt := 131) hx hb dX0_init_147 (by decide) ?_
        refine ih (j + 1) ol _ H locs ls (by omega) ho (fun i hi => ?_) hI hl
        by_cases e : i = j
        · subst e
          exact pk_us
        · rw [pk_un e]
          exact hn i (by omega)
  have loop1 : ∀ (n j : Nat) (ol nw : Nat → Int32) (H : Heap) (locs : List Loc) (ls : Array Slot), j + n = 144 → (∀ v, v < j → ol v = if v = 143 then -1 else nI (v + 1)) → wI D cI cZ A s (xw cI cZ a (fun _ => 0, fun _ => 0, ol, 0, 0, nw, 0, fun _ => 0, fun _ => 0, fun _ => 0, fun _ => 0, fun _ => 0, fun _ => 0)) H locs → lv_has ls 2 [(0, .ref (a 0)), (1, .int (nI j))] → W p l e R s m args below meth cd H locs 10 574 Q (F0 m 89 ls []) := by
    intro n
    induction n with
    | zero =>
      intro j ol nw H locs ls hj ho hI hl
      refine lv_iload_n hx hb dX0_init_89 rfl (lv_at hl 1 rfl) ?_
      refine lv_sipush (v := (nI 144)) hx hb dX0_init_90 (by decide) ?_
      refine lv_icmp_ge (tgt := 122) hx hb dX0_init_93 (by decide) (fun c1 => ?_) (fun c1 => ?_)
      · refine lv_aload_n hx hb dX0_init_122 rfl (lv_at hl 0 rfl) ?_
        refine lv_sipush (v := (nI 144)) hx hb dX0_init_123 (by decide) ?_
        refine xp_fc C hI dX0_init_126 (fun H locs hI => ?_)
        refine lv_iconst (v := (nI 0)) hx hb dX0_init_129 (by decide) ?_
        refine lv_istore_n (lv' := [(1, .int (nI 0)), (0, .ref (a 0))]) hx hb dX0_init_130 rfl hl (by decide) rfl (fun ls hl => ?_)
        have hl : lv_has ls 2 [(0, .ref (a 0)), (1, .int (nI 0))] := lv_sub hl [1, 0] rfl
        exact loop2 16 0 ol nw H locs ls rfl (fun v hv => ho v (by omega)) lt_0 hI hl
      · exact absurd (nI_le (by omega) (by omega)) c1
    | succ n ih =>
      intro j ol nw H locs ls hj ho hI hl
      have hj144 : j < 144 := by omega
      refine lv_iload_n hx hb dX0_init_89 rfl (lv_at hl 1 rfl) ?_
      refine lv_sipush (v := (nI 144)) hx hb dX0_init_90 (by decide) ?_
      refine lv_icmp_ge (tgt := 122) hx hb dX0_init_93 (by decide) (fun c1 => ?_) (fun c1 => ?_)
      · exact absurd c1 (nI_ge (by omega) (by decide))
      · refine lv_aload_n hx hb dX0_init_96 rfl (lv_at hl 0 rfl) ?_
        refine xg_ol C hI dX0_init_97 ?_
        refine lv_iload_n hx hb dX0_init_100 rfl (lv_at hl 1 rfl) ?_
        refine lv_iload_n hx hb dX0_init_101 rfl (lv_at hl 1 rfl) ?_
        refine lv_sipush (v := (nI 143)) hx hb dX0_init_102 (by decide) ?_
        refine lv_icmp_ne (tgt := 112) hx hb dX0_init_105 (by decide) (fun c2 => ?_) (fun c2 => ?_)
        · have hj3 : ¬ j = 143 := fun q => c2 (by rw [q])
          refine lv_iload_n hx hb dX0_init_112 rfl (lv_at hl 1 rfl) ?_
          refine lv_iconst (v := 1) hx hb dX0_init_113 (by decide) ?_
          refine lv_iadd hx hb dX0_init_114 ?_
          refine xs_ol C hI rfl hj144 dX0_init_115 (fun H locs hI => ?_)
          refine lv_iinc (v := (nI (j + 1))) (lv' := [(1, .int (nI (j + 1))), (0, .ref (a 0))]) hx hb dX0_init_116 hl (k := 1) rfl (ii1 j) (by decide) rfl (fun ls hl => ?_)
          have hl : lv_has ls 2 [(0, .ref (a 0)), (1, .int (nI (j + 1)))] := lv_sub hl [1, 0] rfl
          refine lv_goto (tgt := 89) hx hb dX0_init_119 (by decide) ?_
          refine ih (j + 1) _ nw H locs ls (by omega) (fun v hv => ?_) hI hl
          by_cases e : v = j
          · subst e
            rw [pk_us]
            exact (nI_1 v).trans (if_neg hj3).symm
          · rw [pk_un e]
            exact ho v (by omega)
        · have hj3 : j = 143 := nI_inj (by omega) (by decide) c2
          refine lv_iconst (v := (-1)) hx hb dX0_init_108 (by decide) ?_
          refine lv_goto (tgt := 115) hx hb dX0_init_109 (by decide) ?_
          refine xs_ol C hI rfl hj144 dX0_init_115 (fun H locs hI => ?_)
          refine lv_iinc (v := (nI (j + 1))) (lv' := [(1, .int (nI (j + 1))), (0, .ref (a 0))]) hx hb dX0_init_116 hl (k := 1) rfl (ii1 j) (by decide) rfl (fun ls hl => ?_)
          have hl : lv_has ls 2 [(0, .ref (a 0)), (1, .int (nI (j + 1)))] := lv_sub hl [1, 0] rfl
          refine lv_goto (tgt := 89) hx hb dX0_init_119 (by decide) ?_
          refine ih (j + 1) _ nw H locs ls (by omega) (fun v hv => ?_) hI hl
          by_cases e : v = j
          · subst e
            rw [pk_us]
            exact (if_pos hj3).symm
          · rw [pk_un e]
            exact ho v (by omega)
  refine lv_iconst (v := (nI 0)) hx hb dX0_init_87 (by decide) ?_
  refine lv_istore_n (lv' := [(1, .int (nI 0)), (0, .ref (a 0))]) hx hb dX0_init_88 rfl hl (by decide) rfl (fun ls hl => ?_)
  have hl : lv_has ls 2 [(0, .ref (a 0)), (1, .int (nI 0))] := lv_sub hl [1, 0] rfl
  exact loop1 144 0 _ _ H locs ls rfl (fun v hv => absurd hv (Nat.not_lt_zero v)) hI hl
set_option maxHeartbeats 4000000 in
theorem kX1_init (l : Launch) (D : va_G) (h0 : Nat) : WMn l yX1_init cX1_init 1 D h0 1 [.null, .null, .int 0, .null, .null, .null, .null, .null, .null, .null] 9 434 mw (fun z => z = (fun _ => 0, fun _ => 0, 0, fun _ => 0, fun _ => 0, fun _ => 0, fun _ => 0, fun _ => 0, fun _ => 0, fun _ => 0)) := by
  refine winit RX1 (by decide) rfl rfl (by decide) ?_
  intro p e R s m args below meth cd A Q ls hRf hRl hRc hRs hin C hl hK hP hD hS hA hret
  have hx := C.1
  have hb := C.2.1
  have hts := C.2.2.2.2
  have hown := C.2.2.2.1
  refine lv_aload_n hx hb dX1_init_0 rfl (lv_at hl 0 rfl) ?_
  refine W.objInit hx hb hown (hts _ q150) (hts _ q20) (hts _ q21) rfl (by rw [C.2.2.1]; exact hl.1) rfl dX1_init_1 (by rw [hRf]; decide) (by rw [hRl]; exact Nat.le_of_ble_eq_true rfl) ?_
  refine W.eq (g2 := F0 m 4 ls []) rfl ?_
  refine lv_aload_n hx hb dX1_init_4 rfl (lv_at hl 0 rfl) ?_
  refine lv_bipush (v := 16) hx hb dX1_init_5 (by decide) ?_
  refine va_newa (atype := .int) (ty := .int) (N' := 16) (a0 := (16, .inl (fun _ => 0))) hx hb (hts _ q62) rfl hK hP hD hS hA (fun _ => rfl) (by decide) (by decide) (by decide) (by rw [hRc]; decide) (by rw [hRs]; decide) dX1_init_7 (fun q1 cA1 H hK hP hD hS => ?_)
  generalize cA1 = cI at hK hP hD
  have hK : va_K D cl_ [(cI, .int)] s := hK
  have hP : va_P D cl_ [(h0, .inr (1, [.null, .null, .int 0, .null, .null, .null, .null, .null, .null, .null])), (q1, .inl (cI, 16, .inl (fun _ => 0)))] H := hP
  have hD : va_D A [(h0, .inr (1, [.null, .null, .int 0, .null, .null, .null, .null, .null, .null, .null])), (q1, .inl (cI, 16, .inl (fun _ => 0)))] := hD
  refine W.widen (k := 1) (n := 16) (by omega) (by omega) ?_
  refine va_putF (D := D) (ci := 1) (v := .ref q1) (ty := .array .int) (C := RX1) (T := TX1) (N := 10) hx hb hts in_X1 tyX1 tyX1_ok nmX1 hown hK hP hD hS 0 rfl rfl 0 (by decide) (hts _ q151) (fun _ h9 => h9) rfl hin rfl (by decide +kernel) rfl rfl (Nat.le_of_ble_eq_true rfl) dX1_init_9 (fun H locs hP hD hS => ?_)
  have hP : va_P D cl_ [(h0, .inr (1, [.ref q1, .null, .int 0, .null, .null, .null, .null, .null, .null, .null])), (q1, .inl (cI, 16, .inl (fun _ => 0)))] H := hP
  have hD : va_D A [(h0, .inr (1, [.ref q1, .null, .int 0, .null, .null, .null, .null, .null, .null, .null])), (q1, .inl (cI, 16, .inl (fun _ => 0)))] := hD
  refine lv_aload_n hx hb dX1_init_12 rfl (lv_at hl 0 rfl) ?_
  refine lv_bipush (v := 16) hx hb dX1_init_13 (by decide) ?_
  refine va_newa (atype := .int) (ty := .int) (N' := 16) (a0 := (16, .inl (fun _ => 0))) hx hb (hts _ q62) rfl hK hP hD hS hA (fun _ => rfl) (by decide) (by decide) (by decide) (by rw [hRc]; decide) (by rw [hRs]; decide) dX1_init_15 (fun q2 cA2 H hK hP hD hS => ?_)
  have e2 : cI = cA2 := hK.sameI (i := 0) (j := 1) rfl rfl
  subst e2
  have hK : va_K D cl_ [(cI, .int)] s := hK.sub [0] rfl
  have hP : va_P D cl_ [(h0, .inr (1, [.ref q1, .null, .int 0, .null, .null, .null, .null, .null, .null, .null])), (q1, .inl (cI, 16, .inl (fun _ => 0))), (q2, .inl (cI, 16, .inl (fun _ => 0)))] H := hP
  have hD : va_D A [(h0, .inr (1, [.ref q1, .null, .int 0, .null, .null, .null, .null, .null, .null, .null])), (q1, .inl (cI, 16, .inl (fun _ => 0))), (q2, .inl (cI, 16, .inl (fun _ => 0)))] := hD
  refine W.widen (k := 2) (n := 32) (by omega) (by omega) ?_
  refine va_putF (D := D) (ci := 1) (v := .ref q2) (ty := .array .int) (C := RX1) (T := TX1) (N := 10) hx hb hts in_X1 tyX1 tyX1_ok nmX1 hown hK hP hD hS 0 rfl rfl 1 (by decide) (hts _ q152) (fun _ h9 => h9) rfl hin rfl (by decide +kernel) rfl rfl (Nat.le_of_ble_eq_true rfl) dX1_init_17 (fun H locs hP hD hS => ?_)
  have hP : va_P D cl_ [(h0, .inr (1, [.ref q1, .ref q2, .int 0, .null, .null, .null, .null, .null, .null, .null])), (q1, .inl (cI, 16, .inl (fun _ => 0))), (q2, .inl (cI, 16, .inl (fun _ => 0)))] H := hP
  have hD : va_D A [(h0, .inr (1, [.ref q1, .ref q2, .int 0, .null, .null, .null, .null, .null, .null, .null])), (q1, .inl (cI, 16, .inl (fun _ => 0))), (q2, .inl (cI, 16, .inl (fun _ => 0)))] := hD
  refine lv_aload_n hx hb dX1_init_20 rfl (lv_at hl 0 rfl) ?_
  refine lv_bipush (v := 6) hx hb dX1_init_21 (by decide) ?_
  refine va_newa (atype := .boolean) (ty := .boolean) (N' := 6) (a0 := (6, .inl (fun _ => 0))) hx hb (hts _ q63) rfl hK hP hD hS hA (fun _ => rfl) (by decide) (by decide) (by decide) (by rw [hRc]; decide) (by rw [hRs]; decide) dX1_init_23 (fun q3 cA3 H hK hP hD hS => ?_)
  generalize cA3 = cZ at hK hP hD
  have hK : va_K D cl_ [(cI, .int), (cZ, .boolean)] s := hK
  have hP : va_P D cl_ [(h0, .inr (1, [.ref q1, .ref q2, .int 0, .null, .null, .null, .null, .null, .null, .null])), (q1, .inl (cI, 16, .inl (fun _ => 0))), (q2, .inl (cI, 16, .inl (fun _ => 0))), (q3, .inl (cZ, 6, .inl (fun _ => 0)))] H := hP
  have hD : va_D A [(h0, .inr (1, [.ref q1, .ref q2, .int 0, .null, .null, .null, .null, .null, .null, .null])), (q1, .inl (cI, 16, .inl (fun _ => 0))), (q2, .inl (cI, 16, .inl (fun _ => 0))), (q3, .inl (cZ, 6, .inl (fun _ => 0)))] := hD
  refine W.widen (k := 3) (n := 38) (by omega) (by omega) ?_
  refine va_putF (D := D) (ci := 1) (v := .ref q3) (ty := .array .boolean) (C := RX1) (T := TX1) (N := 10) hx hb hts in_X1 tyX1 tyX1_ok nmX1 hown hK hP hD hS 0 rfl rfl 3 (by decide) (hts _ q154) (fun _ h9 => h9) rfl hin rfl (by decide +kernel) rfl rfl (Nat.le_of_ble_eq_true rfl) dX1_init_25 (fun H locs hP hD hS => ?_)
  have hP : va_P D cl_ [(h0, .inr (1, [.ref q1, .ref q2, .int 0, .ref q3, .null, .null, .null, .null, .null, .null])), (q1, .inl (cI, 16, .inl (fun _ => 0))), (q2, .inl (cI, 16, .inl (fun _ => 0))), (q3, .inl (cZ, 6, .inl (fun _ => 0)))] H := hP
  have hD : va_D A [(h0, .inr (1, [.ref q1, .ref q2, .int 0, .ref q3, .null, .null, .null, .null, .null, .null])), (q1, .inl (cI, 16, .inl (fun _ => 0))), (q2, .inl (cI, 16, .inl (fun _ => 0))), (q3, .inl (cZ, 6, .inl (fun _ => 0)))] := hD
  refine lv_aload_n hx hb dX1_init_28 rfl (lv_at hl 0 rfl) ?_
  refine lv_bipush (v := 6) hx hb dX1_init_29 (by decide) ?_
  refine va_newa (atype := .boolean) (ty := .boolean) (N' := 6) (a0 := (6, .inl (fun _ => 0))) hx hb (hts _ q63) rfl hK hP hD hS hA (fun _ => rfl) (by decide) (by decide) (by decide) (by rw [hRc]; decide) (by rw [hRs]; decide) dX1_init_31 (fun q4 cA4 H hK hP hD hS => ?_)
  have e4 : cZ = cA4 := hK.sameZ (i := 1) (j := 2) rfl rfl
  subst e4
  have hK : va_K D cl_ [(cI, .int), (cZ, .boolean)] s := hK.sub [0, 1] rfl
  have hP : va_P D cl_ [(h0, .inr (1, [.ref q1, .ref q2, .int 0, .ref q3, .null, .null, .null, .null, .null, .null])), (q1, .inl (cI, 16, .inl (fun _ => 0))), (q2, .inl (cI, 16, .inl (fun _ => 0))), (q3, .inl (cZ, 6, .inl (fun _ => 0))), (q4, .inl (cZ, 6, .inl (fun _ => 0)))] H := hP
  have hD : va_D A [(h0, .inr (1, [.ref q1, .ref q2, .int 0, .ref q3, .null, .null, .null, .null, .null, .null])), (q1, .inl (cI, 16, .inl (fun _ => 0))), (q2, .inl (cI, 16, .inl (fun _ => 0))), (q3, .inl (cZ, 6, .inl (fun _ => 0))), (q4, .inl (cZ, 6, .inl (fun _ => 0)))] := hD
  refine W.widen (k := 4) (n := 44) (by omega) (by omega) ?_
  refine va_putF (D := D) (ci := 1) (v := .ref q4) (ty := .array .boolean) (C := RX1) (T := TX1) (N := 10) hx hb hts in_X1 tyX1 tyX1_ok nmX1 hown hK hP hD hS 0 rfl rfl 4 (by decide) (hts _ q155) (fun _ h9 => h9) rfl hin rfl (by decide +kernel) rfl rfl (Nat.le_of_ble_eq_true rfl) dX1_init_33 (fun H locs hP hD hS => ?_)
  have hP : va_P D cl_ [(h0, .inr (1, [.ref q1, .ref q2, .int 0, .ref q3, .ref q4, .null, .null, .null, .null, .null])), (q1, .inl (cI, 16, .inl (fun _ => 0))), (q2, .inl (cI, 16, .inl (fun _ => 0))), (q3, .inl (cZ, 6, .inl (fun _ => 0))), (q4, .inl (cZ, 6, .inl (fun _ => 0)))] H := hP
  have hD : va_D A [(h0, .inr (1, [.ref q1, .ref q2, .int 0, .ref q3, .ref q4, .null, .null, .null, .null, .null])), (q1, .inl (cI, 16, .inl (fun _ => 0))), (q2, .inl (cI, 16, .inl (fun _ => 0))), (q3, .inl (cZ, 6, .inl (fun _ => 0))), (q4, .inl (cZ, 6, .inl (fun _ => 0)))] := hD
  refine lv_aload_n hx hb dX1_init_36 rfl (lv_at hl 0 rfl) ?_
  refine lv_bipush (v := 6) hx hb dX1_init_37 (by decide) ?_
  refine va_newa (atype := .int) (ty := .int) (N' := 6) (a0 := (6, .inl (fun _ => 0))) hx hb (hts _ q62) rfl hK hP hD hS hA (fun _ => rfl) (by decide) (by decide) (by decide) (by rw [hRc]; decide) (by rw [hRs]; decide) dX1_init_39 (fun q5 cA5 H hK hP hD hS => ?_)
  have e5 : cI = cA5 := hK.sameI (i := 0) (j := 2) rfl rfl
  subst e5
  have hK : va_K D cl_ [(cI, .int), (cZ, .boolean)] s := hK.sub [0, 1] rfl
  have hP : va_P D cl_ [(h0, .inr (1, [.ref q1, .ref q2, .int 0, .ref q3, .ref q4, .null, .null, .null, .null, .null])), (q1, .inl (cI, 16, .inl (fun _ => 0))), (q2, .inl (cI, 16, .inl (fun _ => 0))), (q3, .inl (cZ, 6, .inl (fun _ => 0))), (q4, .inl (cZ, 6, .inl (fun _ => 0))), (q5, .inl (cI, 6, .inl (fun _ => 0)))] H := hP
  have hD : va_D A [(h0, .inr (1, [.ref q1, .ref q2, .int 0, .ref q3, .ref q4, .null, .null, .null, .null, .null])), (q1, .inl (cI, 16, .inl (fun _ => 0))), (q2, .inl (cI, 16, .inl (fun _ => 0))), (q3, .inl (cZ, 6, .inl (fun _ => 0))), (q4, .inl (cZ, 6, .inl (fun _ => 0))), (q5, .inl (cI, 6, .inl (fun _ => 0)))] := hD
  refine W.widen (k := 5) (n := 50) (by omega) (by omega) ?_
  refine va_putF (D := D) (ci := 1) (v := .ref q5) (ty := .array .int) (C := RX1) (T := TX1) (N := 10) hx hb hts in_X1 tyX1 tyX1_ok nmX1 hown hK hP hD hS 0 rfl rfl 5 (by decide) (hts _ q156) (fun _ h9 => h9) rfl hin rfl (by decide +kernel) rfl rfl (Nat.le_of_ble_eq_true rfl) dX1_init_41 (fun H locs hP hD hS => ?_)
  have hP : va_P D cl_ [(h0, .inr (1, [.ref q1, .ref q2, .int 0, .ref q3, .ref q4, .ref q5, .null, .null, .null, .null])), (q1, .inl (cI, 16, .inl (fun _ => 0))), (q2, .inl (cI, 16, .inl (fun _ => 0))), (q3, .inl (cZ, 6, .inl (fun _ => 0))), (q4, .inl (cZ, 6, .inl (fun _ => 0))), (q5, .inl (cI, 6, .inl (fun _ => 0)))] H := hP
  have hD : va_D A [(h0, .inr (1, [.ref q1, .ref q2, .int 0, .ref q3, .ref q4, .ref q5, .null, .null, .null, .null])), (q1, .inl (cI, 16, .inl (fun _ => 0))), (q2, .inl (cI, 16, .inl (fun _ => 0))), (q3, .inl (cZ, 6, .inl (fun _ => 0))), (q4, .inl (cZ, 6, .inl (fun _ => 0))), (q5, .inl (cI, 6, .inl (fun _ => 0)))] := hD
  refine lv_aload_n hx hb dX1_init_44 rfl (lv_at hl 0 rfl) ?_
  refine lv_bipush (v := 96) hx hb dX1_init_45 (by decide) ?_
  refine va_newa (atype := .int) (ty := .int) (N' := 96) (a0 := (96, .inl (fun _ => 0))) hx hb (hts _ q62) rfl hK hP hD hS hA (fun _ => rfl) (by decide) (by decide) (by decide) (by rw [hRc]; decide) (by rw [hRs]; decide) dX1_init_47 (fun q6 cA6 H hK hP hD hS => ?_)
  have e6 : cI = cA6 := hK.sameI (i := 0) (j := 2) rfl rfl
  subst e6
  have hK : va_K D cl_ [(cI, .int), (cZ, .boolean)] s := hK.sub [0, 1] rfl
  have hP : va_P D cl_ [(h0, .inr (1, [.ref q1, .ref q2, .int 0, .ref q3, .ref q4, .ref q5, .null, .null, .null, .null])), (q1, .inl (cI, 16, .inl (fun _ => 0))), (q2, .inl (cI, 16, .inl (fun _ => 0))), (q3, .inl (cZ, 6, .inl (fun _ => 0))), (q4, .inl (cZ, 6, .inl (fun _ => 0))), (q5, .inl (cI, 6, .inl (fun _ => 0))), (q6, .inl (cI, 96, .inl (fun _ => 0)))] H := hP
  have hD : va_D A [(h0, .inr (1, [.ref q1, .ref q2, .int 0, .ref q3, .ref q4, .ref q5, .null, .null, .null, .null])), (q1, .inl (cI, 16, .inl (fun _ => 0))), (q2, .inl (cI, 16, .inl (fun _ => 0))), (q3, .inl (cZ, 6, .inl (fun _ => 0))), (q4, .inl (cZ, 6, .inl (fun _ => 0))), (q5, .inl (cI, 6, .inl (fun _ => 0))), (q6, .inl (cI, 96, .inl (fun _ => 0)))] := hD
  refine W.widen (k := 6) (n := 146) (by omega) (by omega) ?_
  refine va_putF (D := D) (ci := 1) (v := .ref q6) (ty := .array .int) (C := RX1) (T := TX1) (N := 10) hx hb hts in_X1 tyX1 tyX1_ok nmX1 hown hK hP hD hS 0 rfl rfl 6 (by decide) (hts _ q157) (fun _ h9 => h9) rfl hin rfl (by decide +kernel) rfl rfl (Nat.le_of_ble_eq_true rfl) dX1_init_49 (fun H locs hP hD hS => ?_)
  have hP : va_P D cl_ [(h0, .inr (1, [.ref q1, .ref q2, .int 0, .ref q3, .ref q4, .ref q5, .ref q6, .null, .null, .null])), (q1, .inl (cI, 16, .inl (fun _ => 0))), (q2, .inl (cI, 16, .inl (fun _ => 0))), (q3, .inl (cZ, 6, .inl (fun _ => 0))), (q4, .inl (cZ, 6, .inl (fun _ => 0))), (q5, .inl (cI, 6, .inl (fun _ => 0))), (q6, .inl (cI, 96, .inl (fun _ => 0)))] H := hP
  have hD : va_D A [(h0, .inr (1, [.ref q1, .ref q2, .int 0, .ref q3, .ref q4, .ref q5, .ref q6, .null, .null, .null])), (q1, .inl (cI, 16, .inl (fun _ => 0))), (q2, .inl (cI, 16, .inl (fun _ => 0))), (q3, .inl (cZ, 6, .inl (fun _ => 0))), (q4, .inl (cZ, 6, .inl (fun _ => 0))), (q5, .inl (cI, 6, .inl (fun _ => 0))), (q6, .inl (cI, 96, .inl (fun _ => 0)))] := hD
  refine lv_aload_n hx hb dX1_init_52 rfl (lv_at hl 0 rfl) ?_
  refine lv_bipush (v := 96) hx hb dX1_init_53 (by decide) ?_
  refine va_newa (atype := .boolean) (ty := .boolean) (N' := 96) (a0 := (96, .inl (fun _ => 0))) hx hb (hts _ q63) rfl hK hP hD hS hA (fun _ => rfl) (by decide) (by decide) (by decide) (by rw [hRc]; decide) (by rw [hRs]; decide) dX1_init_55 (fun q7 cA7 H hK hP hD hS => ?_)
  have e7 : cZ = cA7 := hK.sameZ (i := 1) (j := 2) rfl rfl
  subst e7
  have hK : va_K D cl_ [(cI, .int), (cZ, .boolean)] s := hK.sub [0, 1] rfl
  have hP : va_P D cl_ [(h0, .inr (1, [.ref q1, .ref q2, .int 0, .ref q3, .ref q4, .ref q5, .ref q6, .null, .null, .null])), (q1, .inl (cI, 16, .inl (fun _ => 0))), (q2, .inl (cI, 16, .inl (fun _ => 0))), (q3, .inl (cZ, 6, .inl (fun _ => 0))), (q4, .inl (cZ, 6, .inl (fun _ => 0))), (q5, .inl (cI, 6, .inl (fun _ => 0))), (q6, .inl (cI, 96, .inl (fun _ => 0))), (q7, .inl (cZ, 96, .inl (fun _ => 0)))] H := hP
  have hD : va_D A [(h0, .inr (1, [.ref q1, .ref q2, .int 0, .ref q3, .ref q4, .ref q5, .ref q6, .null, .null, .null])), (q1, .inl (cI, 16, .inl (fun _ => 0))), (q2, .inl (cI, 16, .inl (fun _ => 0))), (q3, .inl (cZ, 6, .inl (fun _ => 0))), (q4, .inl (cZ, 6, .inl (fun _ => 0))), (q5, .inl (cI, 6, .inl (fun _ => 0))), (q6, .inl (cI, 96, .inl (fun _ => 0))), (q7, .inl (cZ, 96, .inl (fun _ => 0)))] := hD
  refine W.widen (k := 7) (n := 242) (by omega) (by omega) ?_
  refine va_putF (D := D) (ci := 1) (v := .ref q7) (ty := .array .boolean) (C := RX1) (T := TX1) (N := 10) hx hb hts in_X1 tyX1 tyX1_ok nmX1 hown hK hP hD hS 0 rfl rfl 7 (by decide) (hts _ q158) (fun _ h9 => h9) rfl hin rfl (by decide +kernel) rfl rfl (Nat.le_of_ble_eq_true rfl) dX1_init_57 (fun H locs hP hD hS => ?_)
  have hP : va_P D cl_ [(h0, .inr (1, [.ref q1, .ref q2, .int 0, .ref q3, .ref q4, .ref q5, .ref q6, .ref q7, .null, .null])), (q1, .inl (cI, 16, .inl (fun _ => 0))), (q2, .inl (cI, 16, .inl (fun _ => 0))), (q3, .inl (cZ, 6, .inl (fun _ => 0))), (q4, .inl (cZ, 6, .inl (fun _ => 0))), (q5, .inl (cI, 6, .inl (fun _ => 0))), (q6, .inl (cI, 96, .inl (fun _ => 0))), (q7, .inl (cZ, 96, .inl (fun _ => 0)))] H := hP
  have hD : va_D A [(h0, .inr (1, [.ref q1, .ref q2, .int 0, .ref q3, .ref q4, .ref q5, .ref q6, .ref q7, .null, .null])), (q1, .inl (cI, 16, .inl (fun _ => 0))), (q2, .inl (cI, 16, .inl (fun _ => 0))), (q3, .inl (cZ, 6, .inl (fun _ => 0))), (q4, .inl (cZ, 6, .inl (fun _ => 0))), (q5, .inl (cI, 6, .inl (fun _ => 0))), (q6, .inl (cI, 96, .inl (fun _ => 0))), (q7, .inl (cZ, 96, .inl (fun _ => 0)))] := hD
  refine lv_aload_n hx hb dX1_init_60 rfl (lv_at hl 0 rfl) ?_
  refine lv_bipush (v := 96) hx hb dX1_init_61 (by decide) ?_
  refine va_newa (atype := .int) (ty := .int) (N' := 96) (a0 := (96, .inl (fun _ => 0))) hx hb (hts _ q62) rfl hK hP hD hS hA (fun _ => rfl) (by decide) (by decide) (by decide) (by rw [hRc]; decide) (by rw [hRs]; decide) dX1_init_63 (fun q8 cA8 H hK hP hD hS => ?_)
  have e8 : cI = cA8 := hK.sameI (i := 0) (j := 2) rfl rfl
  subst e8
  have hK : va_K D cl_ [(cI, .int), (cZ, .boolean)] s := hK.sub [0, 1] rfl
  have hP : va_P D cl_ [(h0, .inr (1, [.ref q1, .ref q2, .int 0, .ref q3, .ref q4, .ref q5, .ref q6, .ref q7, .null, .null])), (q1, .inl (cI, 16, .inl (fun _ => 0))), (q2, .inl (cI, 16, .inl (fun _ => 0))), (q3, .inl (cZ, 6, .inl (fun _ => 0))), (q4, .inl (cZ, 6, .inl (fun _ => 0))), (q5, .inl (cI, 6, .inl (fun _ => 0))), (q6, .inl (cI, 96, .inl (fun _ => 0))), (q7, .inl (cZ, 96, .inl (fun _ => 0))), (q8, .inl (cI, 96, .inl (fun _ => 0)))] H := hP
  have hD : va_D A [(h0, .inr (1, [.ref q1, .ref q2, .int 0, .ref q3, .ref q4, .ref q5, .ref q6, .ref q7, .null, .null])), (q1, .inl (cI, 16, .inl (fun _ => 0))), (q2, .inl (cI, 16, .inl (fun _ => 0))), (q3, .inl (cZ, 6, .inl (fun _ => 0))), (q4, .inl (cZ, 6, .inl (fun _ => 0))), (q5, .inl (cI, 6, .inl (fun _ => 0))), (q6, .inl (cI, 96, .inl (fun _ => 0))), (q7, .inl (cZ, 96, .inl (fun _ => 0))), (q8, .inl (cI, 96, .inl (fun _ => 0)))] := hD
  refine W.widen (k := 8) (n := 338) (by omega) (by omega) ?_
  refine va_putF (D := D) (ci := 1) (v := .ref q8) (ty := .array .int) (C := RX1) (T := TX1) (N := 10) hx hb hts in_X1 tyX1 tyX1_ok nmX1 hown hK hP hD hS 0 rfl rfl 8 (by decide) (hts _ q159) (fun _ h9 => h9) rfl hin rfl (by decide +kernel) rfl rfl (Nat.le_of_ble_eq_true rfl) dX1_init_65 (fun H locs hP hD hS => ?_)
  have hP : va_P D cl_ [(h0, .inr (1, [.ref q1, .ref q2, .int 0, .ref q3, .ref q4, .ref q5, .ref q6, .ref q7, .ref q8, .null])), (q1, .inl (cI, 16, .inl (fun _ => 0))), (q2, .inl (cI, 16, .inl (fun _ => 0))), (q3, .inl (cZ, 6, .inl (fun _ => 0))), (q4, .inl (cZ, 6, .inl (fun _ => 0))), (q5, .inl (cI, 6, .inl (fun _ => 0))), (q6, .inl (cI, 96, .inl (fun _ => 0))), (q7, .inl (cZ, 96, .inl (fun _ => 0))), (q8, .inl (cI, 96, .inl (fun _ => 0)))] H := hP
  have hD : va_D A [(h0, .inr (1, [.ref q1, .ref q2, .int 0, .ref q3, .ref q4, .ref q5, .ref q6, .ref q7, .ref q8, .null])), (q1, .inl (cI, 16, .inl (fun _ => 0))), (q2, .inl (cI, 16, .inl (fun _ => 0))), (q3, .inl (cZ, 6, .inl (fun _ => 0))), (q4, .inl (cZ, 6, .inl (fun _ => 0))), (q5, .inl (cI, 6, .inl (fun _ => 0))), (q6, .inl (cI, 96, .inl (fun _ => 0))), (q7, .inl (cZ, 96, .inl (fun _ => 0))), (q8, .inl (cI, 96, .inl (fun _ => 0)))] := hD
  refine lv_aload_n hx hb dX1_init_68 rfl (lv_at hl 0 rfl) ?_
  refine lv_bipush (v := 96) hx hb dX1_init_69 (by decide) ?_
  refine va_newa (atype := .boolean) (ty := .boolean) (N' := 96) (a0 := (96, .inl (fun _ => 0))) hx hb (hts _ q63) rfl hK hP hD hS hA (fun _ => rfl) (by decide) (by decide) (by decide) (by rw [hRc]; decide) (by rw [hRs]; decide) dX1_init_71 (fun q9 cA9 H hK hP hD hS => ?_)
  have e9 : cZ = cA9 := hK.sameZ (i := 1) (j := 2) rfl rfl
  subst e9
  have hK : va_K D cl_ [(cI, .int), (cZ, .boolean)] s := hK.sub [0, 1] rfl
  have hP : va_P D cl_ [(h0, .inr (1, [.ref q1, .ref q2, .int 0, .ref q3, .ref q4, .ref q5, .ref q6, .ref q7, .ref q8, .null])), (q1, .inl (cI, 16, .inl (fun _ => 0))), (q2, .inl (cI, 16, .inl (fun _ => 0))), (q3, .inl (cZ, 6, .inl (fun _ => 0))), (q4, .inl (cZ, 6, .inl (fun _ => 0))), (q5, .inl (cI, 6, .inl (fun _ => 0))), (q6, .inl (cI, 96, .inl (fun _ => 0))), (q7, .inl (cZ, 96, .inl (fun _ => 0))), (q8, .inl (cI, 96, .inl (fun _ => 0))), (q9, .inl (cZ, 96, .inl (fun _ => 0)))] H := hP
  have hD : va_D A [(h0, .inr (1, [.ref q1, .ref q2, .int 0, .ref q3, .ref q4, .ref q5, .ref q6, .ref q7, .ref q8, .null])), (q1, .inl (cI, 16, .inl (fun _ => 0))), (q2, .inl (cI, 16, .inl (fun _ => 0))), (q3, .inl (cZ, 6, .inl (fun _ => 0))), (q4, .inl (cZ, 6, .inl (fun _ => 0))), (q5, .inl (cI, 6, .inl (fun _ => 0))), (q6, .inl (cI, 96, .inl (fun _ => 0))), (q7, .inl (cZ, 96, .inl (fun _ => 0))), (q8, .inl (cI, 96, .inl (fun _ => 0))), (q9, .inl (cZ, 96, .inl (fun _ => 0)))] := hD
  refine W.widen (k := 9) (n := 434) (by omega) (by omega) ?_
  refine va_putF (D := D) (ci := 1) (v := .ref q9) (ty := .array .boolean) (C := RX1) (T := TX1) (N := 10) hx hb hts in_X1 tyX1 tyX1_ok nmX1 hown hK hP hD hS 0 rfl rfl 9 (by decide) (hts _ q160) (fun _ h9 => h9) rfl hin rfl (by decide +kernel) rfl rfl (Nat.le_of_ble_eq_true rfl) dX1_init_73 (fun H locs hP hD hS => ?_)
  have hP : va_P D cl_ [(h0, .inr (1, [.ref q1, .ref q2, .int 0, .ref q3, .ref q4, .ref q5, .ref q6, .ref q7, .ref q8, .ref q9])), (q1, .inl (cI, 16, .inl (fun _ => 0))), (q2, .inl (cI, 16, .inl (fun _ => 0))), (q3, .inl (cZ, 6, .inl (fun _ => 0))), (q4, .inl (cZ, 6, .inl (fun _ => 0))), (q5, .inl (cI, 6, .inl (fun _ => 0))), (q6, .inl (cI, 96, .inl (fun _ => 0))), (q7, .inl (cZ, 96, .inl (fun _ => 0))), (q8, .inl (cI, 96, .inl (fun _ => 0))), (q9, .inl (cZ, 96, .inl (fun _ => 0)))] H := hP
  have hD : va_D A [(h0, .inr (1, [.ref q1, .ref q2, .int 0, .ref q3, .ref q4, .ref q5, .ref q6, .ref q7, .ref q8, .ref q9])), (q1, .inl (cI, 16, .inl (fun _ => 0))), (q2, .inl (cI, 16, .inl (fun _ => 0))), (q3, .inl (cZ, 6, .inl (fun _ => 0))), (q4, .inl (cZ, 6, .inl (fun _ => 0))), (q5, .inl (cI, 6, .inl (fun _ => 0))), (q6, .inl (cI, 96, .inl (fun _ => 0))), (q7, .inl (cZ, 96, .inl (fun _ => 0))), (q8, .inl (cI, 96, .inl (fun _ => 0))), (q9, .inl (cZ, 96, .inl (fun _ => 0)))] := hD
  obtain ⟨a, ea⟩ : ∃ a : Nat → Nat, a = ad [h0, q1, q2, q3, q4, q5, q6, q7, q8, q9] := ⟨_, rfl⟩
  have ha0 : a 0 = h0 := by rw [ea]; rfl
  have hI : wI D cI cZ A s (mw cI cZ a (fun _ => 0, fun _ => 0, 0, fun _ => 0, fun _ => 0, fun _ => 0, fun _ => 0, fun _ => 0, fun _ => 0, fun _ => 0)) H locs := by
    rw [ea]
    exact ⟨hK, hP, hD, hS, hA⟩
  rw [← ha0] at hl
  exact hret _ _ _ _ _ _ _ _ dX1_init_76 ha0 rfl hI
end
section
set_option maxRecDepth 100000
/-! THE CLAIM OUT OF ONE WALK OF THE LAW'S BODY. Your part is whole_start (and what it stands on); all else here is the same for every law, but numbers. -/
def R_law : String := "VersionStoreLaw"
def lw_P (b : Addr) (xs : List Int32) (args : Array Value) (s : State) : Prop := args = #[.ref b] ∧ s.IntsAt b xs ∧ xs.length ≤ 256 ∧ (Jvm.Cond.and given_1 narrow_1).before args s = true
def lw_Q (_ : Array Value) (s : State) (o : Outcome) (t : State) : Prop := o = .returned (some (.int 1)) ∧ Framed s o t [] 600000 7290000
def lw_Z (below : List Frame) (a : Array Value) (s : State) : State → Prop := fun t => ∃ o, t.status = .running ∧ Ended t below o ∧ lw_Q a s o t
/-- the law's own end, with 1 on the stack, nothing written that was there before, its room as the claim has it -/
theorem lw_ret {p : Program} {l : Launch} {e : Env} {s : State} {m : MethodId} {below : List Frame} {meth : Method} {c : Code} {b : Nat} (hx : p.tables.exec = Jvm.exec) (hb : c.code = code) (hr : meth.sig.returnType = ret) (hlocks : meth.locks = false) {pc : Nat} {H : Heap} {ls : Array Slot} (hdg : decode code pc = .ok (.ireturn, 1)) : W p l e room_1 s m #[Value.ref b] below meth c H [] 600000 7290000 (lw_Z below #[Value.ref b] s) (F0 m pc ls [.int 1]) := by
  intro T hT X
  obtain ⟨fs, hret, hrun, hended, hW, hframe⟩ := X.leave (v := some (.int 1)) (hlocks := hlocks) (fun h => by rw [hr] at h; cases h)
  have hmeth' : T.vm.method? m = some meth := X.method'
  refine ⟨T.setFrames fs, ?_, .returned (some (.int 1)), hrun, hended, rfl, ⟨_, rfl⟩, hW, hframe⟩
  jvm_step X.here [X.here.top, hx, hb, hdg, hmeth', hr, ret, narrow_b1]
  (try refine ⟨rfl, ?_⟩); (try refine ⟨rfl, ?_⟩)
  first | (intro acts; rw [hret _ acts rfl rfl rfl]) | rw [hret _ _ rfl rfl rfl]
  exact Steps.refl _
/-- what holds at the law's entry: the machine, the code, the tables' words (any of lw_tbl by 'hts w (by decide +kernel)'), the script of L ints xs at the cell b, what the Statement gives of the start (any of its parts by flat_of_before) -/
def lw_At (p : Program) (s : State) (m : MethodId) (meth : Method) (c : Code) (b L : Nat) (xs : Nat → Int32) : Prop :=
  p.tables.exec = Jvm.exec ∧ c.code = code ∧ meth.sig.returnType = ret ∧ c.maxLocals = 4 ∧ s.vm.findClass R_law = some m.cls ∧ (∀ w ∈ lw_tbl, w.before #[Value.ref b] s = true) ∧ va_X b L xs s s.heap ∧ b < s.heap.size ∧ meth.locks = false ∧ (Jvm.Cond.and given_1 narrow_1).before #[Value.ref b] s = true
end
section
/-! THE LAW: its loop, and its entry -/
set_option maxRecDepth 100000
theorem wI.swap {D : va_G} {cI cZ : ClassId} {A : Nat → Prop} {s : State} {H : Heap} {locs : List Loc} {w1 w2 : va_W} (hI : wI D cI cZ A s (w1 ++ w2) H locs) : wI D cI cZ A s (w2 ++ w1) H locs := by
  obtain ⟨hK, hP, hD, hS, hA⟩ := hI
  refine ⟨hK, va_P.app (fun k q hq => hP _ q (w_app_r hq)) (fun k q hq => hP k q (w_app_l hq).1), va_D.app ⟨fun i j x y hi hj hxy => ?_, fun k q hq => hD.2 _ q (w_app_r hq)⟩ ⟨fun i j x y hi hj hxy => hD.1 i j x y (w_app_l hi).1 (w_app_l hj).1 hxy, fun k q hq => hD.2 k q (w_app_l hq).1⟩ (fun i j x y hx hy hxy => ?_), hS, hA⟩
  · have := hD.1 _ _ x y (w_app_r (wc := w1) hi) (w_app_r (wc := w1) hj) hxy
    omega
  · obtain ⟨h1, h2⟩ := w_app_l (wr := w2) hy
    have := hD.1 _ _ x y (w_app_r (wc := w1) hx) h1 hxy
    omega
theorem lsl {p : Program} {l : Launch} {e : Env} {R : Room} {s : State} {m : MethodId} {args : Array Value} {below : List Frame} {meth : Method} {c : Code} {H : Heap} {locs : List Loc} {cells slots : Nat} {Q : State → Prop} {cc : ByteArray} {pc : Nat} {ls : Array Slot} {rest : List Value} {A : Nat → Prop} (hexec : p.tables.exec = Jvm.exec) (hb : c.code = cc) {b L : Nat} {xs : Nat → Int32} (hX : va_X b L xs s s.heap) (hbl : b < s.heap.size) (hbA : ¬ A b) (hS : va_S A s.heap H locs) (hL : L ≤ 256) {i : Int32} {k : Nat} (hi : i = nI k) (hk : k < L) (hdg : decode cc pc = .ok (.iaload, 1))
    (kk : W p l e R s m args below meth c H locs cells slots Q (F0 m (pc + 1) ls (.int (xs k) :: rest))) : W p l e R s m args below meth c H locs cells slots Q (F0 m pc ls (.int i :: .ref b :: rest)) := by
  subst hi
  refine va_sld hexec hb hX hbl hbA hS (vp_in_nI hk (by omega)) hdg ?_
  rw [nI_clamp (by omega)]
  exact kk
theorem nI_2 (a : Nat) : nI a + 2 = nI (a + 2) := nI_add a 2
theorem nI_3 (a : Nat) : nI a + 3 = nI (a + 3) := nI_add a 3
theorem ii4 (a : Nat) : nI a + Int32.ofInt 4 = nI (a + 4) := nI_add a 4
theorem law_in {L i : Nat} (hL : L ≤ 256) (hi : i ≤ 1000) (h : ¬ (Int32.ofNat L - 4) < nI i) : i + 4 ≤ L := by
  have h1 : (Int32.ofNat L - 4).toInt = (L : Int) - 4 := pk_sub_toInt (a := L) (b := 4) (by omega) (by omega)
  have h2 : (nI i).toInt = (i : Int) := nI_toInt (by omega)
  have h3 := Int32.le_iff_toInt_le.mp (Int32.not_lt.mp h)
  omega
def rg : Nat → Nat → List Nat
  | _, 0 => []
  | i, n + 1 => i :: rg (i + 1) n
theorem rg_len : ∀ (n i : Nat), (rg i n).length = n
  | 0, _ => rfl
  | n + 1, i => by
    show (rg (i + 1) n).length + 1 = n + 1
    rw [rg_len n (i + 1)]
theorem rg_le : ∀ (n i x : Nat), x ∈ rg i n → i ≤ x
  | 0, _, _, h => absurd h List.not_mem_nil
  | n + 1, i, x, h => by
    rcases List.mem_cons.mp h with q | q
    · omega
    · have := rg_le n (i + 1) x q
      omega
theorem rg_cnt : ∀ (n i x : Nat), (rg i n).count x ≤ 1
  | 0, _, _ => Nat.zero_le _
  | n + 1, i, x => by
    show (i :: rg (i + 1) n).count x ≤ 1
    by_cases e : i = x
    · subst e
      rw [List.count_cons_self, List.count_eq_zero.mpr (fun q => by have := rg_le n (i + 1) i q; omega)]
      exact Nat.le_refl 1
    · rw [List.count_cons_of_ne (fun q => e q)]
      exact rg_cnt n (i + 1) x
theorem rg_ch {ol : Nat → Int32} (h : ∀ v, v < 144 → ol v = if v = 143 then -1 else nI (v + 1)) : ∀ (n i : Nat), i + n = 144 → Ch ol (if n = 0 then -1 else nI i) (rg i n)
  | 0, _, _ => rfl
  | n + 1, i, hi => by
    refine ⟨if_neg (Nat.succ_ne_zero n), by omega, ?_⟩
    have h1 := rg_ch h n (i + 1) (by omega)
    rw [h i (by omega)]
    by_cases e : n = 0
    · rw [if_pos e] at h1
      rw [if_pos (by omega)]
      exact h1
    · rw [if_neg e] at h1
      rw [if_neg (by omega)]
      exact h1
theorem tot_nil (x : Nat) : ∀ n : Nat, tot (fun _ => []) x n = 0
  | 0 => rfl
  | n + 1 => tot_nil x n
theorem totL_nil : ∀ n : Nat, totL (fun _ => []) n = 0
  | 0 => rfl
  | n + 1 => totL_nil n
theorem sim_0 {ol nw : Nat → Int32} (h : ∀ v, v < 144 → ol v = if v = 143 then -1 else nI (v + 1)) (hn : ∀ i, i < 16 → nw i = -1) : SIM (fun _ => 0) (fun _ => 0) ol 0 (nI 144) nw 0 (fun _ => 0) (fun _ => 0) (fun _ => 0) (fun _ => 0) (fun _ => 0) (fun _ => 0) (fun _ => 0) (fun _ => 0) 0 (fun _ => 0) (fun _ => 0) (fun _ => 0) (fun _ => 0) (fun _ => 0) (fun _ => 0) (fun _ => 0) (fun _ => []) (rg 0 144) 0 := by
  refine ⟨⟨fun c hc => hn c hc, ?_, by rw [rg_len], fun x => ?_, by rw [rg_len, totL_nil]⟩, fun c hc => List.Pairwise.nil, fun c hc x hx => absurd hx List.not_mem_nil, ⟨0, rfl, Nat.le_refl 0⟩, ⟨0, rfl, Nat.le_refl 0⟩, fun c hc => Int32.le_refl _, fun c hc => rfl, fun t ht => rfl, fun t ht ho => absurd rfl ho⟩
  · exact rg_ch h 144 0 rfl
  · rw [tot_nil]
    exact rg_cnt 144 0 x
set_option maxHeartbeats 8000000 in
/-- THE LAW'S LOOP at its head, with i ints read: the bond holds -/
theorem law_loop {p : Program} {l : Launch} {e : Env} {s : State} {m : MethodId} {below : List Frame} {meth : Method} {c : Code} {D : va_G} {cI cZ : ClassId} {a a2 : Nat → Nat} {b L : Nat} {xs : Nat → Int32} (hL : L ≤ 256) (C0 : lw_At p s m meth c b L xs) :
    ∀ (n i : Nat) (vo co ol : Nat → Int32) (fv fc : Int32) (nw : Nat → Int32) (cm : Int32) (op se be wr sn ow st wt : Nat → Int32) (mc : Int32) (lv ss mb vw wo mo lk : Nat → Int32) (Cs : Nat → List Nat) (F : List Nat) (H : Heap) (locs : List Loc) (ls : Array Slot), L < i + n → i ≤ 256 → SIM vo co ol fv fc nw cm op se be wr sn ow st wt mc lv ss mb vw wo mo lk Cs F i → wI D cI cZ (fun q : Nat => s.heap.size ≤ q) s (xw cI cZ a (vo, co, ol, fv, fc, nw, cm, op, se, be, wr, sn, ow) ++ mw cI cZ a2 (st, wt, mc, lv, ss, mb, vw, wo, mo, lk)) H locs → lv_has ls 4 [(0, .ref b), (1, .ref (a 0)), (2, .ref (a2 0)), (3, .int (nI i))] → W p l e room_1 s m #[Value.ref b] below meth c H locs 21 1031 (lw_Z below #[Value.ref b] s) (F0 m 18 ls []) := by
  obtain ⟨hx, hb, hr, hml, hown, hts0, hX, hbl, hlocks, hgv⟩ := C0
  have hts : ∀ w ∈ lw_all, w.before #[Value.ref b] s = true := fun w h => hts0 w (lw_all_tbl h)
  have C : CallFix p m c code 4 s #[Value.ref b] lw_all R_law := ⟨hx, hb, hml, hown, hts⟩
  have hbA : ¬ (fun q : Nat => s.heap.size ≤ q) b := Nat.not_le.mpr hbl
  intro n
  induction n with
  | zero =>
    intro i vo co ol fv fc nw cm op se be wr sn ow st wt mc lv ss mb vw wo mo lk Cs F H locs ls hn hi hs hI hl
    refine lv_iload_n hx hb dL_law_18 rfl (lv_at hl 3 rfl) ?_
    refine lv_aload_n hx hb dL_law_19 rfl (lv_at hl 0 rfl) ?_
    refine va_slen hx hb hX hbl hbA hI.2.2.2.1 dL_law_20 ?_
    refine lv_iconst (v := 4) hx hb dL_law_21 (by decide) ?_
    refine lv_isub hx hb dL_law_22 ?_
    refine lv_icmp_gt (tgt := 415) hx hb dL_law_23 (by decide) (fun c1 => ?_) (fun c1 => ?_)
    · refine lv_iconst (v := 1) hx hb dL_law_415 (by decide) ?_
      refine va_forget (fun q hq => hI.2.2.2.1.2.2 q hq) ?_
      refine W.widen (k := 600000) (n := 7290000) (by decide) (by decide) ?_
      exact lw_ret hx hb hr hlocks dL_law_416
    · have := law_in hL (by omega) c1
      omega
  | succ n ih =>
    intro i vo co ol fv fc nw cm op se be wr sn ow st wt mc lv ss mb vw wo mo lk Cs F H locs ls hn hi hs hI hl
    refine lv_iload_n hx hb dL_law_18 rfl (lv_at hl 3 rfl) ?_
    refine lv_aload_n hx hb dL_law_19 rfl (lv_at hl 0 rfl) ?_
    refine va_slen hx hb hX hbl hbA hI.2.2.2.1 dL_law_20 ?_
    refine lv_iconst (v := 4) hx hb dL_law_21 (by decide) ?_
    refine lv_isub hx hb dL_law_22 ?_
    refine lv_icmp_gt (tgt := 415) hx hb dL_law_23 (by decide) (fun c1 => ?_) (fun c1 => ?_)
    · refine lv_iconst (v := 1) hx hb dL_law_415 (by decide) ?_
      refine va_forget (fun q hq => hI.2.2.2.1.2.2 q hq) ?_
      refine W.widen (k := 600000) (n := 7290000) (by decide) (by decide) ?_
      exact lw_ret hx hb hr hlocks dL_law_416
    · have hi4 := law_in hL (by omega) c1
      have next : ∀ (vo co ol : Nat → Int32) (fv fc : Int32) (nw : Nat → Int32) (cm : Int32) (op se be wr sn ow st wt : Nat → Int32) (mc : Int32) (lv ss mb vw wo mo lk : Nat → Int32) (Cs : Nat → List Nat) (F : List Nat) (H : Heap) (locs : List Loc) (ls : Array Slot), SIM vo co ol fv fc nw cm op se be wr sn ow st wt mc lv ss mb vw wo mo lk Cs F (i + 1) → wI D cI cZ (fun q : Nat => s.heap.size ≤ q) s (xw cI cZ a (vo, co, ol, fv, fc, nw, cm, op, se, be, wr, sn, ow) ++ mw cI cZ a2 (st, wt, mc, lv, ss, mb, vw, wo, mo, lk)) H locs → lv_has ls 4 [(0, .ref b), (1, .ref (a 0)), (2, .ref (a2 0)), (3, .int (nI i))] → W p l e room_1 s m #[Value.ref b] below meth c H locs 21 1031 (lw_Z below #[Value.ref b] s) (F0 m 409 ls []) := by
        intro vo co ol fv fc nw cm op se be wr sn ow st wt mc lv ss mb vw wo mo lk Cs F H locs ls hs hI hl
        refine lv_iinc (v := (nI (i + 4))) (lv' := [(3, .int (nI (i + 4))), (0, .ref b), (1, .ref (a 0)), (2, .ref (a2 0))]) hx hb dL_law_409 hl (k := 3) rfl (ii4 i) (by decide) rfl (fun ls hl => ?_)
        have hl : lv_has ls 4 [(0, .ref b), (1, .ref (a 0)), (2, .ref (a2 0)), (3, .int (nI (i + 4)))] := lv_sub hl [1, 2, 3, 0] rfl
        refine lv_goto (tgt := 18) hx hb dL_law_412 (by decide) ?_
        exact ih (i + 4) _ _ _ _ _ _ _ _ _ _ _ _ _ _ _ _ _ _ _ _ _ _ _ Cs F H locs ls (by omega) (by omega) (sim_up (sim_up (sim_up hs))) hI hl
      refine lv_aload_n hx hb dL_law_26 rfl (lv_at hl 0 rfl) ?_
      refine lv_iload_n hx hb dL_law_27 rfl (lv_at hl 3 rfl) ?_
      refine lsl hx hb hX hbl hbA hI.2.2.2.1 hL rfl (by omega) dL_law_28 ?_
      refine lv_bipush (v := 15) hx hb dL_law_29 (by decide) ?_
      refine lv_iand hx hb dL_law_31 ?_
      refine lv_topi (fun y9 ey9 => ?_)
      obtain ⟨j9, hj9, ej9⟩ := pk_andE (xs i) (m := 15) 4 (by decide)
      have ey9 := ey9.trans ej9
      subst ey9
      clear ej9
      rcases (show j9 = 0 ∨ j9 = 1 ∨ j9 = 2 ∨ j9 = 3 ∨ j9 = 4 ∨ j9 = 5 ∨ j9 = 6 ∨ j9 = 7 ∨ j9 = 8 ∨ j9 = 9 ∨ j9 = 10 ∨ 11 ≤ j9 by omega) with rfl | rfl | rfl | rfl | rfl | rfl | rfl | rfl | rfl | rfl | rfl | hj11
      · refine lv_tableIn (x := nI 0) (off := 60) (tgt := 92) hx hb dL_law_32 (by decide) (by decide) (by decide) (by decide) ?_
        by_cases hz : xs (i + 1) = 0
        · skip
          refine lv_aload_n hx hb dL_law_92 rfl (lv_at hl 1 rfl) ?_
          refine lv_aload_n hx hb dL_law_93 rfl (lv_at hl 0 rfl) ?_
          refine lv_iload_n hx hb dL_law_94 rfl (lv_at hl 3 rfl) ?_
          refine lv_iconst (v := 1) hx hb dL_law_95 (by decide) ?_
          refine lv_iadd hx hb dL_law_96 ?_
          refine lsl hx hb hX hbl hbA hI.2.2.2.1 hL (nI_1 i) (by omega) dL_law_97 ?_
          refine lv_if_eq (tgt := 105) hx hb dL_law_98 (by decide) (fun d1 => ?_) (fun d1 => ?_)
          · refine lv_iconst (v := 0) hx hb dL_law_105 (by decide) ?_
            refine wcall_i (n := 1) (wr := (mw cI cZ a2 (st, wt, mc, lv, ss, mb, vw, wo, mo, lk))) (rest := []) (kX0_begin l D cI cZ a vo co ol fv fc nw cm op se be wr sn ow 0 ) C (lw_V q64 q65 q66 q12 q67) (by decide +kernel) ⟨by decide, by decide⟩ ⟨by decide, by decide⟩ rfl rfl hI rfl hl.1 rfl (Nat.le_of_ble_eq_true rfl) dL_law_106 (fun r1 u1 H locs hp1 hI => ?_)
            obtain ⟨op', se', be', wr', sn', rfl, hp1⟩ := hp1
            refine lv_aload_n hx hb dL_law_109 rfl (lv_at hl 2 rfl) ?_
            refine lv_aload_n hx hb dL_law_110 rfl (lv_at hl 0 rfl) ?_
            refine lv_iload_n hx hb dL_law_111 rfl (lv_at hl 3 rfl) ?_
            refine lv_iconst (v := 1) hx hb dL_law_112 (by decide) ?_
            refine lv_iadd hx hb dL_law_113 ?_
            refine lsl hx hb hX hbl hbA hI.2.2.2.1 hL (nI_1 i) (by omega) dL_law_114 ?_
            refine lv_if_eq (tgt := 122) hx hb dL_law_115 (by decide) (fun d1 => ?_) (fun d1 => ?_)
            · refine lv_iconst (v := 0) hx hb dL_law_122 (by decide) ?_
              refine wcall_i (n := 1) (wr := (xw cI cZ a (vo, co, ol, fv, fc, nw, cm, op', se', be', wr', sn', ow))) (rest := [.int r1]) (kX1_begin l D cI cZ a2 st wt mc lv ss mb vw wo mo lk 0) C (lw_V q182 q183 q184 q13 q185) (by decide +kernel) ⟨by decide, by decide⟩ ⟨by decide, by decide⟩ rfl rfl hI rfl hl.1 rfl (Nat.le_of_ble_eq_true rfl) dL_law_123 (fun r2 u2 H locs hp2 hI => ?_)
              obtain ⟨lv', ss', mb', vw', wo', lk', rfl, hp2⟩ := hp2
              obtain ⟨er, hs'⟩ := sim_begin hs hp1 hp2
              refine lv_icmp_eq (tgt := 409) hx hb dL_law_126 (by decide) (fun c9 => ?_) (fun c9 => ?_)
              · exact next _ _ _ _ _ _ _ _ _ _ _ _ _ _ _ _ _ _ _ _ _ _ _ _ _ H locs ls hs' hI hl
              · exact absurd er c9
            · exact absurd hz d1
          · exact absurd hz d1
        · skip
          refine lv_aload_n hx hb dL_law_92 rfl (lv_at hl 1 rfl) ?_
          refine lv_aload_n hx hb dL_law_93 rfl (lv_at hl 0 rfl) ?_
          refine lv_iload_n hx hb dL_law_94 rfl (lv_at hl 3 rfl) ?_
          refine lv_iconst (v := 1) hx hb dL_law_95 (by decide) ?_
          refine lv_iadd hx hb dL_law_96 ?_
          refine lsl hx hb hX hbl hbA hI.2.2.2.1 hL (nI_1 i) (by omega) dL_law_97 ?_
          refine lv_if_eq (tgt := 105) hx hb dL_law_98 (by decide) (fun d1 => ?_) (fun d1 => ?_)
          · exact absurd d1 hz
          · refine lv_iconst (v := 1) hx hb dL_law_101 (by decide) ?_
            refine lv_goto (tgt := 106) hx hb dL_law_102 (by decide) ?_
            refine wcall_i (n := 1) (wr := (mw cI cZ a2 (st, wt, mc, lv, ss, mb, vw, wo, mo, lk))) (rest := []) (kX0_begin l D cI cZ a vo co ol fv fc nw cm op se be wr sn ow 1 ) C (lw_V q64 q65 q66 q12 q67) (by decide +kernel) ⟨by decide, by decide⟩ ⟨by decide, by decide⟩ rfl rfl hI rfl hl.1 rfl (Nat.le_of_ble_eq_true rfl) dL_law_106 (fun r1 u1 H locs hp1 hI => ?_)
            obtain ⟨op', se', be', wr', sn', rfl, hp1⟩ := hp1
            refine lv_aload_n hx hb dL_law_109 rfl (lv_at hl 2 rfl) ?_
            refine lv_aload_n hx hb dL_law_110 rfl (lv_at hl 0 rfl) ?_
            refine lv_iload_n hx hb dL_law_111 rfl (lv_at hl 3 rfl) ?_
            refine lv_iconst (v := 1) hx hb dL_law_112 (by decide) ?_
            refine lv_iadd hx hb dL_law_113 ?_
            refine lsl hx hb hX hbl hbA hI.2.2.2.1 hL (nI_1 i) (by omega) dL_law_114 ?_
            refine lv_if_eq (tgt := 122) hx hb dL_law_115 (by decide) (fun d1 => ?_) (fun d1 => ?_)
            · exact absurd d1 hz
            · refine lv_iconst (v := 1) hx hb dL_law_118 (by decide) ?_
              refine lv_goto (tgt := 123) hx hb dL_law_119 (by decide) ?_
              refine wcall_i (n := 1) (wr := (xw cI cZ a (vo, co, ol, fv, fc, nw, cm, op', se', be', wr', sn', ow))) (rest := [.int r1]) (kX1_begin l D cI cZ a2 st wt mc lv ss mb vw wo mo lk 1) C (lw_V q182 q183 q184 q13 q185) (by decide +kernel) ⟨by decide, by decide⟩ ⟨by decide, by decide⟩ rfl rfl hI rfl hl.1 rfl (Nat.le_of_ble_eq_true rfl) dL_law_123 (fun r2 u2 H locs hp2 hI => ?_)
              obtain ⟨lv', ss', mb', vw', wo', lk', rfl, hp2⟩ := hp2
              obtain ⟨er, hs'⟩ := sim_begin hs hp1 hp2
              refine lv_icmp_eq (tgt := 409) hx hb dL_law_126 (by decide) (fun c9 => ?_) (fun c9 => ?_)
              · exact next _ _ _ _ _ _ _ _ _ _ _ _ _ _ _ _ _ _ _ _ _ _ _ _ _ H locs ls hs' hI hl
              · exact absurd er c9
      · refine lv_tableIn (x := nI 1) (off := 99) (tgt := 131) hx hb dL_law_32 (by decide) (by decide) (by decide) (by decide) ?_
        refine lv_aload_n hx hb dL_law_131 rfl (lv_at hl 1 rfl) ?_
        refine lv_aload_n hx hb dL_law_132 rfl (lv_at hl 0 rfl) ?_
        refine lv_iload_n hx hb dL_law_133 rfl (lv_at hl 3 rfl) ?_
        refine lv_iconst (v := 1) hx hb dL_law_134 (by decide) ?_
        refine lv_iadd hx hb dL_law_135 ?_
        refine lsl hx hb hX hbl hbA hI.2.2.2.1 hL (nI_1 i) (by omega) dL_law_136 ?_
        refine lv_aload_n hx hb dL_law_137 rfl (lv_at hl 0 rfl) ?_
        refine lv_iload_n hx hb dL_law_138 rfl (lv_at hl 3 rfl) ?_
        refine lv_iconst (v := 2) hx hb dL_law_139 (by decide) ?_
        refine lv_iadd hx hb dL_law_140 ?_
        refine lsl hx hb hX hbl hbA hI.2.2.2.1 hL (nI_2 i) (by omega) dL_law_141 ?_
        refine wcall_i (n := 2) (wr := (mw cI cZ a2 (st, wt, mc, lv, ss, mb, vw, wo, mo, lk))) (rest := []) (kX0_read l D cI cZ a vo co ol fv fc nw cm op se be wr sn ow (xs (i + 1)) (xs (i + 2)) Cs F hs.1) C (lw_V q68 q69 q70 q12 q71) (by decide +kernel) ⟨by decide, by decide⟩ ⟨by decide, by decide⟩ rfl rfl hI rfl hl.1 rfl (Nat.le_of_ble_eq_true rfl) dL_law_142 (fun r1 u1 H locs hp1 hI => ?_)
        obtain ⟨sn', rfl, hp1⟩ := hp1
        refine lv_aload_n hx hb dL_law_145 rfl (lv_at hl 2 rfl) ?_
        refine lv_aload_n hx hb dL_law_146 rfl (lv_at hl 0 rfl) ?_
        refine lv_iload_n hx hb dL_law_147 rfl (lv_at hl 3 rfl) ?_
        refine lv_iconst (v := 1) hx hb dL_law_148 (by decide) ?_
        refine lv_iadd hx hb dL_law_149 ?_
        refine lsl hx hb hX hbl hbA hI.2.2.2.1 hL (nI_1 i) (by omega) dL_law_150 ?_
        refine lv_aload_n hx hb dL_law_151 rfl (lv_at hl 0 rfl) ?_
        refine lv_iload_n hx hb dL_law_152 rfl (lv_at hl 3 rfl) ?_
        refine lv_iconst (v := 2) hx hb dL_law_153 (by decide) ?_
        refine lv_iadd hx hb dL_law_154 ?_
        refine lsl hx hb hX hbl hbA hI.2.2.2.1 hL (nI_2 i) (by omega) dL_law_155 ?_
        refine wcall_i (n := 2) (wr := (xw cI cZ a (vo, co, ol, fv, fc, nw, cm, op, se, be, wr, sn', ow))) (rest := [.int r1]) (kX1_read l D cI cZ a2 st wt mc lv ss mb vw wo mo lk (xs (i + 1)) (xs (i + 2))) C (lw_V q186 q187 q188 q13 q189) (by decide +kernel) ⟨by decide, by decide⟩ ⟨by decide, by decide⟩ rfl rfl hI rfl hl.1 rfl (Nat.le_of_ble_eq_true rfl) dL_law_156 (fun r2 u2 H locs hp2 hI => ?_)
        obtain ⟨lk', rfl, hp2⟩ := hp2
        obtain ⟨er, hs'⟩ := sim_read hs hp1 hp2
        refine lv_icmp_eq (tgt := 409) hx hb dL_law_159 (by decide) (fun c9 => ?_) (fun c9 => ?_)
        · exact next _ _ _ _ _ _ _ _ _ _ _ _ _ _ _ _ _ _ _ _ _ _ _ _ _ H locs ls hs' hI hl
        · exact absurd er c9
      · refine lv_tableIn (x := nI 2) (off := 132) (tgt := 164) hx hb dL_law_32 (by decide) (by decide) (by decide) (by decide) ?_
        refine lv_aload_n hx hb dL_law_164 rfl (lv_at hl 1 rfl) ?_
        refine lv_aload_n hx hb dL_law_165 rfl (lv_at hl 0 rfl) ?_
        refine lv_iload_n hx hb dL_law_166 rfl (lv_at hl 3 rfl) ?_
        refine lv_iconst (v := 1) hx hb dL_law_167 (by decide) ?_
        refine lv_iadd hx hb dL_law_168 ?_
        refine lsl hx hb hX hbl hbA hI.2.2.2.1 hL (nI_1 i) (by omega) dL_law_169 ?_
        refine lv_aload_n hx hb dL_law_170 rfl (lv_at hl 0 rfl) ?_
        refine lv_iload_n hx hb dL_law_171 rfl (lv_at hl 3 rfl) ?_
        refine lv_iconst (v := 2) hx hb dL_law_172 (by decide) ?_
        refine lv_iadd hx hb dL_law_173 ?_
        refine lsl hx hb hX hbl hbA hI.2.2.2.1 hL (nI_2 i) (by omega) dL_law_174 ?_
        refine lv_aload_n hx hb dL_law_175 rfl (lv_at hl 0 rfl) ?_
        refine lv_iload_n hx hb dL_law_176 rfl (lv_at hl 3 rfl) ?_
        refine lv_iconst (v := 3) hx hb dL_law_177 (by decide) ?_
        refine lv_iadd hx hb dL_law_178 ?_
        refine lsl hx hb hX hbl hbA hI.2.2.2.1 hL (nI_3 i) (by omega) dL_law_179 ?_
        refine wcall_i (n := 3) (wr := (mw cI cZ a2 (st, wt, mc, lv, ss, mb, vw, wo, mo, lk))) (rest := []) (kX0_write l D cI cZ a vo co ol fv fc nw cm op se be wr sn ow (xs (i + 1)) (xs (i + 2)) (xs (i + 3)) ) C (lw_V q91 q92 q93 q12 q94) (by decide +kernel) ⟨by decide, by decide⟩ ⟨by decide, by decide⟩ rfl rfl hI rfl hl.1 rfl (Nat.le_of_ble_eq_true rfl) dL_law_180 (fun r1 u1 H locs hp1 hI => ?_)
        obtain ⟨wr', ow', rfl, hp1⟩ := hp1
        refine lv_aload_n hx hb dL_law_183 rfl (lv_at hl 2 rfl) ?_
        refine lv_aload_n hx hb dL_law_184 rfl (lv_at hl 0 rfl) ?_
        refine lv_iload_n hx hb dL_law_185 rfl (lv_at hl 3 rfl) ?_
        refine lv_iconst (v := 1) hx hb dL_law_186 (by decide) ?_
        refine lv_iadd hx hb dL_law_187 ?_
        refine lsl hx hb hX hbl hbA hI.2.2.2.1 hL (nI_1 i) (by omega) dL_law_188 ?_
        refine lv_aload_n hx hb dL_law_189 rfl (lv_at hl 0 rfl) ?_
        refine lv_iload_n hx hb dL_law_190 rfl (lv_at hl 3 rfl) ?_
        refine lv_iconst (v := 2) hx hb dL_law_191 (by decide) ?_
        refine lv_iadd hx hb dL_law_192 ?_
        refine lsl hx hb hX hbl hbA hI.2.2.2.1 hL (nI_2 i) (by omega) dL_law_193 ?_
        refine lv_aload_n hx hb dL_law_194 rfl (lv_at hl 0 rfl) ?_
        refine lv_iload_n hx hb dL_law_195 rfl (lv_at hl 3 rfl) ?_
        refine lv_iconst (v := 3) hx hb dL_law_196 (by decide) ?_
        refine lv_iadd hx hb dL_law_197 ?_
        refine lsl hx hb hX hbl hbA hI.2.2.2.1 hL (nI_3 i) (by omega) dL_law_198 ?_
        refine wcall_i (n := 3) (wr := (xw cI cZ a (vo, co, ol, fv, fc, nw, cm, op, se, be, wr', sn, ow'))) (rest := [.int r1]) (kX1_write l D cI cZ a2 st wt mc lv ss mb vw wo mo lk (xs (i + 1)) (xs (i + 2)) (xs (i + 3))) C (lw_V q201 q202 q203 q13 q204) (by decide +kernel) ⟨by decide, by decide⟩ ⟨by decide, by decide⟩ rfl rfl hI rfl hl.1 rfl (Nat.le_of_ble_eq_true rfl) dL_law_199 (fun r2 u2 H locs hp2 hI => ?_)
        obtain ⟨wo', mo', rfl, hp2⟩ := hp2
        obtain ⟨er, hs'⟩ := sim_write hs hp1 hp2
        refine lv_icmp_eq (tgt := 409) hx hb dL_law_202 (by decide) (fun c9 => ?_) (fun c9 => ?_)
        · exact next _ _ _ _ _ _ _ _ _ _ _ _ _ _ _ _ _ _ _ _ _ _ _ _ _ H locs ls hs' hI hl
        · exact absurd er c9
      · refine lv_tableIn (x := nI 3) (off := 175) (tgt := 207) hx hb dL_law_32 (by decide) (by decide) (by decide) (by decide) ?_
        refine lv_aload_n hx hb dL_law_207 rfl (lv_at hl 1 rfl) ?_
        refine lv_aload_n hx hb dL_law_208 rfl (lv_at hl 0 rfl) ?_
        refine lv_iload_n hx hb dL_law_209 rfl (lv_at hl 3 rfl) ?_
        refine lv_iconst (v := 1) hx hb dL_law_210 (by decide) ?_
        refine lv_iadd hx hb dL_law_211 ?_
        refine lsl hx hb hX hbl hbA hI.2.2.2.1 hL (nI_1 i) (by omega) dL_law_212 ?_
        refine lv_aload_n hx hb dL_law_213 rfl (lv_at hl 0 rfl) ?_
        refine lv_iload_n hx hb dL_law_214 rfl (lv_at hl 3 rfl) ?_
        refine lv_iconst (v := 2) hx hb dL_law_215 (by decide) ?_
        refine lv_iadd hx hb dL_law_216 ?_
        refine lsl hx hb hX hbl hbA hI.2.2.2.1 hL (nI_2 i) (by omega) dL_law_217 ?_
        refine lv_aload_n hx hb dL_law_218 rfl (lv_at hl 0 rfl) ?_
        refine lv_iload_n hx hb dL_law_219 rfl (lv_at hl 3 rfl) ?_
        refine lv_iconst (v := 3) hx hb dL_law_220 (by decide) ?_
        refine lv_iadd hx hb dL_law_221 ?_
        refine lsl hx hb hX hbl hbA hI.2.2.2.1 hL (nI_3 i) (by omega) dL_law_222 ?_
        refine wcall_i (n := 3) (wr := (mw cI cZ a2 (st, wt, mc, lv, ss, mb, vw, wo, mo, lk))) (rest := []) (kX0_add l D cI cZ a vo co ol fv fc nw cm op se be wr sn ow (xs (i + 1)) (xs (i + 2)) (xs (i + 3)) Cs F hs.1) C (lw_V q95 q96 q97 q12 q98) (by decide +kernel) ⟨by decide, by decide⟩ ⟨by decide, by decide⟩ rfl rfl hI rfl hl.1 rfl (Nat.le_of_ble_eq_true rfl) dL_law_223 (fun r1 u1 H locs hp1 hI => ?_)
        obtain ⟨wr', sn', ow', rfl, hp1⟩ := hp1
        refine lv_aload_n hx hb dL_law_226 rfl (lv_at hl 2 rfl) ?_
        refine lv_aload_n hx hb dL_law_227 rfl (lv_at hl 0 rfl) ?_
        refine lv_iload_n hx hb dL_law_228 rfl (lv_at hl 3 rfl) ?_
        refine lv_iconst (v := 1) hx hb dL_law_229 (by decide) ?_
        refine lv_iadd hx hb dL_law_230 ?_
        refine lsl hx hb hX hbl hbA hI.2.2.2.1 hL (nI_1 i) (by omega) dL_law_231 ?_
        refine lv_aload_n hx hb dL_law_232 rfl (lv_at hl 0 rfl) ?_
        refine lv_iload_n hx hb dL_law_233 rfl (lv_at hl 3 rfl) ?_
        refine lv_iconst (v := 2) hx hb dL_law_234 (by decide) ?_
        refine lv_iadd hx hb dL_law_235 ?_
        refine lsl hx hb hX hbl hbA hI.2.2.2.1 hL (nI_2 i) (by omega) dL_law_236 ?_
        refine lv_aload_n hx hb dL_law_237 rfl (lv_at hl 0 rfl) ?_
        refine lv_iload_n hx hb dL_law_238 rfl (lv_at hl 3 rfl) ?_
        refine lv_iconst (v := 3) hx hb dL_law_239 (by decide) ?_
        refine lv_iadd hx hb dL_law_240 ?_
        refine lsl hx hb hX hbl hbA hI.2.2.2.1 hL (nI_3 i) (by omega) dL_law_241 ?_
        refine wcall_i (n := 3) (wr := (xw cI cZ a (vo, co, ol, fv, fc, nw, cm, op, se, be, wr', sn', ow'))) (rest := [.int r1]) (kX1_add l D cI cZ a2 st wt mc lv ss mb vw wo mo lk (xs (i + 1)) (xs (i + 2)) (xs (i + 3))) C (lw_V q205 q206 q207 q13 q208) (by decide +kernel) ⟨by decide, by decide⟩ ⟨by decide, by decide⟩ rfl rfl hI rfl hl.1 rfl (Nat.le_of_ble_eq_true rfl) dL_law_242 (fun r2 u2 H locs hp2 hI => ?_)
        obtain ⟨wo', mo', lk', rfl, hp2⟩ := hp2
        obtain ⟨er, hs'⟩ := sim_add hs hp1 hp2
        refine lv_icmp_eq (tgt := 409) hx hb dL_law_245 (by decide) (fun c9 => ?_) (fun c9 => ?_)
        · exact next _ _ _ _ _ _ _ _ _ _ _ _ _ _ _ _ _ _ _ _ _ _ _ _ _ H locs ls hs' hI hl
        · exact absurd er c9
      · refine lv_tableIn (x := nI 4) (off := 218) (tgt := 250) hx hb dL_law_32 (by decide) (by decide) (by decide) (by decide) ?_
        refine lv_aload_n hx hb dL_law_250 rfl (lv_at hl 1 rfl) ?_
        refine lv_aload_n hx hb dL_law_251 rfl (lv_at hl 0 rfl) ?_
        refine lv_iload_n hx hb dL_law_252 rfl (lv_at hl 3 rfl) ?_
        refine lv_iconst (v := 1) hx hb dL_law_253 (by decide) ?_
        refine lv_iadd hx hb dL_law_254 ?_
        refine lsl hx hb hX hbl hbA hI.2.2.2.1 hL (nI_1 i) (by omega) dL_law_255 ?_
        refine wcall_i (n := 1) (wr := (mw cI cZ a2 (st, wt, mc, lv, ss, mb, vw, wo, mo, lk))) (rest := []) (kX0_commit l D cI cZ a vo co ol fv fc nw cm op se be wr sn ow (xs (i + 1)) Cs F hs.1 hs.2.1) C (lw_V q100 q101 q102 q12 q103) (by decide +kernel) ⟨by decide, by decide⟩ ⟨by decide, by decide⟩ rfl rfl hI rfl hl.1 rfl (Nat.le_of_ble_eq_true rfl) dL_law_256 (fun r1 u1 H locs hp1 hI => ?_)
        obtain ⟨vo', co', ol', fv', fc', nw', cm', op', rfl, hp1⟩ := hp1
        refine lv_aload_n hx hb dL_law_259 rfl (lv_at hl 2 rfl) ?_
        refine lv_aload_n hx hb dL_law_260 rfl (lv_at hl 0 rfl) ?_
        refine lv_iload_n hx hb dL_law_261 rfl (lv_at hl 3 rfl) ?_
        refine lv_iconst (v := 1) hx hb dL_law_262 (by decide) ?_
        refine lv_iadd hx hb dL_law_263 ?_
        refine lsl hx hb hX hbl hbA hI.2.2.2.1 hL (nI_1 i) (by omega) dL_law_264 ?_
        refine wcall_i (n := 1) (wr := (xw cI cZ a (vo', co', ol', fv', fc', nw', cm', op', se, be, wr, sn, ow))) (rest := [.int r1]) (kX1_commit l D cI cZ a2 st wt mc lv ss mb vw wo mo lk (xs (i + 1))) C (lw_V q211 q212 q213 q13 q214) (by decide +kernel) ⟨by decide, by decide⟩ ⟨by decide, by decide⟩ rfl rfl hI rfl hl.1 rfl (Nat.le_of_ble_eq_true rfl) dL_law_265 (fun r2 u2 H locs hp2 hI => ?_)
        obtain ⟨st', wt', mc', lv', rfl, hp2⟩ := hp2
        obtain ⟨er, Cs', F', hs'⟩ := sim_commit (by omega) hs hp1 hp2
        refine lv_icmp_eq (tgt := 409) hx hb dL_law_268 (by decide) (fun c9 => ?_) (fun c9 => ?_)
        · exact next _ _ _ _ _ _ _ _ _ _ _ _ _ _ _ _ _ _ _ _ _ _ _ _ _ H locs ls hs' hI hl
        · exact absurd er c9
      · refine lv_tableIn (x := nI 5) (off := 241) (tgt := 273) hx hb dL_law_32 (by decide) (by decide) (by decide) (by decide) ?_
        refine lv_aload_n hx hb dL_law_273 rfl (lv_at hl 1 rfl) ?_
        refine lv_aload_n hx hb dL_law_274 rfl (lv_at hl 0 rfl) ?_
        refine lv_iload_n hx hb dL_law_275 rfl (lv_at hl 3 rfl) ?_
        refine lv_iconst (v := 1) hx hb dL_law_276 (by decide) ?_
        refine lv_iadd hx hb dL_law_277 ?_
        refine lsl hx hb hX hbl hbA hI.2.2.2.1 hL (nI_1 i) (by omega) dL_law_278 ?_
        refine wcall_i (n := 1) (wr := (mw cI cZ a2 (st, wt, mc, lv, ss, mb, vw, wo, mo, lk))) (rest := []) (kX0_abort l D cI cZ a vo co ol fv fc nw cm op se be wr sn ow (xs (i + 1)) ) C (lw_V q124 q125 q126 q12 q127) (by decide +kernel) ⟨by decide, by decide⟩ ⟨by decide, by decide⟩ rfl rfl hI rfl hl.1 rfl (Nat.le_of_ble_eq_true rfl) dL_law_279 (fun r1 u1 H locs hp1 hI => ?_)
        obtain ⟨op', rfl, hp1⟩ := hp1
        refine lv_aload_n hx hb dL_law_282 rfl (lv_at hl 2 rfl) ?_
        refine lv_aload_n hx hb dL_law_283 rfl (lv_at hl 0 rfl) ?_
        refine lv_iload_n hx hb dL_law_284 rfl (lv_at hl 3 rfl) ?_
        refine lv_iconst (v := 1) hx hb dL_law_285 (by decide) ?_
        refine lv_iadd hx hb dL_law_286 ?_
        refine lsl hx hb hX hbl hbA hI.2.2.2.1 hL (nI_1 i) (by omega) dL_law_287 ?_
        refine wcall_i (n := 1) (wr := (xw cI cZ a (vo, co, ol, fv, fc, nw, cm, op', se, be, wr, sn, ow))) (rest := [.int r1]) (kX1_abort l D cI cZ a2 st wt mc lv ss mb vw wo mo lk (xs (i + 1))) C (lw_V q219 q220 q221 q13 q222) (by decide +kernel) ⟨by decide, by decide⟩ ⟨by decide, by decide⟩ rfl rfl hI rfl hl.1 rfl (Nat.le_of_ble_eq_true rfl) dL_law_288 (fun r2 u2 H locs hp2 hI => ?_)
        obtain ⟨lv', rfl, hp2⟩ := hp2
        obtain ⟨er, hs'⟩ := sim_abort hs hp1 hp2
        refine lv_icmp_eq (tgt := 409) hx hb dL_law_291 (by decide) (fun c9 => ?_) (fun c9 => ?_)
        · exact next _ _ _ _ _ _ _ _ _ _ _ _ _ _ _ _ _ _ _ _ _ _ _ _ _ H locs ls hs' hI hl
        · exact absurd er c9
      · refine lv_tableIn (x := nI 6) (off := 264) (tgt := 296) hx hb dL_law_32 (by decide) (by decide) (by decide) (by decide) ?_
        refine lv_aload_n hx hb dL_law_296 rfl (lv_at hl 1 rfl) ?_
        refine lv_aload_n hx hb dL_law_297 rfl (lv_at hl 0 rfl) ?_
        refine lv_iload_n hx hb dL_law_298 rfl (lv_at hl 3 rfl) ?_
        refine lv_iconst (v := 1) hx hb dL_law_299 (by decide) ?_
        refine lv_iadd hx hb dL_law_300 ?_
        refine lsl hx hb hX hbl hbA hI.2.2.2.1 hL (nI_1 i) (by omega) dL_law_301 ?_
        refine wcall_i (n := 1) (wr := (mw cI cZ a2 (st, wt, mc, lv, ss, mb, vw, wo, mo, lk))) (rest := []) (kX0_might l D cI cZ a vo co ol fv fc nw cm op se be wr sn ow (xs (i + 1)) Cs F hs.1) C (lw_V q128 q129 q130 q12 q131) (by decide +kernel) ⟨by decide, by decide⟩ ⟨by decide, by decide⟩ rfl rfl hI rfl hl.1 rfl (Nat.le_of_ble_eq_true rfl) dL_law_302 (fun r1 u1 H locs hp1 hI => ?_)
        obtain ⟨rfl, hp1⟩ := hp1
        refine lv_aload_n hx hb dL_law_305 rfl (lv_at hl 2 rfl) ?_
        refine lv_aload_n hx hb dL_law_306 rfl (lv_at hl 0 rfl) ?_
        refine lv_iload_n hx hb dL_law_307 rfl (lv_at hl 3 rfl) ?_
        refine lv_iconst (v := 1) hx hb dL_law_308 (by decide) ?_
        refine lv_iadd hx hb dL_law_309 ?_
        refine lsl hx hb hX hbl hbA hI.2.2.2.1 hL (nI_1 i) (by omega) dL_law_310 ?_
        refine wcall_i (n := 1) (wr := (xw cI cZ a (vo, co, ol, fv, fc, nw, cm, op, se, be, wr, sn, ow))) (rest := [.int r1]) (kX1_might l D cI cZ a2 st wt mc lv ss mb vw wo mo lk (xs (i + 1))) C (lw_V q223 q224 q225 q13 q226) (by decide +kernel) ⟨by decide, by decide⟩ ⟨by decide, by decide⟩ rfl rfl hI rfl hl.1 rfl (Nat.le_of_ble_eq_true rfl) dL_law_311 (fun r2 u2 H locs hp2 hI => ?_)
        obtain ⟨rfl, hp2⟩ := hp2
        have er : r1 = r2 := sim_might hs hp1 hp2
        have hs' := sim_up hs
        refine lv_icmp_eq (tgt := 409) hx hb dL_law_314 (by decide) (fun c9 => ?_) (fun c9 => ?_)
        · exact next _ _ _ _ _ _ _ _ _ _ _ _ _ _ _ _ _ _ _ _ _ _ _ _ _ H locs ls hs' hI hl
        · exact absurd er c9
      · refine lv_tableIn (x := nI 7) (off := 287) (tgt := 319) hx hb dL_law_32 (by decide) (by decide) (by decide) (by decide) ?_
        refine lv_aload_n hx hb dL_law_319 rfl (lv_at hl 1 rfl) ?_
        refine lv_aload_n hx hb dL_law_320 rfl (lv_at hl 0 rfl) ?_
        refine lv_iload_n hx hb dL_law_321 rfl (lv_at hl 3 rfl) ?_
        refine lv_iconst (v := 1) hx hb dL_law_322 (by decide) ?_
        refine lv_iadd hx hb dL_law_323 ?_
        refine lsl hx hb hX hbl hbA hI.2.2.2.1 hL (nI_1 i) (by omega) dL_law_324 ?_
        refine wcall_i (n := 1) (wr := (mw cI cZ a2 (st, wt, mc, lv, ss, mb, vw, wo, mo, lk))) (rest := []) (kX0_committed l D cI cZ a vo co ol fv fc nw cm op se be wr sn ow (xs (i + 1)) Cs F hs.1) C (lw_V q132 q133 q134 q12 q135) (by decide +kernel) ⟨by decide, by decide⟩ ⟨by decide, by decide⟩ rfl rfl hI rfl hl.1 rfl (Nat.le_of_ble_eq_true rfl) dL_law_325 (fun r1 u1 H locs hp1 hI => ?_)
        obtain ⟨rfl, hp1⟩ := hp1
        refine lv_aload_n hx hb dL_law_328 rfl (lv_at hl 2 rfl) ?_
        refine lv_aload_n hx hb dL_law_329 rfl (lv_at hl 0 rfl) ?_
        refine lv_iload_n hx hb dL_law_330 rfl (lv_at hl 3 rfl) ?_
        refine lv_iconst (v := 1) hx hb dL_law_331 (by decide) ?_
        refine lv_iadd hx hb dL_law_332 ?_
        refine lsl hx hb hX hbl hbA hI.2.2.2.1 hL (nI_1 i) (by omega) dL_law_333 ?_
        refine wcall_i (n := 1) (wr := (xw cI cZ a (vo, co, ol, fv, fc, nw, cm, op, se, be, wr, sn, ow))) (rest := [.int r1]) (kX1_committed l D cI cZ a2 st wt mc lv ss mb vw wo mo lk (xs (i + 1))) C (lw_V q227 q228 q229 q13 q230) (by decide +kernel) ⟨by decide, by decide⟩ ⟨by decide, by decide⟩ rfl rfl hI rfl hl.1 rfl (Nat.le_of_ble_eq_true rfl) dL_law_334 (fun r2 u2 H locs hp2 hI => ?_)
        obtain ⟨rfl, hp2⟩ := hp2
        have er : r1 = r2 := sim_comd hs hp1 hp2
        have hs' := sim_up hs
        refine lv_icmp_eq (tgt := 409) hx hb dL_law_337 (by decide) (fun c9 => ?_) (fun c9 => ?_)
        · exact next _ _ _ _ _ _ _ _ _ _ _ _ _ _ _ _ _ _ _ _ _ _ _ _ _ H locs ls hs' hI hl
        · exact absurd er c9
      · refine lv_tableIn (x := nI 8) (off := 310) (tgt := 342) hx hb dL_law_32 (by decide) (by decide) (by decide) (by decide) ?_
        refine lv_aload_n hx hb dL_law_342 rfl (lv_at hl 1 rfl) ?_
        refine lv_aload_n hx hb dL_law_343 rfl (lv_at hl 0 rfl) ?_
        refine lv_iload_n hx hb dL_law_344 rfl (lv_at hl 3 rfl) ?_
        refine lv_iconst (v := 1) hx hb dL_law_345 (by decide) ?_
        refine lv_iadd hx hb dL_law_346 ?_
        refine lsl hx hb hX hbl hbA hI.2.2.2.1 hL (nI_1 i) (by omega) dL_law_347 ?_
        refine lv_aload_n hx hb dL_law_348 rfl (lv_at hl 0 rfl) ?_
        refine lv_iload_n hx hb dL_law_349 rfl (lv_at hl 3 rfl) ?_
        refine lv_iconst (v := 2) hx hb dL_law_350 (by decide) ?_
        refine lv_iadd hx hb dL_law_351 ?_
        refine lsl hx hb hX hbl hbA hI.2.2.2.1 hL (nI_2 i) (by omega) dL_law_352 ?_
        refine lv_aload_n hx hb dL_law_353 rfl (lv_at hl 0 rfl) ?_
        refine lv_iload_n hx hb dL_law_354 rfl (lv_at hl 3 rfl) ?_
        refine lv_iconst (v := 3) hx hb dL_law_355 (by decide) ?_
        refine lv_iadd hx hb dL_law_356 ?_
        refine lsl hx hb hX hbl hbA hI.2.2.2.1 hL (nI_3 i) (by omega) dL_law_357 ?_
        refine wcall_i (n := 3) (wr := (mw cI cZ a2 (st, wt, mc, lv, ss, mb, vw, wo, mo, lk))) (rest := []) (kX0_sum l D cI cZ a vo co ol fv fc nw cm op se be wr sn ow (xs (i + 1)) (xs (i + 2)) (xs (i + 3)) Cs F hs.1) C (lw_V q136 q137 q138 q12 q139) (by decide +kernel) ⟨by decide, by decide⟩ ⟨by decide, by decide⟩ rfl rfl hI rfl hl.1 rfl (Nat.le_of_ble_eq_true rfl) dL_law_358 (fun r1 u1 H locs hp1 hI => ?_)
        obtain ⟨rfl, hp1⟩ := hp1
        refine lv_aload_n hx hb dL_law_361 rfl (lv_at hl 2 rfl) ?_
        refine lv_aload_n hx hb dL_law_362 rfl (lv_at hl 0 rfl) ?_
        refine lv_iload_n hx hb dL_law_363 rfl (lv_at hl 3 rfl) ?_
        refine lv_iconst (v := 1) hx hb dL_law_364 (by decide) ?_
        refine lv_iadd hx hb dL_law_365 ?_
        refine lsl hx hb hX hbl hbA hI.2.2.2.1 hL (nI_1 i) (by omega) dL_law_366 ?_
        refine lv_aload_n hx hb dL_law_367 rfl (lv_at hl 0 rfl) ?_
        refine lv_iload_n hx hb dL_law_368 rfl (lv_at hl 3 rfl) ?_
        refine lv_iconst (v := 2) hx hb dL_law_369 (by decide) ?_
        refine lv_iadd hx hb dL_law_370 ?_
        refine lsl hx hb hX hbl hbA hI.2.2.2.1 hL (nI_2 i) (by omega) dL_law_371 ?_
        refine lv_aload_n hx hb dL_law_372 rfl (lv_at hl 0 rfl) ?_
        refine lv_iload_n hx hb dL_law_373 rfl (lv_at hl 3 rfl) ?_
        refine lv_iconst (v := 3) hx hb dL_law_374 (by decide) ?_
        refine lv_iadd hx hb dL_law_375 ?_
        refine lsl hx hb hX hbl hbA hI.2.2.2.1 hL (nI_3 i) (by omega) dL_law_376 ?_
        refine wcall_i (n := 3) (wr := (xw cI cZ a (vo, co, ol, fv, fc, nw, cm, op, se, be, wr, sn, ow))) (rest := [.int r1]) (kX1_sum l D cI cZ a2 st wt mc lv ss mb vw wo mo lk (xs (i + 1)) (xs (i + 2)) (xs (i + 3))) C (lw_V q231 q232 q233 q13 q234) (by decide +kernel) ⟨by decide, by decide⟩ ⟨by decide, by decide⟩ rfl rfl hI rfl hl.1 rfl (Nat.le_of_ble_eq_true rfl) dL_law_377 (fun r2 u2 H locs hp2 hI => ?_)
        obtain ⟨rfl, hp2⟩ := hp2
        have er : r1 = r2 := sim_sum hs hp1 hp2
        have hs' := sim_up hs
        refine lv_icmp_eq (tgt := 409) hx hb dL_law_380 (by decide) (fun c9 => ?_) (fun c9 => ?_)
        · exact next _ _ _ _ _ _ _ _ _ _ _ _ _ _ _ _ _ _ _ _ _ _ _ _ _ H locs ls hs' hI hl
        · exact absurd er c9
      · refine lv_tableIn (x := nI 9) (off := 353) (tgt := 385) hx hb dL_law_32 (by decide) (by decide) (by decide) (by decide) ?_
        refine lv_aload_n hx hb dL_law_385 rfl (lv_at hl 1 rfl) ?_
        refine wcall_v (n := 0) (wr := (mw cI cZ a2 (st, wt, mc, lv, ss, mb, vw, wo, mo, lk))) (rest := []) (kX0_tidy l D cI cZ a vo co ol fv fc nw cm op se be wr sn ow Cs F hs.1) C (lw_V q140 q113 q114 q12 q115) (by decide +kernel) ⟨by decide, by decide⟩ ⟨by decide, by decide⟩ rfl rfl hI rfl hl.1 rfl (Nat.le_of_ble_eq_true rfl) dL_law_386 (fun u1 H locs hp1 hI => ?_)
        obtain ⟨ol', fv', fc', rfl, hp1⟩ := hp1
        refine lv_aload_n hx hb dL_law_389 rfl (lv_at hl 2 rfl) ?_
        refine wcall_v (n := 0) (wr := (xw cI cZ a (vo, co, ol', fv', fc', nw, cm, op, se, be, wr, sn, ow))) (rest := []) (kX1_tidy l D cI cZ a2 st wt mc lv ss mb vw wo mo lk ) C (lw_V q235 q236 q237 q13 q238) (by decide +kernel) ⟨by decide, by decide⟩ ⟨by decide, by decide⟩ rfl rfl hI rfl hl.1 rfl (Nat.le_of_ble_eq_true rfl) dL_law_390 (fun u2 H locs hp2 hI => ?_)
        subst hp2
        obtain ⟨Cs', F', hs'⟩ := sim_tidy hs hp1
        refine lv_goto (tgt := 409) hx hb dL_law_393 (by decide) ?_
        exact next _ _ _ _ _ _ _ _ _ _ _ _ _ _ _ _ _ _ _ _ _ _ _ _ _ H locs ls hs' hI hl
      · refine lv_tableIn (x := nI 10) (off := 364) (tgt := 396) hx hb dL_law_32 (by decide) (by decide) (by decide) (by decide) ?_
        refine lv_aload_n hx hb dL_law_396 rfl (lv_at hl 1 rfl) ?_
        refine wcall_i (n := 0) (wr := (mw cI cZ a2 (st, wt, mc, lv, ss, mb, vw, wo, mo, lk))) (rest := []) (kX0_open l D cI cZ a vo co ol fv fc nw cm op se be wr sn ow ) C (lw_V q141 q142 q143 q12 q144) (by decide +kernel) ⟨by decide, by decide⟩ ⟨by decide, by decide⟩ rfl rfl hI rfl hl.1 rfl (Nat.le_of_ble_eq_true rfl) dL_law_397 (fun r1 u1 H locs hp1 hI => ?_)
        obtain ⟨rfl, hp1⟩ := hp1
        refine lv_aload_n hx hb dL_law_400 rfl (lv_at hl 2 rfl) ?_
        refine wcall_i (n := 0) (wr := (xw cI cZ a (vo, co, ol, fv, fc, nw, cm, op, se, be, wr, sn, ow))) (rest := [.int r1]) (kX1_open l D cI cZ a2 st wt mc lv ss mb vw wo mo lk ) C (lw_V q239 q240 q241 q13 q242) (by decide +kernel) ⟨by decide, by decide⟩ ⟨by decide, by decide⟩ rfl rfl hI rfl hl.1 rfl (Nat.le_of_ble_eq_true rfl) dL_law_401 (fun r2 u2 H locs hp2 hI => ?_)
        obtain ⟨rfl, hp2⟩ := hp2
        have er : r1 = r2 := by rw [hp1, hp2]; exact sim_no hs
        have hs' := sim_up hs
        refine lv_icmp_eq (tgt := 409) hx hb dL_law_404 (by decide) (fun c9 => ?_) (fun c9 => ?_)
        · exact next _ _ _ _ _ _ _ _ _ _ _ _ _ _ _ _ _ _ _ _ _ _ _ _ _ H locs ls hs' hI hl
        · exact absurd er c9
      · refine lv_tableOut (tgt := 409) hx hb dL_law_32 (Or.inr (by rw [nI_toInt (by omega)]; omega)) (by decide) ?_
        exact next _ _ _ _ _ _ _ _ _ _ _ _ _ _ _ _ _ _ _ _ _ _ _ Cs F H locs ls (sim_up hs) hI hl
set_option maxHeartbeats 8000000 in
/-- from the entry, for every script of at most 256 ints, the law comes to its end with true -/
theorem whole_start {p : Program} {e : Env} {s : State} {m : MethodId} {below : List Frame} {meth : Method} {c : Code} (l : Launch) {b L : Nat} {xs : Nat → Int32} (hL : L ≤ 256) (C0 : lw_At p s m meth c b L xs) : W p l e room_1 s m #[Value.ref b] below meth c s.heap [] 0 0 (lw_Z below #[Value.ref b] s) (entryFrame m ([Value.ref b] : List Value).toArray 4) := by
  obtain ⟨hx, hb, hr, hml, hown, hts0, hX, hbl, hlocks, hgv⟩ := id C0
  have hts : ∀ w ∈ lw_all, w.before #[Value.ref b] s = true := fun w h => hts0 w (lw_all_tbl h)
  have C : CallFix p m c code 4 s #[Value.ref b] lw_all R_law := ⟨hx, hb, hml, hown, hts⟩
  have hA : ∀ q : Nat, s.heap.size ≤ q → (fun q : Nat => s.heap.size ≤ q) q := fun _ h => h
  obtain ⟨c0_, iS0, hKn0⟩ := u_known (C := RX0) (T := TX0) (N := 13) (n := 13) hts0 (fun w h => lw_all_tbl (in_X0 w h)) (hts _ q15)
  obtain ⟨c1_, iS1, hKn1⟩ := u_known (C := RX1) (T := TX1) (N := 10) (n := 10) hts0 (fun w h => lw_all_tbl (in_X1 w h)) (hts _ q146)
  obtain ⟨D, hKc⟩ : ∃ D : va_G, ∀ (k : Nat) (q : vw_C), cl_[k]? = some q → u_Kn s q.1 q.2.1 q.2.2 (D.1 k) (D.2 k) := by
    refine ⟨(fun k => if k = 0 then c0_ else c1_, fun k => if k = 0 then iS0 else iS1), ?_⟩
    intro k q hq
    match k, hq with
    | 0, hq => cases hq; exact hKn0
    | 1, hq => cases hq; exact hKn1
    | k + 2, hq => simp [cl_] at hq
  have hS : va_S (fun q : Nat => s.heap.size ≤ q) s.heap s.heap [] := va_S.rf
  have hK : va_K D cl_ [] s := ⟨hKc, fun k q h => by simp at h⟩
  have hP : va_P D cl_ [] s.heap := fun k q h => by simp at h
  have hD : va_D (fun q : Nat => s.heap.size ≤ q) [] := ⟨fun i j p q h => by simp at h, fun k q h => by simp at h⟩
  have hl := lv_entry ([.ref b]) (n := 4) (Nat.le_of_ble_eq_true rfl)
  rw [lg_entry_eq]
  generalize (lg_sl ([.ref b]) ++ List.replicate (4 - (lg_sl ([.ref b])).length) Slot.unset).toArray = ls at hl ⊢
  have hl : lv_has ls 4 [(0, .ref b)] := hl
  refine va_new (ci := 0) (fs := [.null, .null, .null, .int 0, .int 0, .null, .int 0, .null, .null, .null, .null, .null, .null]) (C := RX0) (T := TX0) (N := 13) hx hb hts in_X0 tyX0 tyX0_ok hown (hts _ q14) (hts _ q15) (hts _ q12) hK hP hD hS hA rfl (by decide) (Nat.le_of_ble_eq_true rfl) (Nat.le_of_ble_eq_true rfl) dL_law_0 (fun h0 H hP hD hS => ?_)
  have hP : va_P D cl_ [(h0, .inr (0, [.null, .null, .null, .int 0, .int 0, .null, .int 0, .null, .null, .null, .null, .null, .null]))] H := hP
  have hD : va_D (fun q : Nat => s.heap.size ≤ q) [(h0, .inr (0, [.null, .null, .null, .int 0, .int 0, .null, .int 0, .null, .null, .null, .null, .null, .null]))] := hD
  refine W.widen (k := 1) (n := 13) (by omega) (by omega) ?_
  refine lv_dup hx hb dL_law_3 rfl ?_
  have hFc := va_free (wc := [(h0, .inr (0, [.null, .null, .null, .int 0, .int 0, .null, .int 0, .null, .null, .null, .null, .null, .null]))]) hD hS hA [0] rfl
  refine va_callv (va_runI (As := []) (rest := [.ref h0]) C (kX0_init l D h0 H.size) (cwI 0 hts (lw_meth q18) rfl rfl rfl (hts _ q12) (hts _ q16) (hts _ q17) rfl (by decide +kernel) ⟨Nat.le_of_ble_eq_true rfl, Nat.le_of_ble_eq_true rfl⟩) ⟨fun a U g mk q => by obtain ⟨q0, q1, qP, qK, qD⟩ := q; exact ⟨q0, q1, qP, va_K.moved (u := U) (U := U.calling g mk a) (Vm.Alike.refl U.vm) qK, qD⟩, fun U hU hW => ⟨rfl, by rw [hU], by rw [hU]; exact hP, va_K.moved hW.alike hK, hD.weaken (fun _ _ _ _ => trivial)⟩⟩ rfl rfl hl.1 rfl (lv_room (Nat.le_of_ble_eq_true rfl)) dL_law_4 ⟨Nat.le_of_ble_eq_true rfl, Nat.le_of_ble_eq_true rfl⟩) hS (fun q _ h => hFc q h) hFc (fun u t H1 locs ht hvm hw hB hz1 hk1 hS => ?_)
  obtain ⟨cI, cZ, a, z⟩ := u
  obtain ⟨ha0, ol, nw, hz, hol, hnw⟩ := hw
  dsimp only at ha0 hz hB
  subst hz
  subst ha0
  obtain ⟨hP1, hK1, hD1⟩ := hB
  rw [ht] at hP1
  have hK := va_K.moved hvm.symm hK1
  have hI : wI D cI cZ (fun q : Nat => s.heap.size ≤ q) s (xw cI cZ a (fun _ => 0, fun _ => 0, ol, 0, nI 144, nw, 0, fun _ => 0, fun _ => 0, fun _ => 0, fun _ => 0, fun _ => 0, fun _ => 0)) H1 locs := ⟨hK, hP1, hD1.weaken (fun k q _ h => hFc q.1 h), hS, hA⟩
  refine W.widen (k := 11) (n := 587) (by omega) (by omega) ?_
  refine lv_astore_n (lv' := [(1, .ref (a 0)), (0, .ref b)]) hx hb dL_law_7 rfl hl (by decide) rfl (fun ls hl => ?_)
  refine va_new (ci := 1) (fs := [.null, .null, .int 0, .null, .null, .null, .null, .null, .null, .null]) (C := RX1) (T := TX1) (N := 10) hx hb hts in_X1 tyX1 tyX1_ok hown (hts _ q145) (hts _ q146) (hts _ q13) hI.1 hI.2.1 hI.2.2.1 hI.2.2.2.1 hA rfl (by decide) (Nat.le_of_ble_eq_true rfl) (Nat.le_of_ble_eq_true rfl) dL_law_8 (fun h2 H hP hD hS => ?_)
  have hI : wI D cI cZ (fun q : Nat => s.heap.size ≤ q) s ([(h2, .inr (1, [.null, .null, .int 0, .null, .null, .null, .null, .null, .null, .null]))] ++ xw cI cZ a (fun _ => 0, fun _ => 0, ol, 0, nI 144, nw, 0, fun _ => 0, fun _ => 0, fun _ => 0, fun _ => 0, fun _ => 0, fun _ => 0)) H locs := wI.swap ⟨hI.1, hP, hD, hS, hA⟩
  refine W.widen (k := 12) (n := 597) (by omega) (by omega) ?_
  refine lv_dup hx hb dL_law_11 rfl ?_
  obtain ⟨hPc, hDc⟩ := hI.fst
  have hFc := hI.free
  refine va_callv (va_runI (As := []) (rest := [.ref h2]) C (kX1_init l D h2 H.size) (cwI 0 hts (lw_meth q149) rfl rfl rfl (hts _ q13) (hts _ q147) (hts _ q148) rfl (by decide +kernel) ⟨Nat.le_of_ble_eq_true rfl, Nat.le_of_ble_eq_true rfl⟩) ⟨fun a U g mk q => by obtain ⟨q0, q1, qP, qK, qD⟩ := q; exact ⟨q0, q1, qP, va_K.moved (u := U) (U := U.calling g mk a) (Vm.Alike.refl U.vm) qK, qD⟩, fun U hU hW => ⟨rfl, by rw [hU], by rw [hU]; exact hPc, va_K.moved hW.alike (hI.1.sub [] rfl), hDc⟩⟩ rfl rfl hl.1 rfl (lv_room (Nat.le_of_ble_eq_true rfl)) dL_law_12 ⟨Nat.le_of_ble_eq_true rfl, Nat.le_of_ble_eq_true rfl⟩) hI.2.2.2.1 (fun q _ h => hFc q h) hFc (fun u t H1 locs ht hvm hw hB hz1 hk1 hS => ?_)
  obtain ⟨cI2, cZ2, a2, z⟩ := u
  obtain ⟨ha0, hz⟩ := hw
  dsimp only at ha0 hz hB
  subst hz
  subst ha0
  obtain ⟨hP1, hK1, hD1⟩ := hB
  rw [ht] at hP1
  have hK2 := hI.1.app (va_K.moved hvm.symm hK1)
  have eI : cI = cI2 := hK2.sameI (i := 0) (j := 2) rfl rfl
  have eZ : cZ = cZ2 := hK2.sameZ (i := 1) (j := 3) rfl rfl
  subst eI
  subst eZ
  have hI := hI.join hk1 hP1 hD1 hS
  refine W.widen (k := 21) (n := 1031) (by omega) (by omega) ?_
  refine lv_astore_n (lv' := [(2, .ref (a2 0)), (1, .ref (a 0)), (0, .ref b)]) hx hb dL_law_15 rfl hl (by decide) rfl (fun ls hl => ?_)
  refine lv_iconst (v := nI 0) hx hb dL_law_16 (by decide) ?_
  refine lv_istore_n (lv' := [(3, .int (nI 0)), (2, .ref (a2 0)), (1, .ref (a 0)), (0, .ref b)]) hx hb dL_law_17 rfl hl (by decide) rfl (fun ls hl => ?_)
  exact law_loop hL C0 (L + 1) 0 _ _ _ _ _ _ _ _ _ _ _ _ _ _ _ _ _ _ _ _ _ _ _ (fun _ => []) (rg 0 144) H1 locs ls (by omega) (by omega) (sim_0 hol hnw) hI (lv_sub hl [3, 2, 1, 0] rfl)
end
section
set_option maxRecDepth 100000
-- ===== YOUR PART ENDS =====
set_option maxHeartbeats 4000000 in
theorem lw_walk (l : Launch) (b : Addr) (xs : List Int32) : MetFree l x (headSpec (Jvm.Cond.code x code maxLocals ret :: tables_1) room_1) (lw_P b xs) (fun _ _ _ _ _ => True) lw_Q := by
  refine MetFree.of_bodyS (code := code) (maxLocals := maxLocals) (ret := ret) (by decide) ?_ ?_
  · intro args s m h hn
    obtain ⟨meth, c, h1, h2, h3, h4, h5, h6, -, -⟩ := Cond.code_spec hn (atoms_spec (ws := Jvm.Cond.code x code maxLocals ret :: tables_1) h _ List.mem_cons_self)
    exact ⟨meth, c, h1, h2, h3, h4, h5, h6⟩
  · intro p e s m args below meth c s₁ B hml0 hP _
    obtain ⟨rfl, hx, hbd, hgv⟩ := hP
    obtain ⟨scr, harrAt, hlist, hof, hsmall⟩ := hx
    obtain ⟨hcb, hkn, -, -⟩ := State.arrayAt?_spec harrAt
    have hown : s.vm.findClass R_law = some m.cls := findClass_of_methodNamed B.named
    have hts0 : ∀ c ∈ (Jvm.Cond.code x code maxLocals ret :: tables_1), c.before #[Value.ref b] s = true := atoms_spec (ws := Jvm.Cond.code x code maxLocals ret :: tables_1) B.pre
    have hts : ∀ w ∈ lw_tbl, w.before #[Value.ref b] s = true := k2_hts_sels lw_privs (fun w hw => hts0 w (List.mem_cons_of_mem _ hw)) lw_privs_ok
    have hml : c.maxLocals = 4 := B.maxLocals_eq (hts0 _ List.mem_cons_self)
    have X₀ : Stand p l e room_1 s m #[Value.ref b] below meth c s₁ [] 0 0 := Stand.of_body B
    have hh0 : s₁.heap = s.heap := by rw [B.state]; rfl
    have hsz : scr.slots.size = xs.length := by rw [← Array.length_toList, hlist, List.length_map]
    have hval : ∀ j : Nat, j < xs.length → scr.slots[j]? = some (.int (xs.getD j 0)) := fun j hj => by
      rw [← Array.getElem?_toList, hlist]
      simp [hj]
    have hbl : b < s.heap.size := (Array.getElem?_eq_some_iff.mp hcb).1
    have hX : va_X b xs.length (fun j => xs.getD j 0) s s.heap := ⟨scr, hcb, hof, hkn, hsz, hval⟩
    have K : W p l e room_1 s m #[Value.ref b] below meth c s₁.heap [] 0 0 (lw_Z below #[Value.ref b] s) (entryFrame m ([Value.ref b] : List Value).toArray 4) := by
      rw [hh0]
      exact whole_start l hbd ⟨B.exec, B.bytes, B.returns, hml, hown, hts, hX, hbl, B.notSynchronized, hgv⟩
    obtain ⟨t, a1, o, b1, b2, b3⟩ := K s₁ rfl X₀
    exact ⟨t, o, a1, b1, b2, b3⟩
theorem lw_pre_spec {args : Array Value} {s : State} (h : (Jvm.Cond.and given_1 narrow_1).before args s = true) (hr : rest_1_c.before args s = true) : ∃ (b : Addr) (xs : List Int32), lw_P b xs args s := by
  have hs := flat_of_before _ h
  have hq := flat_of_before _ hr
  have hc : (Cond.count 1).before args s = true := hs _ (by decide +kernel)
  have harr : (Cond.arrayOf (.arg 0) .int).before args s = true := hs _ (by decide +kernel)
  have hle : (Cond.le (.length (.arg 0)) (.int 256)).before args s = true := hs _ (by decide +kernel)
  have hlen : (Cond.isInt (.length (.arg 0))).before args s = true := hq _ (by decide +kernel)
  have hall : (Cond.all (.arg 0) (.isInt (.elem (.arg 0) (.index 0)))).before args s = true := hq _ (by decide +kernel)
  obtain ⟨b, xs, hb, hx⟩ := State.ints_of_pre rfl harr hlen hall
  have hsm : xs.length < 2 ^ 31 := hx.choose_spec.2.2.2
  have hev : (Term.length (.arg 0)).eval args s none [] s = some (.int xs.length.toInt32) := hx.length_eval hb
  have hv := Cond.le_ints hev (show (Term.int 256).eval args s none [] s = some (.int 256) from rfl)
  have hd : xs.length.toInt32 ≤ 256 := by
    simpa [Cond.before, Cond.holds, hv] using hle
  have hN : xs.length ≤ 256 := (Int32.ofNat_le_ofNat hsm (by decide)).mp (show Int32.ofNat xs.length ≤ Int32.ofNat 256 from hd)
  exact ⟨b, xs, Cond.one_arg hc (show args[0]? = some (.ref b) from hb), hx, hN, h⟩
theorem lw_comes (l : Launch) : Comes l x (Jvm.Cond.code x code maxLocals ret :: tables_1) room_1 (fun tb e args s => Calls_1 tb e args s ∧ rest_1 tb e args s ∧ Pre_1 tb e args s)
    (fun _ _ args s o t => lw_Q args s o t) := by
  intro p e ha hc hk s m args below hf hfit hheap happ hpre
  obtain ⟨b, xs, hP⟩ := lw_pre_spec hpre.2.2 hpre.2.1
  obtain ⟨k, o, h1, h2, h3, hQ⟩ := lw_walk l b xs p e ha hc hk s m args below hf ((Spec.applies_iff_loose hf).mp happ).1 hP trivial
  exact ⟨k, o, h1, h2, h3, hQ⟩
theorem lw_frame {s t : State} {o : Outcome} {args : Array Value} (h : Framed s o t [] 600000 7290000) :
    Framed s o t (fieldLocs frame_1_writes args s ++ arrayLocs frame_1_arrays args s ++ staticLocs frame_1_statics s) 600000 7290000 := h
theorem lw_limb (L : Cond) (hL : ∀ (args : Array Value) (s t : State), L.after args s (.returned (some (.int 1))) t = true) :
    ArmFor flags0 classFile x code maxLocals ret World_1 tables_1 room_1 Calls_1 rest_1 Pre_1
      (fun tb e a s o t => postC L tb e a s o t ∧ Framed s o t (fieldLocs frame_1_writes a s ++ arrayLocs frame_1_arrays a s ++ staticLocs frame_1_statics s) 600000 7290000) := by
  intro l _ _ _ p e ha hc hk s m args below hf hfit hheap happ hpre
  obtain ⟨k, o, h1, h2, h3, rfl, hF⟩ := lw_comes l p e ha hc hk s m args below hf hfit hheap happ hpre
  exact ⟨k, _, h1, h2, h3, hL args s _, lw_frame hF⟩
theorem i_vc : Claimed_1_1 ∧ Claimed_1_2 := ⟨lw_limb limb_1_1 (fun args s t => by simp [limb_1_1, Cond.after, Cond.holds, Cond.value]), lw_limb limb_1_2 (fun args s t => Cond.after_iff.mpr (by
  first | (rw [show limb_1_2 = Cond.eq .result (.int 1) from rfl, Cond.eq_ints (x := 1) (y := 1) rfl rfl]; simp; done) | (simp [limb_1_2, Cond.value, Term.eval]; done)))⟩
end
