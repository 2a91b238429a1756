section
-- ===== PART A: goes FIRST, ahead of the names: the tables' words, and 'selects' of the private methods out of them =====
/-- a private method of a class that the tables say can be made, by its rows of tables_1 -/
def lw_okq (q : MethodName × Nat) : Prop := (q.1.cls ≠ "java/lang/invoke/MethodHandle" ∧ q.1.cls ≠ "java/lang/invoke/VarHandle") ∧ Cond.instantiable q.1.cls q.2 ∈ tables_1 ∧ Cond.privateMethod q.1 ∈ tables_1 ∧ Cond.instanceMethod q.1 ∈ tables_1
set_option maxRecDepth 100000
theorem lw_p0 : lw_okq (⟨"GrantLedger", "earliest", "(II)I"⟩, 11) := ⟨⟨by decide +kernel, by decide +kernel⟩, List.mem_of_getElem? (i := 4) rfl, List.mem_of_getElem? (i := 58) rfl, List.mem_of_getElem? (i := 59) rfl⟩
theorem lw_p1 : lw_okq (⟨"GrantLedger", "mark", "(III)V"⟩, 11) := ⟨⟨by decide +kernel, by decide +kernel⟩, List.mem_of_getElem? (i := 4) rfl, List.mem_of_getElem? (i := 66) rfl, List.mem_of_getElem? (i := 67) rfl⟩
theorem lw_p2 : lw_okq (⟨"GrantLedger", "clearMarks", "()V"⟩, 11) := ⟨⟨by decide +kernel, by decide +kernel⟩, List.mem_of_getElem? (i := 4) rfl, List.mem_of_getElem? (i := 70) rfl, List.mem_of_getElem? (i := 71) rfl⟩
theorem lw_p3 : lw_okq (⟨"GrantLedger", "letFall", "(I)V"⟩, 11) := ⟨⟨by decide +kernel, by decide +kernel⟩, List.mem_of_getElem? (i := 4) rfl, List.mem_of_getElem? (i := 74) rfl, List.mem_of_getElem? (i := 75) rfl⟩
theorem lw_p4 : lw_okq (⟨"GrantLedger", "spread", "()V"⟩, 11) := ⟨⟨by decide +kernel, by decide +kernel⟩, List.mem_of_getElem? (i := 4) rfl, List.mem_of_getElem? (i := 78) rfl, List.mem_of_getElem? (i := 79) rfl⟩
theorem lw_p5 : lw_okq (⟨"GrantLedger", "review", "(II)V"⟩, 11) := ⟨⟨by decide +kernel, by decide +kernel⟩, List.mem_of_getElem? (i := 4) rfl, List.mem_of_getElem? (i := 82) rfl, List.mem_of_getElem? (i := 83) rfl⟩
theorem lw_p6 : lw_okq (⟨"GrantLedger", "sweep", "()I"⟩, 11) := ⟨⟨by decide +kernel, by decide +kernel⟩, List.mem_of_getElem? (i := 4) rfl, List.mem_of_getElem? (i := 86) rfl, List.mem_of_getElem? (i := 87) rfl⟩
theorem lw_p7 : lw_okq (⟨"GrantLedgerModel", "settle", "()I"⟩, 8) := ⟨⟨by decide +kernel, by decide +kernel⟩, List.mem_of_getElem? (i := 123) rfl, List.mem_of_getElem? (i := 176) rfl, List.mem_of_getElem? (i := 177) rfl⟩
theorem lw_p8 : lw_okq (⟨"GrantLedgerModel", "founded", "(I)Z"⟩, 8) := ⟨⟨by decide +kernel, by decide +kernel⟩, List.mem_of_getElem? (i := 123) rfl, List.mem_of_getElem? (i := 180) rfl, List.mem_of_getElem? (i := 181) rfl⟩
theorem lw_p9 : lw_okq (⟨"GrantLedgerModel", "drop", "()V"⟩, 8) := ⟨⟨by decide +kernel, by decide +kernel⟩, List.mem_of_getElem? (i := 123) rfl, List.mem_of_getElem? (i := 184) rfl, List.mem_of_getElem? (i := 185) rfl⟩
def lw_privs_1 : List (MethodName × Nat) := [(⟨"GrantLedger", "earliest", "(II)I"⟩, 11), (⟨"GrantLedger", "mark", "(III)V"⟩, 11), (⟨"GrantLedger", "clearMarks", "()V"⟩, 11), (⟨"GrantLedger", "letFall", "(I)V"⟩, 11), (⟨"GrantLedger", "spread", "()V"⟩, 11), (⟨"GrantLedger", "review", "(II)V"⟩, 11), (⟨"GrantLedger", "sweep", "()I"⟩, 11), (⟨"GrantLedgerModel", "settle", "()I"⟩, 8), (⟨"GrantLedgerModel", "founded", "(I)Z"⟩, 8), (⟨"GrantLedgerModel", "drop", "()V"⟩, 8)]
theorem lw_r1 : ∀ q ∈ lw_privs_1, lw_okq q := List.forall_mem_cons.mpr ⟨lw_p0, List.forall_mem_cons.mpr ⟨lw_p1, List.forall_mem_cons.mpr ⟨lw_p2, List.forall_mem_cons.mpr ⟨lw_p3, List.forall_mem_cons.mpr ⟨lw_p4, List.forall_mem_cons.mpr ⟨lw_p5, List.forall_mem_cons.mpr ⟨lw_p6, List.forall_mem_cons.mpr ⟨lw_p7, List.forall_mem_cons.mpr ⟨lw_p8, List.forall_mem_cons.mpr ⟨lw_p9, fun _ h => absurd h List.not_mem_nil⟩⟩⟩⟩⟩⟩⟩⟩⟩⟩
def lw_privs : List (MethodName × Nat) := lw_privs_1
def lw_tbl : List Cond := k2_sels lw_privs ++ tables_1
theorem lw_privs_ok : ∀ q ∈ lw_privs, lw_okq q := lw_r1
-- ===== ONE list of words for every method: the tables' words that hold all through a run =====
def lw_all : List Cond := lw_tbl.filter goodWord
/-- a word of the tables by its place: claim/WORDS.tsv -/
theorem lw_w {w : Cond} (i : Nat) (h : lw_tbl[i]? = some w) (g : goodWord w = true) : w ∈ lw_all := List.mem_filter.mpr ⟨List.mem_of_getElem? h, g⟩
theorem lw_all_tbl {w : Cond} (h : w ∈ lw_all) : w ∈ lw_tbl := (List.mem_filter.mp h).1
theorem lw_self : GoodIn lw_all lw_all := fun w h => ⟨h, good_of_word (List.mem_filter.mp h).2⟩
/-- a class's field words, by their places -/
theorem lw_in (ws : List Cond) (ps : List Nat) (hp : ws = ps.filterMap (fun i => lw_tbl[i]?)) (hg : ws.all goodWord = true) : ∀ w ∈ ws, w ∈ lw_all := by
  intro w h
  have h1 := List.all_eq_true.mp hg w h
  rw [hp] at h
  obtain ⟨i, -, hi⟩ := List.mem_filterMap.mp h
  exact lw_w i hi h1
/-- the words of a contract for the method y with code b, L locals, answer r -/
abbrev ws_ (y : MethodName) (b : ByteArray) (L : Nat) (r : Option FieldType) : List Cond := Cond.code y b L r :: lw_all
theorem lw_meth {y : MethodName} {b : ByteArray} {L : Nat} {r : Option FieldType} (h : Cond.code y b L r ∈ lw_all) : GoodIn lw_all (ws_ y b L r) := by
  intro w hw
  rcases List.mem_cons.mp hw with e | e
  · rw [e]
    exact lw_self _ h
  · exact lw_self _ e
theorem lw_app {a c : List Cond} (ha : ∀ w ∈ a, w ∈ lw_all) (hc : GoodIn lw_all c) : GoodIn lw_all (a ++ c) := by
  intro w hw
  rcases List.mem_append.mp hw with e | e
  · exact lw_self w (ha w e)
  · exact hc w e
/-- what a call through an object asks: cwV n hts (lw_V ..) -/
theorem lw_V {own : String} {idx : Nat} {C : String} {y : MethodName} {b : ByteArray} {L : Nat} {r : Option FieldType} (h1 : Cond.methodLink own idx y ∈ lw_all) (h2 : Cond.instanceMethod y ∈ lw_all) (h3 : Cond.selects C y y ∈ lw_all) (h4 : Cond.initialized C ∈ lw_all) (h5 : Cond.code y b L r ∈ lw_all) : GoodIn lw_all (wsV own idx C y (ws_ y b L r)) := by
  refine lw_app ?_ (lw_meth h5)
  intro w hw
  simp only [List.mem_cons, List.not_mem_nil, or_false] at hw
  rcases hw with e | e | e | e
  · rw [e]; exact h1
  · rw [e]; exact h2
  · rw [e]; exact h3
  · rw [e]; exact h4
/-- what a static call asks: va_cwS n hts (lw_S ..) -/
theorem lw_S {own : String} {idx : Nat} {y : MethodName} {b : ByteArray} {L : Nat} {r : Option FieldType} (h1 : Cond.methodLink own idx y ∈ lw_all) (h2 : Cond.static y ∈ lw_all) (h3 : Cond.initialized y.cls ∈ lw_all) (h4 : Cond.code y b L r ∈ lw_all) : GoodIn lw_all (va_wsS own idx y (ws_ y b L r)) := by
  refine lw_app ?_ (lw_meth h4)
  intro w hw
  simp only [List.mem_cons, List.not_mem_nil, or_false] at hw
  rcases hw with e | e | e
  · rw [e]; exact h1
  · rw [e]; exact h2
  · rw [e]; exact h3
/-- the words of a contract for a method WITH HANDLERS (hh: its table) -/
abbrev wsW_ (y : MethodName) (b : ByteArray) (L : Nat) (r : Option FieldType) (hh : List (Nat × Nat × Nat × Nat)) : List Cond := Cond.codeWith y b L r hh :: lw_all
theorem lw_methW {y : MethodName} {b : ByteArray} {L : Nat} {r : Option FieldType} {hh : List (Nat × Nat × Nat × Nat)} (h : Cond.codeWith y b L r hh ∈ lw_all) : GoodIn lw_all (wsW_ y b L r hh) := by
  intro w hw
  rcases List.mem_cons.mp hw with e | e
  · rw [e]
    exact lw_self _ h
  · exact lw_self _ e
/-- any list of words by their places (lw_in), good -/
theorem lw_good {ws : List Cond} (h : ∀ w ∈ ws, w ∈ lw_all) : GoodIn lw_all ws := fun w hw => lw_self w (h w hw)
/-- what a call of a method with handlers asks: vx_cwVW n hts (lw_VW ..), vx_cwSW n hts (lw_SW ..) -/
theorem lw_VW {own : String} {idx : Nat} {C : String} {y : MethodName} {b : ByteArray} {L : Nat} {r : Option FieldType} {hh : List (Nat × Nat × Nat × Nat)} (h1 : Cond.methodLink own idx y ∈ lw_all) (h2 : Cond.instanceMethod y ∈ lw_all) (h3 : Cond.selects C y y ∈ lw_all) (h4 : Cond.initialized C ∈ lw_all) (h5 : Cond.codeWith y b L r hh ∈ lw_all) : GoodIn lw_all (wsV own idx C y (wsW_ y b L r hh)) := by
  refine lw_app ?_ (lw_methW h5)
  intro w hw
  simp only [List.mem_cons, List.not_mem_nil, or_false] at hw
  rcases hw with e | e | e | e
  · rw [e]; exact h1
  · rw [e]; exact h2
  · rw [e]; exact h3
  · rw [e]; exact h4
theorem lw_SW {own : String} {idx : Nat} {y : MethodName} {b : ByteArray} {L : Nat} {r : Option FieldType} {hh : List (Nat × Nat × Nat × Nat)} (h1 : Cond.methodLink own idx y ∈ lw_all) (h2 : Cond.static y ∈ lw_all) (h3 : Cond.initialized y.cls ∈ lw_all) (h4 : Cond.codeWith y b L r hh ∈ lw_all) : GoodIn lw_all (va_wsS own idx y (wsW_ y b L r hh)) := by
  refine lw_app ?_ (lw_methW h4)
  intro w hw
  simp only [List.mem_cons, List.not_mem_nil, or_false] at hw
  rcases hw with e | e | e
  · rw [e]; exact h1
  · rw [e]; exact h2
  · rw [e]; exact h3
/-- a word by its place in its run of the tables -/
theorem lw_at {r : List Cond} (hr : ∀ w ∈ r, w ∈ lw_tbl) {w : Cond} (i : Nat) (h : r[i]? = some w) : w ∈ lw_tbl := hr w (List.mem_of_getElem? h)
theorem lw_g {w : Cond} (h : w ∈ lw_tbl) (g : goodWord w = true) : w ∈ lw_all := List.mem_filter.mpr ⟨h, g⟩
theorem lw_ms : ∀ w ∈ k2_sels lw_privs, w ∈ lw_tbl := fun w h => show w ∈ k2_sels lw_privs ++ tables_1 from List.mem_append_left _ h
theorem lw_m0 : ∀ w ∈ tables_1, w ∈ lw_tbl := fun w h => show w ∈ k2_sels lw_privs ++ tables_1 from List.mem_append_right (k2_sels lw_privs) h
theorem qs0 : (Cond.selects "GrantLedger" ⟨"GrantLedger", "earliest", "(II)I"⟩ ⟨"GrantLedger", "earliest", "(II)I"⟩) ∈ lw_all := lw_g (lw_at lw_ms 0 rfl) rfl
theorem qs1 : (Cond.selects "GrantLedger" ⟨"GrantLedger", "mark", "(III)V"⟩ ⟨"GrantLedger", "mark", "(III)V"⟩) ∈ lw_all := lw_g (lw_at lw_ms 1 rfl) rfl
theorem qs2 : (Cond.selects "GrantLedger" ⟨"GrantLedger", "clearMarks", "()V"⟩ ⟨"GrantLedger", "clearMarks", "()V"⟩) ∈ lw_all := lw_g (lw_at lw_ms 2 rfl) rfl
theorem qs3 : (Cond.selects "GrantLedger" ⟨"GrantLedger", "letFall", "(I)V"⟩ ⟨"GrantLedger", "letFall", "(I)V"⟩) ∈ lw_all := lw_g (lw_at lw_ms 3 rfl) rfl
theorem qs4 : (Cond.selects "GrantLedger" ⟨"GrantLedger", "spread", "()V"⟩ ⟨"GrantLedger", "spread", "()V"⟩) ∈ lw_all := lw_g (lw_at lw_ms 4 rfl) rfl
theorem qs5 : (Cond.selects "GrantLedger" ⟨"GrantLedger", "review", "(II)V"⟩ ⟨"GrantLedger", "review", "(II)V"⟩) ∈ lw_all := lw_g (lw_at lw_ms 5 rfl) rfl
theorem qs6 : (Cond.selects "GrantLedger" ⟨"GrantLedger", "sweep", "()I"⟩ ⟨"GrantLedger", "sweep", "()I"⟩) ∈ lw_all := lw_g (lw_at lw_ms 6 rfl) rfl
theorem qs7 : (Cond.selects "GrantLedgerModel" ⟨"GrantLedgerModel", "settle", "()I"⟩ ⟨"GrantLedgerModel", "settle", "()I"⟩) ∈ lw_all := lw_g (lw_at lw_ms 7 rfl) rfl
theorem qs8 : (Cond.selects "GrantLedgerModel" ⟨"GrantLedgerModel", "founded", "(I)Z"⟩ ⟨"GrantLedgerModel", "founded", "(I)Z"⟩) ∈ lw_all := lw_g (lw_at lw_ms 8 rfl) rfl
theorem qs9 : (Cond.selects "GrantLedgerModel" ⟨"GrantLedgerModel", "drop", "()V"⟩ ⟨"GrantLedgerModel", "drop", "()V"⟩) ∈ lw_all := lw_g (lw_at lw_ms 9 rfl) rfl
end
section
/-! GrantLedger -/
set_option maxRecDepth 100000
def RX0 : String := "GrantLedger"
def TX0 : u_T := fun k => match k with
  | 0 => ("GrantLedger", "times", "I", false)
  | 1 => ("GrantLedger", "count", "I", false)
  | 2 => ("GrantLedger", "timeOf", "[I", true)
  | 3 => ("GrantLedger", "giverOf", "[I", true)
  | 4 => ("GrantLedger", "takerOf", "[I", true)
  | 5 => ("GrantLedger", "privilegeOf", "[I", true)
  | 6 => ("GrantLedger", "withOption", "[Z", true)
  | 7 => ("GrantLedger", "falling", "[Z", true)
  | 8 => ("GrantLedger", "waiting", "I", false)
  | 9 => ("GrantLedger", "queue", "[I", true)
  | _ => ("GrantLedger", "queued", "[Z", true)
def tyX0 : Nat → FieldType := fun k => match k with
  | 0 => .int
  | 1 => .int
  | 2 => .array .int
  | 3 => .array .int
  | 4 => .array .int
  | 5 => .array .int
  | 6 => .array .boolean
  | 7 => .array .boolean
  | 8 => .int
  | 9 => .array .int
  | _ => .array .boolean
abbrev wsX00 : List Cond := u_ws RX0 TX0 11
theorem nmX0 : ∀ a, a < 11 → ∀ b, b < 11 → a ≠ b → (TX0 a).2.1 ≠ (TX0 b).2.1 := by decide +kernel
theorem tyX0_ok : ∀ k, k < 11 → parseFieldDescriptor (TX0 k).2.2.1 = some (tyX0 k) := by decide +kernel
abbrev cX0_init : ByteArray := prog_1_method_1_code
def yX0_init : MethodName := ⟨RX0, "<init>", "()V"⟩
abbrev cX0_grant : ByteArray := prog_1_method_2_code
def yX0_grant : MethodName := ⟨RX0, "grant", "(IIIZ)I"⟩
abbrev cX0_isUser : ByteArray := prog_1_method_12_code
def yX0_isUser : MethodName := ⟨RX0, "isUser", "(I)Z"⟩
abbrev cX0_isPrivilege : ByteArray := prog_1_method_13_code
def yX0_isPrivilege : MethodName := ⟨RX0, "isPrivilege", "(I)Z"⟩
abbrev cX0_earliest : ByteArray := prog_1_method_14_code
def yX0_earliest : MethodName := ⟨RX0, "earliest", "(II)I"⟩
abbrev cX0_revoke : ByteArray := prog_1_method_3_code
def yX0_revoke : MethodName := ⟨RX0, "revoke", "(III)I"⟩
abbrev cX0_mark : ByteArray := prog_1_method_16_code
def yX0_mark : MethodName := ⟨RX0, "mark", "(III)V"⟩
abbrev cX0_clearMarks : ByteArray := prog_1_method_15_code
def yX0_clearMarks : MethodName := ⟨RX0, "clearMarks", "()V"⟩
abbrev cX0_letFall : ByteArray := prog_1_method_17_code
def yX0_letFall : MethodName := ⟨RX0, "letFall", "(I)V"⟩
abbrev cX0_spread : ByteArray := prog_1_method_18_code
def yX0_spread : MethodName := ⟨RX0, "spread", "()V"⟩
abbrev cX0_review : ByteArray := prog_1_method_19_code
def yX0_review : MethodName := ⟨RX0, "review", "(II)V"⟩
abbrev cX0_sweep : ByteArray := prog_1_method_20_code
def yX0_sweep : MethodName := ⟨RX0, "sweep", "()I"⟩
abbrev cX0_expel : ByteArray := prog_1_method_4_code
def yX0_expel : MethodName := ⟨RX0, "expel", "(I)I"⟩
abbrev cX0_holds : ByteArray := prog_1_method_5_code
def yX0_holds : MethodName := ⟨RX0, "holds", "(II)I"⟩
abbrev cX0_received : ByteArray := prog_1_method_7_code
def yX0_received : MethodName := ⟨RX0, "received", "(II)I"⟩
abbrev cX0_may : ByteArray := prog_1_method_6_code
def yX0_may : MethodName := ⟨RX0, "may", "(II)I"⟩
abbrev cX0_given : ByteArray := prog_1_method_8_code
def yX0_given : MethodName := ⟨RX0, "given", "(II)I"⟩
abbrev cX0_stands : ByteArray := prog_1_method_9_code
def yX0_stands : MethodName := ⟨RX0, "stands", "(I)I"⟩
abbrev cX0_reach : ByteArray := prog_1_method_10_code
def yX0_reach : MethodName := ⟨RX0, "reach", "(III)I"⟩
abbrev cX0_standing : ByteArray := prog_1_method_11_code
def yX0_standing : MethodName := ⟨RX0, "standing", "()I"⟩
theorem q11 : (Jvm.Cond.initialized "GrantLedger") ∈ lw_all := lw_g (lw_at lw_m0 1 rfl) rfl
theorem q14 : (Jvm.Cond.instantiable "GrantLedger" (11 : Nat)) ∈ lw_all := lw_g (lw_at lw_m0 4 rfl) rfl
theorem q16 : (Jvm.Cond.instanceMethod ({ cls := "GrantLedger", name := "<init>", desc := "()V" } : Jvm.MethodName)) ∈ lw_all := lw_g (lw_at lw_m0 6 rfl) rfl
theorem q17 : (Jvm.Cond.code ({ cls := "GrantLedger", name := "<init>", desc := "()V" } : Jvm.MethodName) prog_1_method_1_code (1 : Nat) (Option.none : Option Jvm.ClassFile.FieldType)) ∈ lw_all := lw_g (lw_at lw_m0 7 rfl) rfl
theorem q18 : (Jvm.Cond.methodLink "GrantLedger" (1 : Nat) ({ cls := "java/lang/Object", name := "<init>", desc := "()V" } : Jvm.MethodName)) ∈ lw_all := lw_g (lw_at lw_m0 8 rfl) rfl
theorem q21 : (Jvm.Cond.fieldLink "GrantLedger" (50 : Nat) "GrantLedger" "times" "I") ∈ lw_all := lw_g (lw_at lw_m0 11 rfl) rfl
theorem q22 : (Jvm.Cond.fieldLink "GrantLedger" (42 : Nat) "GrantLedger" "count" "I") ∈ lw_all := lw_g (lw_at lw_m0 12 rfl) rfl
theorem q23 : (Jvm.Cond.fieldLink "GrantLedger" (7 : Nat) "GrantLedger" "timeOf" "[I") ∈ lw_all := lw_g (lw_at lw_m0 13 rfl) rfl
theorem q24 : (Jvm.Cond.fieldLink "GrantLedger" (13 : Nat) "GrantLedger" "giverOf" "[I") ∈ lw_all := lw_g (lw_at lw_m0 14 rfl) rfl
theorem q25 : (Jvm.Cond.fieldLink "GrantLedger" (16 : Nat) "GrantLedger" "takerOf" "[I") ∈ lw_all := lw_g (lw_at lw_m0 15 rfl) rfl
theorem q26 : (Jvm.Cond.fieldLink "GrantLedger" (19 : Nat) "GrantLedger" "privilegeOf" "[I") ∈ lw_all := lw_g (lw_at lw_m0 16 rfl) rfl
theorem q27 : (Jvm.Cond.fieldLink "GrantLedger" (22 : Nat) "GrantLedger" "withOption" "[Z") ∈ lw_all := lw_g (lw_at lw_m0 17 rfl) rfl
theorem q28 : (Jvm.Cond.fieldLink "GrantLedger" (26 : Nat) "GrantLedger" "falling" "[Z") ∈ lw_all := lw_g (lw_at lw_m0 18 rfl) rfl
theorem q29 : (Jvm.Cond.fieldLink "GrantLedger" (74 : Nat) "GrantLedger" "waiting" "I") ∈ lw_all := lw_g (lw_at lw_m0 19 rfl) rfl
theorem q30 : (Jvm.Cond.fieldLink "GrantLedger" (29 : Nat) "GrantLedger" "queue" "[I") ∈ lw_all := lw_g (lw_at lw_m0 20 rfl) rfl
theorem q31 : (Jvm.Cond.fieldLink "GrantLedger" (32 : Nat) "GrantLedger" "queued" "[Z") ∈ lw_all := lw_g (lw_at lw_m0 21 rfl) rfl
theorem q32 : (Jvm.Cond.lays "GrantLedger" "GrantLedger" "times" "I") ∈ lw_all := lw_g (lw_at lw_m0 22 rfl) rfl
theorem q33 : (Jvm.Cond.soleField "GrantLedger" "times") ∈ lw_all := lw_g (lw_at lw_m0 23 rfl) rfl
theorem q34 : (Jvm.Cond.lays "GrantLedger" "GrantLedger" "count" "I") ∈ lw_all := lw_g (lw_at lw_m0 24 rfl) rfl
theorem q35 : (Jvm.Cond.soleField "GrantLedger" "count") ∈ lw_all := lw_g (lw_at lw_m0 25 rfl) rfl
theorem q36 : (Jvm.Cond.laysFinal "GrantLedger" "GrantLedger" "timeOf" "[I") ∈ lw_all := lw_g (lw_at lw_m0 26 rfl) rfl
theorem q37 : (Jvm.Cond.soleField "GrantLedger" "timeOf") ∈ lw_all := lw_g (lw_at lw_m0 27 rfl) rfl
theorem q38 : (Jvm.Cond.laysFinal "GrantLedger" "GrantLedger" "giverOf" "[I") ∈ lw_all := lw_g (lw_at lw_m0 28 rfl) rfl
theorem q39 : (Jvm.Cond.soleField "GrantLedger" "giverOf") ∈ lw_all := lw_g (lw_at lw_m0 29 rfl) rfl
theorem q40 : (Jvm.Cond.laysFinal "GrantLedger" "GrantLedger" "takerOf" "[I") ∈ lw_all := lw_g (lw_at lw_m0 30 rfl) rfl
theorem q41 : (Jvm.Cond.soleField "GrantLedger" "takerOf") ∈ lw_all := lw_g (lw_at lw_m0 31 rfl) rfl
theorem q42 : (Jvm.Cond.laysFinal "GrantLedger" "GrantLedger" "privilegeOf" "[I") ∈ lw_all := lw_g (lw_at lw_m0 32 rfl) rfl
theorem q43 : (Jvm.Cond.soleField "GrantLedger" "privilegeOf") ∈ lw_all := lw_g (lw_at lw_m0 33 rfl) rfl
theorem q44 : (Jvm.Cond.laysFinal "GrantLedger" "GrantLedger" "withOption" "[Z") ∈ lw_all := lw_g (lw_at lw_m0 34 rfl) rfl
theorem q45 : (Jvm.Cond.soleField "GrantLedger" "withOption") ∈ lw_all := lw_g (lw_at lw_m0 35 rfl) rfl
theorem q46 : (Jvm.Cond.laysFinal "GrantLedger" "GrantLedger" "falling" "[Z") ∈ lw_all := lw_g (lw_at lw_m0 36 rfl) rfl
theorem q47 : (Jvm.Cond.soleField "GrantLedger" "falling") ∈ lw_all := lw_g (lw_at lw_m0 37 rfl) rfl
theorem q48 : (Jvm.Cond.lays "GrantLedger" "GrantLedger" "waiting" "I") ∈ lw_all := lw_g (lw_at lw_m0 38 rfl) rfl
theorem q49 : (Jvm.Cond.soleField "GrantLedger" "waiting") ∈ lw_all := lw_g (lw_at lw_m0 39 rfl) rfl
theorem q50 : (Jvm.Cond.laysFinal "GrantLedger" "GrantLedger" "queue" "[I") ∈ lw_all := lw_g (lw_at lw_m0 40 rfl) rfl
theorem q51 : (Jvm.Cond.soleField "GrantLedger" "queue") ∈ lw_all := lw_g (lw_at lw_m0 41 rfl) rfl
theorem q52 : (Jvm.Cond.laysFinal "GrantLedger" "GrantLedger" "queued" "[Z") ∈ lw_all := lw_g (lw_at lw_m0 42 rfl) rfl
theorem q53 : (Jvm.Cond.soleField "GrantLedger" "queued") ∈ lw_all := lw_g (lw_at lw_m0 43 rfl) rfl
theorem q54 : (Jvm.Cond.superclass "GrantLedger" "java/lang/Object") ∈ lw_all := lw_g (lw_at lw_m0 44 rfl) rfl
theorem q58 : (Jvm.Cond.instanceMethod ({ cls := "GrantLedger", name := "grant", desc := "(IIIZ)I" } : Jvm.MethodName)) ∈ lw_all := lw_g (lw_at lw_m0 48 rfl) rfl
theorem q59 : (Jvm.Cond.selects "GrantLedger" ({ cls := "GrantLedger", name := "grant", desc := "(IIIZ)I" } : Jvm.MethodName) ({ cls := "GrantLedger", name := "grant", desc := "(IIIZ)I" } : Jvm.MethodName)) ∈ lw_all := lw_g (lw_at lw_m0 49 rfl) rfl
theorem q60 : (Jvm.Cond.code ({ cls := "GrantLedger", name := "grant", desc := "(IIIZ)I" } : Jvm.MethodName) prog_1_method_2_code (5 : Nat) (Option.some Jvm.ClassFile.FieldType.int)) ∈ lw_all := lw_g (lw_at lw_m0 50 rfl) rfl
theorem q61 : (Jvm.Cond.methodLink "GrantLedger" (35 : Nat) ({ cls := "GrantLedger", name := "isUser", desc := "(I)Z" } : Jvm.MethodName)) ∈ lw_all := lw_g (lw_at lw_m0 51 rfl) rfl
theorem q62 : (Jvm.Cond.static ({ cls := "GrantLedger", name := "isUser", desc := "(I)Z" } : Jvm.MethodName)) ∈ lw_all := lw_g (lw_at lw_m0 52 rfl) rfl
theorem q63 : (Jvm.Cond.code ({ cls := "GrantLedger", name := "isUser", desc := "(I)Z" } : Jvm.MethodName) prog_1_method_12_code (1 : Nat) (Option.some Jvm.ClassFile.FieldType.boolean)) ∈ lw_all := lw_g (lw_at lw_m0 53 rfl) rfl
theorem q64 : (Jvm.Cond.methodLink "GrantLedger" (39 : Nat) ({ cls := "GrantLedger", name := "isPrivilege", desc := "(I)Z" } : Jvm.MethodName)) ∈ lw_all := lw_g (lw_at lw_m0 54 rfl) rfl
theorem q65 : (Jvm.Cond.static ({ cls := "GrantLedger", name := "isPrivilege", desc := "(I)Z" } : Jvm.MethodName)) ∈ lw_all := lw_g (lw_at lw_m0 55 rfl) rfl
theorem q66 : (Jvm.Cond.code ({ cls := "GrantLedger", name := "isPrivilege", desc := "(I)Z" } : Jvm.MethodName) prog_1_method_13_code (1 : Nat) (Option.some Jvm.ClassFile.FieldType.boolean)) ∈ lw_all := lw_g (lw_at lw_m0 56 rfl) rfl
theorem q67 : (Jvm.Cond.methodLink "GrantLedger" (46 : Nat) ({ cls := "GrantLedger", name := "earliest", desc := "(II)I" } : Jvm.MethodName)) ∈ lw_all := lw_g (lw_at lw_m0 57 rfl) rfl
theorem q68 : (Jvm.Cond.privateMethod ({ cls := "GrantLedger", name := "earliest", desc := "(II)I" } : Jvm.MethodName)) ∈ lw_tbl := lw_at lw_m0 58 rfl
theorem q69 : (Jvm.Cond.instanceMethod ({ cls := "GrantLedger", name := "earliest", desc := "(II)I" } : Jvm.MethodName)) ∈ lw_all := lw_g (lw_at lw_m0 59 rfl) rfl
theorem q70 : (Jvm.Cond.code ({ cls := "GrantLedger", name := "earliest", desc := "(II)I" } : Jvm.MethodName) prog_1_method_14_code (4 : Nat) (Option.some Jvm.ClassFile.FieldType.int)) ∈ lw_all := lw_g (lw_at lw_m0 60 rfl) rfl
theorem q72 : (Jvm.Cond.instanceMethod ({ cls := "GrantLedger", name := "revoke", desc := "(III)I" } : Jvm.MethodName)) ∈ lw_all := lw_g (lw_at lw_m0 62 rfl) rfl
theorem q73 : (Jvm.Cond.selects "GrantLedger" ({ cls := "GrantLedger", name := "revoke", desc := "(III)I" } : Jvm.MethodName) ({ cls := "GrantLedger", name := "revoke", desc := "(III)I" } : Jvm.MethodName)) ∈ lw_all := lw_g (lw_at lw_m0 63 rfl) rfl
theorem q74 : (Jvm.Cond.code ({ cls := "GrantLedger", name := "revoke", desc := "(III)I" } : Jvm.MethodName) prog_1_method_3_code (4 : Nat) (Option.some Jvm.ClassFile.FieldType.int)) ∈ lw_all := lw_g (lw_at lw_m0 64 rfl) rfl
theorem q75 : (Jvm.Cond.methodLink "GrantLedger" (53 : Nat) ({ cls := "GrantLedger", name := "mark", desc := "(III)V" } : Jvm.MethodName)) ∈ lw_all := lw_g (lw_at lw_m0 65 rfl) rfl
theorem q76 : (Jvm.Cond.privateMethod ({ cls := "GrantLedger", name := "mark", desc := "(III)V" } : Jvm.MethodName)) ∈ lw_tbl := lw_at lw_m0 66 rfl
theorem q77 : (Jvm.Cond.instanceMethod ({ cls := "GrantLedger", name := "mark", desc := "(III)V" } : Jvm.MethodName)) ∈ lw_all := lw_g (lw_at lw_m0 67 rfl) rfl
theorem q78 : (Jvm.Cond.code ({ cls := "GrantLedger", name := "mark", desc := "(III)V" } : Jvm.MethodName) prog_1_method_16_code (5 : Nat) (Option.none : Option Jvm.ClassFile.FieldType)) ∈ lw_all := lw_g (lw_at lw_m0 68 rfl) rfl
theorem q79 : (Jvm.Cond.methodLink "GrantLedger" (64 : Nat) ({ cls := "GrantLedger", name := "clearMarks", desc := "()V" } : Jvm.MethodName)) ∈ lw_all := lw_g (lw_at lw_m0 69 rfl) rfl
theorem q80 : (Jvm.Cond.privateMethod ({ cls := "GrantLedger", name := "clearMarks", desc := "()V" } : Jvm.MethodName)) ∈ lw_tbl := lw_at lw_m0 70 rfl
theorem q81 : (Jvm.Cond.instanceMethod ({ cls := "GrantLedger", name := "clearMarks", desc := "()V" } : Jvm.MethodName)) ∈ lw_all := lw_g (lw_at lw_m0 71 rfl) rfl
theorem q82 : (Jvm.Cond.code ({ cls := "GrantLedger", name := "clearMarks", desc := "()V" } : Jvm.MethodName) prog_1_method_15_code (2 : Nat) (Option.none : Option Jvm.ClassFile.FieldType)) ∈ lw_all := lw_g (lw_at lw_m0 72 rfl) rfl
theorem q83 : (Jvm.Cond.methodLink "GrantLedger" (67 : Nat) ({ cls := "GrantLedger", name := "letFall", desc := "(I)V" } : Jvm.MethodName)) ∈ lw_all := lw_g (lw_at lw_m0 73 rfl) rfl
theorem q84 : (Jvm.Cond.privateMethod ({ cls := "GrantLedger", name := "letFall", desc := "(I)V" } : Jvm.MethodName)) ∈ lw_tbl := lw_at lw_m0 74 rfl
theorem q85 : (Jvm.Cond.instanceMethod ({ cls := "GrantLedger", name := "letFall", desc := "(I)V" } : Jvm.MethodName)) ∈ lw_all := lw_g (lw_at lw_m0 75 rfl) rfl
theorem q86 : (Jvm.Cond.code ({ cls := "GrantLedger", name := "letFall", desc := "(I)V" } : Jvm.MethodName) prog_1_method_17_code (3 : Nat) (Option.none : Option Jvm.ClassFile.FieldType)) ∈ lw_all := lw_g (lw_at lw_m0 76 rfl) rfl
theorem q87 : (Jvm.Cond.methodLink "GrantLedger" (57 : Nat) ({ cls := "GrantLedger", name := "spread", desc := "()V" } : Jvm.MethodName)) ∈ lw_all := lw_g (lw_at lw_m0 77 rfl) rfl
theorem q88 : (Jvm.Cond.privateMethod ({ cls := "GrantLedger", name := "spread", desc := "()V" } : Jvm.MethodName)) ∈ lw_tbl := lw_at lw_m0 78 rfl
theorem q89 : (Jvm.Cond.instanceMethod ({ cls := "GrantLedger", name := "spread", desc := "()V" } : Jvm.MethodName)) ∈ lw_all := lw_g (lw_at lw_m0 79 rfl) rfl
theorem q90 : (Jvm.Cond.code ({ cls := "GrantLedger", name := "spread", desc := "()V" } : Jvm.MethodName) prog_1_method_18_code (3 : Nat) (Option.none : Option Jvm.ClassFile.FieldType)) ∈ lw_all := lw_g (lw_at lw_m0 80 rfl) rfl
theorem q91 : (Jvm.Cond.methodLink "GrantLedger" (77 : Nat) ({ cls := "GrantLedger", name := "review", desc := "(II)V" } : Jvm.MethodName)) ∈ lw_all := lw_g (lw_at lw_m0 81 rfl) rfl
theorem q92 : (Jvm.Cond.privateMethod ({ cls := "GrantLedger", name := "review", desc := "(II)V" } : Jvm.MethodName)) ∈ lw_tbl := lw_at lw_m0 82 rfl
theorem q93 : (Jvm.Cond.instanceMethod ({ cls := "GrantLedger", name := "review", desc := "(II)V" } : Jvm.MethodName)) ∈ lw_all := lw_g (lw_at lw_m0 83 rfl) rfl
theorem q94 : (Jvm.Cond.code ({ cls := "GrantLedger", name := "review", desc := "(II)V" } : Jvm.MethodName) prog_1_method_19_code (6 : Nat) (Option.none : Option Jvm.ClassFile.FieldType)) ∈ lw_all := lw_g (lw_at lw_m0 84 rfl) rfl
theorem q95 : (Jvm.Cond.methodLink "GrantLedger" (60 : Nat) ({ cls := "GrantLedger", name := "sweep", desc := "()I" } : Jvm.MethodName)) ∈ lw_all := lw_g (lw_at lw_m0 85 rfl) rfl
theorem q96 : (Jvm.Cond.privateMethod ({ cls := "GrantLedger", name := "sweep", desc := "()I" } : Jvm.MethodName)) ∈ lw_tbl := lw_at lw_m0 86 rfl
theorem q97 : (Jvm.Cond.instanceMethod ({ cls := "GrantLedger", name := "sweep", desc := "()I" } : Jvm.MethodName)) ∈ lw_all := lw_g (lw_at lw_m0 87 rfl) rfl
theorem q98 : (Jvm.Cond.code ({ cls := "GrantLedger", name := "sweep", desc := "()I" } : Jvm.MethodName) prog_1_method_20_code (3 : Nat) (Option.some Jvm.ClassFile.FieldType.int)) ∈ lw_all := lw_g (lw_at lw_m0 88 rfl) rfl
theorem q100 : (Jvm.Cond.instanceMethod ({ cls := "GrantLedger", name := "expel", desc := "(I)I" } : Jvm.MethodName)) ∈ lw_all := lw_g (lw_at lw_m0 90 rfl) rfl
theorem q101 : (Jvm.Cond.selects "GrantLedger" ({ cls := "GrantLedger", name := "expel", desc := "(I)I" } : Jvm.MethodName) ({ cls := "GrantLedger", name := "expel", desc := "(I)I" } : Jvm.MethodName)) ∈ lw_all := lw_g (lw_at lw_m0 91 rfl) rfl
theorem q102 : (Jvm.Cond.code ({ cls := "GrantLedger", name := "expel", desc := "(I)I" } : Jvm.MethodName) prog_1_method_4_code (3 : Nat) (Option.some Jvm.ClassFile.FieldType.int)) ∈ lw_all := lw_g (lw_at lw_m0 92 rfl) rfl
theorem q104 : (Jvm.Cond.instanceMethod ({ cls := "GrantLedger", name := "holds", desc := "(II)I" } : Jvm.MethodName)) ∈ lw_all := lw_g (lw_at lw_m0 94 rfl) rfl
theorem q105 : (Jvm.Cond.selects "GrantLedger" ({ cls := "GrantLedger", name := "holds", desc := "(II)I" } : Jvm.MethodName) ({ cls := "GrantLedger", name := "holds", desc := "(II)I" } : Jvm.MethodName)) ∈ lw_all := lw_g (lw_at lw_m0 95 rfl) rfl
theorem q106 : (Jvm.Cond.code ({ cls := "GrantLedger", name := "holds", desc := "(II)I" } : Jvm.MethodName) prog_1_method_5_code (3 : Nat) (Option.some Jvm.ClassFile.FieldType.int)) ∈ lw_all := lw_g (lw_at lw_m0 96 rfl) rfl
theorem q107 : (Jvm.Cond.methodLink "GrantLedger" (71 : Nat) ({ cls := "GrantLedger", name := "received", desc := "(II)I" } : Jvm.MethodName)) ∈ lw_all := lw_g (lw_at lw_m0 97 rfl) rfl
theorem q108 : (Jvm.Cond.instanceMethod ({ cls := "GrantLedger", name := "received", desc := "(II)I" } : Jvm.MethodName)) ∈ lw_all := lw_g (lw_at lw_m0 98 rfl) rfl
theorem q109 : (Jvm.Cond.selects "GrantLedger" ({ cls := "GrantLedger", name := "received", desc := "(II)I" } : Jvm.MethodName) ({ cls := "GrantLedger", name := "received", desc := "(II)I" } : Jvm.MethodName)) ∈ lw_all := lw_g (lw_at lw_m0 99 rfl) rfl
theorem q110 : (Jvm.Cond.code ({ cls := "GrantLedger", name := "received", desc := "(II)I" } : Jvm.MethodName) prog_1_method_7_code (5 : Nat) (Option.some Jvm.ClassFile.FieldType.int)) ∈ lw_all := lw_g (lw_at lw_m0 100 rfl) rfl
theorem q112 : (Jvm.Cond.instanceMethod ({ cls := "GrantLedger", name := "may", desc := "(II)I" } : Jvm.MethodName)) ∈ lw_all := lw_g (lw_at lw_m0 102 rfl) rfl
theorem q113 : (Jvm.Cond.selects "GrantLedger" ({ cls := "GrantLedger", name := "may", desc := "(II)I" } : Jvm.MethodName) ({ cls := "GrantLedger", name := "may", desc := "(II)I" } : Jvm.MethodName)) ∈ lw_all := lw_g (lw_at lw_m0 103 rfl) rfl
theorem q114 : (Jvm.Cond.code ({ cls := "GrantLedger", name := "may", desc := "(II)I" } : Jvm.MethodName) prog_1_method_6_code (3 : Nat) (Option.some Jvm.ClassFile.FieldType.int)) ∈ lw_all := lw_g (lw_at lw_m0 104 rfl) rfl
theorem q117 : (Jvm.Cond.instanceMethod ({ cls := "GrantLedger", name := "given", desc := "(II)I" } : Jvm.MethodName)) ∈ lw_all := lw_g (lw_at lw_m0 107 rfl) rfl
theorem q118 : (Jvm.Cond.selects "GrantLedger" ({ cls := "GrantLedger", name := "given", desc := "(II)I" } : Jvm.MethodName) ({ cls := "GrantLedger", name := "given", desc := "(II)I" } : Jvm.MethodName)) ∈ lw_all := lw_g (lw_at lw_m0 108 rfl) rfl
theorem q119 : (Jvm.Cond.code ({ cls := "GrantLedger", name := "given", desc := "(II)I" } : Jvm.MethodName) prog_1_method_8_code (5 : Nat) (Option.some Jvm.ClassFile.FieldType.int)) ∈ lw_all := lw_g (lw_at lw_m0 109 rfl) rfl
theorem q121 : (Jvm.Cond.instanceMethod ({ cls := "GrantLedger", name := "stands", desc := "(I)I" } : Jvm.MethodName)) ∈ lw_all := lw_g (lw_at lw_m0 111 rfl) rfl
theorem q122 : (Jvm.Cond.selects "GrantLedger" ({ cls := "GrantLedger", name := "stands", desc := "(I)I" } : Jvm.MethodName) ({ cls := "GrantLedger", name := "stands", desc := "(I)I" } : Jvm.MethodName)) ∈ lw_all := lw_g (lw_at lw_m0 112 rfl) rfl
theorem q123 : (Jvm.Cond.code ({ cls := "GrantLedger", name := "stands", desc := "(I)I" } : Jvm.MethodName) prog_1_method_9_code (6 : Nat) (Option.some Jvm.ClassFile.FieldType.int)) ∈ lw_all := lw_g (lw_at lw_m0 113 rfl) rfl
theorem q125 : (Jvm.Cond.instanceMethod ({ cls := "GrantLedger", name := "reach", desc := "(III)I" } : Jvm.MethodName)) ∈ lw_all := lw_g (lw_at lw_m0 115 rfl) rfl
theorem q126 : (Jvm.Cond.selects "GrantLedger" ({ cls := "GrantLedger", name := "reach", desc := "(III)I" } : Jvm.MethodName) ({ cls := "GrantLedger", name := "reach", desc := "(III)I" } : Jvm.MethodName)) ∈ lw_all := lw_g (lw_at lw_m0 116 rfl) rfl
theorem q127 : (Jvm.Cond.code ({ cls := "GrantLedger", name := "reach", desc := "(III)I" } : Jvm.MethodName) prog_1_method_10_code (6 : Nat) (Option.some Jvm.ClassFile.FieldType.int)) ∈ lw_all := lw_g (lw_at lw_m0 117 rfl) rfl
theorem q129 : (Jvm.Cond.instanceMethod ({ cls := "GrantLedger", name := "standing", desc := "()I" } : Jvm.MethodName)) ∈ lw_all := lw_g (lw_at lw_m0 119 rfl) rfl
theorem q130 : (Jvm.Cond.selects "GrantLedger" ({ cls := "GrantLedger", name := "standing", desc := "()I" } : Jvm.MethodName) ({ cls := "GrantLedger", name := "standing", desc := "()I" } : Jvm.MethodName)) ∈ lw_all := lw_g (lw_at lw_m0 120 rfl) rfl
theorem q131 : (Jvm.Cond.code ({ cls := "GrantLedger", name := "standing", desc := "()I" } : Jvm.MethodName) prog_1_method_11_code (1 : Nat) (Option.some Jvm.ClassFile.FieldType.int)) ∈ lw_all := lw_g (lw_at lw_m0 121 rfl) rfl
theorem in_X0 : ∀ w ∈ wsX00, w ∈ lw_all := lw_in wsX00 [32, 34, 36, 38, 40, 42, 44, 46, 48, 50, 52] (by decide +kernel) (by decide +kernel)
/-! GrantLedgerModel -/
set_option maxRecDepth 100000
def RX1 : String := "GrantLedgerModel"
def TX1 : u_T := fun k => match k with
  | 0 => ("GrantLedgerModel", "grants", "I", false)
  | 1 => ("GrantLedgerModel", "times", "[I", true)
  | 2 => ("GrantLedgerModel", "givers", "[I", true)
  | 3 => ("GrantLedgerModel", "takers", "[I", true)
  | 4 => ("GrantLedgerModel", "privileges", "[I", true)
  | 5 => ("GrantLedgerModel", "options", "[Z", true)
  | 6 => ("GrantLedgerModel", "next", "I", false)
  | _ => ("GrantLedgerModel", "kept", "[Z", true)
def tyX1 : Nat → FieldType := fun k => match k with
  | 0 => .int
  | 1 => .array .int
  | 2 => .array .int
  | 3 => .array .int
  | 4 => .array .int
  | 5 => .array .boolean
  | 6 => .int
  | _ => .array .boolean
abbrev wsX10 : List Cond := u_ws RX1 TX1 8
theorem nmX1 : ∀ a, a < 8 → ∀ b, b < 8 → a ≠ b → (TX1 a).2.1 ≠ (TX1 b).2.1 := by decide +kernel
theorem tyX1_ok : ∀ k, k < 8 → parseFieldDescriptor (TX1 k).2.2.1 = some (tyX1 k) := by decide +kernel
abbrev cX1_init : ByteArray := prog_3_method_1_code
def yX1_init : MethodName := ⟨RX1, "<init>", "()V"⟩
abbrev cX1_grant : ByteArray := prog_3_method_4_code
def yX1_grant : MethodName := ⟨RX1, "grant", "(IIIZ)I"⟩
abbrev cX1_bad : ByteArray := prog_3_method_2_code
def yX1_bad : MethodName := ⟨RX1, "bad", "(I)Z"⟩
abbrev cX1_badPrivilege : ByteArray := prog_3_method_3_code
def yX1_badPrivilege : MethodName := ⟨RX1, "badPrivilege", "(I)Z"⟩
abbrev cX1_may : ByteArray := prog_3_method_11_code
def yX1_may : MethodName := ⟨RX1, "may", "(II)I"⟩
abbrev cX1_revoke : ByteArray := prog_3_method_8_code
def yX1_revoke : MethodName := ⟨RX1, "revoke", "(III)I"⟩
abbrev cX1_reach : ByteArray := prog_3_method_15_code
def yX1_reach : MethodName := ⟨RX1, "reach", "(III)I"⟩
abbrev cX1_settle : ByteArray := prog_3_method_6_code
def yX1_settle : MethodName := ⟨RX1, "settle", "()I"⟩
abbrev cX1_founded : ByteArray := prog_3_method_5_code
def yX1_founded : MethodName := ⟨RX1, "founded", "(I)Z"⟩
abbrev cX1_drop : ByteArray := prog_3_method_7_code
def yX1_drop : MethodName := ⟨RX1, "drop", "()V"⟩
abbrev cX1_expel : ByteArray := prog_3_method_9_code
def yX1_expel : MethodName := ⟨RX1, "expel", "(I)I"⟩
abbrev cX1_holds : ByteArray := prog_3_method_10_code
def yX1_holds : MethodName := ⟨RX1, "holds", "(II)I"⟩
abbrev cX1_received : ByteArray := prog_3_method_12_code
def yX1_received : MethodName := ⟨RX1, "received", "(II)I"⟩
abbrev cX1_given : ByteArray := prog_3_method_13_code
def yX1_given : MethodName := ⟨RX1, "given", "(II)I"⟩
abbrev cX1_stands : ByteArray := prog_3_method_14_code
def yX1_stands : MethodName := ⟨RX1, "stands", "(I)I"⟩
abbrev cX1_standing : ByteArray := prog_3_method_16_code
def yX1_standing : MethodName := ⟨RX1, "standing", "()I"⟩
theorem q12 : (Jvm.Cond.initialized "GrantLedgerModel") ∈ lw_all := lw_g (lw_at lw_m0 2 rfl) rfl
theorem q133 : (Jvm.Cond.instantiable "GrantLedgerModel" (8 : Nat)) ∈ lw_all := lw_g (lw_at lw_m0 123 rfl) rfl
theorem q135 : (Jvm.Cond.instanceMethod ({ cls := "GrantLedgerModel", name := "<init>", desc := "()V" } : Jvm.MethodName)) ∈ lw_all := lw_g (lw_at lw_m0 125 rfl) rfl
theorem q136 : (Jvm.Cond.code ({ cls := "GrantLedgerModel", name := "<init>", desc := "()V" } : Jvm.MethodName) prog_3_method_1_code (1 : Nat) (Option.none : Option Jvm.ClassFile.FieldType)) ∈ lw_all := lw_g (lw_at lw_m0 126 rfl) rfl
theorem q137 : (Jvm.Cond.methodLink "GrantLedgerModel" (1 : Nat) ({ cls := "java/lang/Object", name := "<init>", desc := "()V" } : Jvm.MethodName)) ∈ lw_all := lw_g (lw_at lw_m0 127 rfl) rfl
theorem q138 : (Jvm.Cond.fieldLink "GrantLedgerModel" (36 : Nat) "GrantLedgerModel" "grants" "I") ∈ lw_all := lw_g (lw_at lw_m0 128 rfl) rfl
theorem q139 : (Jvm.Cond.fieldLink "GrantLedgerModel" (7 : Nat) "GrantLedgerModel" "times" "[I") ∈ lw_all := lw_g (lw_at lw_m0 129 rfl) rfl
theorem q140 : (Jvm.Cond.fieldLink "GrantLedgerModel" (13 : Nat) "GrantLedgerModel" "givers" "[I") ∈ lw_all := lw_g (lw_at lw_m0 130 rfl) rfl
theorem q141 : (Jvm.Cond.fieldLink "GrantLedgerModel" (16 : Nat) "GrantLedgerModel" "takers" "[I") ∈ lw_all := lw_g (lw_at lw_m0 131 rfl) rfl
theorem q142 : (Jvm.Cond.fieldLink "GrantLedgerModel" (19 : Nat) "GrantLedgerModel" "privileges" "[I") ∈ lw_all := lw_g (lw_at lw_m0 132 rfl) rfl
theorem q143 : (Jvm.Cond.fieldLink "GrantLedgerModel" (22 : Nat) "GrantLedgerModel" "options" "[Z") ∈ lw_all := lw_g (lw_at lw_m0 133 rfl) rfl
theorem q144 : (Jvm.Cond.fieldLink "GrantLedgerModel" (44 : Nat) "GrantLedgerModel" "next" "I") ∈ lw_all := lw_g (lw_at lw_m0 134 rfl) rfl
theorem q145 : (Jvm.Cond.fieldLink "GrantLedgerModel" (26 : Nat) "GrantLedgerModel" "kept" "[Z") ∈ lw_all := lw_g (lw_at lw_m0 135 rfl) rfl
theorem q146 : (Jvm.Cond.lays "GrantLedgerModel" "GrantLedgerModel" "grants" "I") ∈ lw_all := lw_g (lw_at lw_m0 136 rfl) rfl
theorem q147 : (Jvm.Cond.soleField "GrantLedgerModel" "grants") ∈ lw_all := lw_g (lw_at lw_m0 137 rfl) rfl
theorem q148 : (Jvm.Cond.laysFinal "GrantLedgerModel" "GrantLedgerModel" "times" "[I") ∈ lw_all := lw_g (lw_at lw_m0 138 rfl) rfl
theorem q149 : (Jvm.Cond.soleField "GrantLedgerModel" "times") ∈ lw_all := lw_g (lw_at lw_m0 139 rfl) rfl
theorem q150 : (Jvm.Cond.laysFinal "GrantLedgerModel" "GrantLedgerModel" "givers" "[I") ∈ lw_all := lw_g (lw_at lw_m0 140 rfl) rfl
theorem q151 : (Jvm.Cond.soleField "GrantLedgerModel" "givers") ∈ lw_all := lw_g (lw_at lw_m0 141 rfl) rfl
theorem q152 : (Jvm.Cond.laysFinal "GrantLedgerModel" "GrantLedgerModel" "takers" "[I") ∈ lw_all := lw_g (lw_at lw_m0 142 rfl) rfl
theorem q153 : (Jvm.Cond.soleField "GrantLedgerModel" "takers") ∈ lw_all := lw_g (lw_at lw_m0 143 rfl) rfl
theorem q154 : (Jvm.Cond.laysFinal "GrantLedgerModel" "GrantLedgerModel" "privileges" "[I") ∈ lw_all := lw_g (lw_at lw_m0 144 rfl) rfl
theorem q155 : (Jvm.Cond.soleField "GrantLedgerModel" "privileges") ∈ lw_all := lw_g (lw_at lw_m0 145 rfl) rfl
theorem q156 : (Jvm.Cond.laysFinal "GrantLedgerModel" "GrantLedgerModel" "options" "[Z") ∈ lw_all := lw_g (lw_at lw_m0 146 rfl) rfl
theorem q157 : (Jvm.Cond.soleField "GrantLedgerModel" "options") ∈ lw_all := lw_g (lw_at lw_m0 147 rfl) rfl
theorem q158 : (Jvm.Cond.lays "GrantLedgerModel" "GrantLedgerModel" "next" "I") ∈ lw_all := lw_g (lw_at lw_m0 148 rfl) rfl
theorem q159 : (Jvm.Cond.soleField "GrantLedgerModel" "next") ∈ lw_all := lw_g (lw_at lw_m0 149 rfl) rfl
theorem q160 : (Jvm.Cond.laysFinal "GrantLedgerModel" "GrantLedgerModel" "kept" "[Z") ∈ lw_all := lw_g (lw_at lw_m0 150 rfl) rfl
theorem q161 : (Jvm.Cond.soleField "GrantLedgerModel" "kept") ∈ lw_all := lw_g (lw_at lw_m0 151 rfl) rfl
theorem q162 : (Jvm.Cond.superclass "GrantLedgerModel" "java/lang/Object") ∈ lw_all := lw_g (lw_at lw_m0 152 rfl) rfl
theorem q164 : (Jvm.Cond.instanceMethod ({ cls := "GrantLedgerModel", name := "grant", desc := "(IIIZ)I" } : Jvm.MethodName)) ∈ lw_all := lw_g (lw_at lw_m0 154 rfl) rfl
theorem q165 : (Jvm.Cond.selects "GrantLedgerModel" ({ cls := "GrantLedgerModel", name := "grant", desc := "(IIIZ)I" } : Jvm.MethodName) ({ cls := "GrantLedgerModel", name := "grant", desc := "(IIIZ)I" } : Jvm.MethodName)) ∈ lw_all := lw_g (lw_at lw_m0 155 rfl) rfl
theorem q166 : (Jvm.Cond.code ({ cls := "GrantLedgerModel", name := "grant", desc := "(IIIZ)I" } : Jvm.MethodName) prog_3_method_4_code (5 : Nat) (Option.some Jvm.ClassFile.FieldType.int)) ∈ lw_all := lw_g (lw_at lw_m0 156 rfl) rfl
theorem q167 : (Jvm.Cond.methodLink "GrantLedgerModel" (29 : Nat) ({ cls := "GrantLedgerModel", name := "bad", desc := "(I)Z" } : Jvm.MethodName)) ∈ lw_all := lw_g (lw_at lw_m0 157 rfl) rfl
theorem q168 : (Jvm.Cond.static ({ cls := "GrantLedgerModel", name := "bad", desc := "(I)Z" } : Jvm.MethodName)) ∈ lw_all := lw_g (lw_at lw_m0 158 rfl) rfl
theorem q169 : (Jvm.Cond.code ({ cls := "GrantLedgerModel", name := "bad", desc := "(I)Z" } : Jvm.MethodName) prog_3_method_2_code (1 : Nat) (Option.some Jvm.ClassFile.FieldType.boolean)) ∈ lw_all := lw_g (lw_at lw_m0 159 rfl) rfl
theorem q170 : (Jvm.Cond.methodLink "GrantLedgerModel" (33 : Nat) ({ cls := "GrantLedgerModel", name := "badPrivilege", desc := "(I)Z" } : Jvm.MethodName)) ∈ lw_all := lw_g (lw_at lw_m0 160 rfl) rfl
theorem q171 : (Jvm.Cond.static ({ cls := "GrantLedgerModel", name := "badPrivilege", desc := "(I)Z" } : Jvm.MethodName)) ∈ lw_all := lw_g (lw_at lw_m0 161 rfl) rfl
theorem q172 : (Jvm.Cond.code ({ cls := "GrantLedgerModel", name := "badPrivilege", desc := "(I)Z" } : Jvm.MethodName) prog_3_method_3_code (1 : Nat) (Option.some Jvm.ClassFile.FieldType.boolean)) ∈ lw_all := lw_g (lw_at lw_m0 162 rfl) rfl
theorem q173 : (Jvm.Cond.methodLink "GrantLedgerModel" (40 : Nat) ({ cls := "GrantLedgerModel", name := "may", desc := "(II)I" } : Jvm.MethodName)) ∈ lw_all := lw_g (lw_at lw_m0 163 rfl) rfl
theorem q174 : (Jvm.Cond.instanceMethod ({ cls := "GrantLedgerModel", name := "may", desc := "(II)I" } : Jvm.MethodName)) ∈ lw_all := lw_g (lw_at lw_m0 164 rfl) rfl
theorem q175 : (Jvm.Cond.selects "GrantLedgerModel" ({ cls := "GrantLedgerModel", name := "may", desc := "(II)I" } : Jvm.MethodName) ({ cls := "GrantLedgerModel", name := "may", desc := "(II)I" } : Jvm.MethodName)) ∈ lw_all := lw_g (lw_at lw_m0 165 rfl) rfl
theorem q176 : (Jvm.Cond.code ({ cls := "GrantLedgerModel", name := "may", desc := "(II)I" } : Jvm.MethodName) prog_3_method_11_code (4 : Nat) (Option.some Jvm.ClassFile.FieldType.int)) ∈ lw_all := lw_g (lw_at lw_m0 166 rfl) rfl
theorem q178 : (Jvm.Cond.instanceMethod ({ cls := "GrantLedgerModel", name := "revoke", desc := "(III)I" } : Jvm.MethodName)) ∈ lw_all := lw_g (lw_at lw_m0 168 rfl) rfl
theorem q179 : (Jvm.Cond.selects "GrantLedgerModel" ({ cls := "GrantLedgerModel", name := "revoke", desc := "(III)I" } : Jvm.MethodName) ({ cls := "GrantLedgerModel", name := "revoke", desc := "(III)I" } : Jvm.MethodName)) ∈ lw_all := lw_g (lw_at lw_m0 169 rfl) rfl
theorem q180 : (Jvm.Cond.code ({ cls := "GrantLedgerModel", name := "revoke", desc := "(III)I" } : Jvm.MethodName) prog_3_method_8_code (5 : Nat) (Option.some Jvm.ClassFile.FieldType.int)) ∈ lw_all := lw_g (lw_at lw_m0 170 rfl) rfl
theorem q181 : (Jvm.Cond.methodLink "GrantLedgerModel" (50 : Nat) ({ cls := "GrantLedgerModel", name := "reach", desc := "(III)I" } : Jvm.MethodName)) ∈ lw_all := lw_g (lw_at lw_m0 171 rfl) rfl
theorem q182 : (Jvm.Cond.instanceMethod ({ cls := "GrantLedgerModel", name := "reach", desc := "(III)I" } : Jvm.MethodName)) ∈ lw_all := lw_g (lw_at lw_m0 172 rfl) rfl
theorem q183 : (Jvm.Cond.selects "GrantLedgerModel" ({ cls := "GrantLedgerModel", name := "reach", desc := "(III)I" } : Jvm.MethodName) ({ cls := "GrantLedgerModel", name := "reach", desc := "(III)I" } : Jvm.MethodName)) ∈ lw_all := lw_g (lw_at lw_m0 173 rfl) rfl
theorem q184 : (Jvm.Cond.code ({ cls := "GrantLedgerModel", name := "reach", desc := "(III)I" } : Jvm.MethodName) prog_3_method_15_code (5 : Nat) (Option.some Jvm.ClassFile.FieldType.int)) ∈ lw_all := lw_g (lw_at lw_m0 174 rfl) rfl
theorem q185 : (Jvm.Cond.methodLink "GrantLedgerModel" (57 : Nat) ({ cls := "GrantLedgerModel", name := "settle", desc := "()I" } : Jvm.MethodName)) ∈ lw_all := lw_g (lw_at lw_m0 175 rfl) rfl
theorem q186 : (Jvm.Cond.privateMethod ({ cls := "GrantLedgerModel", name := "settle", desc := "()I" } : Jvm.MethodName)) ∈ lw_tbl := lw_at lw_m0 176 rfl
theorem q187 : (Jvm.Cond.instanceMethod ({ cls := "GrantLedgerModel", name := "settle", desc := "()I" } : Jvm.MethodName)) ∈ lw_all := lw_g (lw_at lw_m0 177 rfl) rfl
theorem q188 : (Jvm.Cond.code ({ cls := "GrantLedgerModel", name := "settle", desc := "()I" } : Jvm.MethodName) prog_3_method_6_code (3 : Nat) (Option.some Jvm.ClassFile.FieldType.int)) ∈ lw_all := lw_g (lw_at lw_m0 178 rfl) rfl
theorem q189 : (Jvm.Cond.methodLink "GrantLedgerModel" (47 : Nat) ({ cls := "GrantLedgerModel", name := "founded", desc := "(I)Z" } : Jvm.MethodName)) ∈ lw_all := lw_g (lw_at lw_m0 179 rfl) rfl
theorem q190 : (Jvm.Cond.privateMethod ({ cls := "GrantLedgerModel", name := "founded", desc := "(I)Z" } : Jvm.MethodName)) ∈ lw_tbl := lw_at lw_m0 180 rfl
theorem q191 : (Jvm.Cond.instanceMethod ({ cls := "GrantLedgerModel", name := "founded", desc := "(I)Z" } : Jvm.MethodName)) ∈ lw_all := lw_g (lw_at lw_m0 181 rfl) rfl
theorem q192 : (Jvm.Cond.code ({ cls := "GrantLedgerModel", name := "founded", desc := "(I)Z" } : Jvm.MethodName) prog_3_method_5_code (3 : Nat) (Option.some Jvm.ClassFile.FieldType.boolean)) ∈ lw_all := lw_g (lw_at lw_m0 182 rfl) rfl
theorem q193 : (Jvm.Cond.methodLink "GrantLedgerModel" (54 : Nat) ({ cls := "GrantLedgerModel", name := "drop", desc := "()V" } : Jvm.MethodName)) ∈ lw_all := lw_g (lw_at lw_m0 183 rfl) rfl
theorem q194 : (Jvm.Cond.privateMethod ({ cls := "GrantLedgerModel", name := "drop", desc := "()V" } : Jvm.MethodName)) ∈ lw_tbl := lw_at lw_m0 184 rfl
theorem q195 : (Jvm.Cond.instanceMethod ({ cls := "GrantLedgerModel", name := "drop", desc := "()V" } : Jvm.MethodName)) ∈ lw_all := lw_g (lw_at lw_m0 185 rfl) rfl
theorem q196 : (Jvm.Cond.code ({ cls := "GrantLedgerModel", name := "drop", desc := "()V" } : Jvm.MethodName) prog_3_method_7_code (3 : Nat) (Option.none : Option Jvm.ClassFile.FieldType)) ∈ lw_all := lw_g (lw_at lw_m0 186 rfl) rfl
theorem q198 : (Jvm.Cond.instanceMethod ({ cls := "GrantLedgerModel", name := "expel", desc := "(I)I" } : Jvm.MethodName)) ∈ lw_all := lw_g (lw_at lw_m0 188 rfl) rfl
theorem q199 : (Jvm.Cond.selects "GrantLedgerModel" ({ cls := "GrantLedgerModel", name := "expel", desc := "(I)I" } : Jvm.MethodName) ({ cls := "GrantLedgerModel", name := "expel", desc := "(I)I" } : Jvm.MethodName)) ∈ lw_all := lw_g (lw_at lw_m0 189 rfl) rfl
theorem q200 : (Jvm.Cond.code ({ cls := "GrantLedgerModel", name := "expel", desc := "(I)I" } : Jvm.MethodName) prog_3_method_9_code (3 : Nat) (Option.some Jvm.ClassFile.FieldType.int)) ∈ lw_all := lw_g (lw_at lw_m0 190 rfl) rfl
theorem q202 : (Jvm.Cond.instanceMethod ({ cls := "GrantLedgerModel", name := "holds", desc := "(II)I" } : Jvm.MethodName)) ∈ lw_all := lw_g (lw_at lw_m0 192 rfl) rfl
theorem q203 : (Jvm.Cond.selects "GrantLedgerModel" ({ cls := "GrantLedgerModel", name := "holds", desc := "(II)I" } : Jvm.MethodName) ({ cls := "GrantLedgerModel", name := "holds", desc := "(II)I" } : Jvm.MethodName)) ∈ lw_all := lw_g (lw_at lw_m0 193 rfl) rfl
theorem q204 : (Jvm.Cond.code ({ cls := "GrantLedgerModel", name := "holds", desc := "(II)I" } : Jvm.MethodName) prog_3_method_10_code (3 : Nat) (Option.some Jvm.ClassFile.FieldType.int)) ∈ lw_all := lw_g (lw_at lw_m0 194 rfl) rfl
theorem q205 : (Jvm.Cond.methodLink "GrantLedgerModel" (61 : Nat) ({ cls := "GrantLedgerModel", name := "received", desc := "(II)I" } : Jvm.MethodName)) ∈ lw_all := lw_g (lw_at lw_m0 195 rfl) rfl
theorem q206 : (Jvm.Cond.instanceMethod ({ cls := "GrantLedgerModel", name := "received", desc := "(II)I" } : Jvm.MethodName)) ∈ lw_all := lw_g (lw_at lw_m0 196 rfl) rfl
theorem q207 : (Jvm.Cond.selects "GrantLedgerModel" ({ cls := "GrantLedgerModel", name := "received", desc := "(II)I" } : Jvm.MethodName) ({ cls := "GrantLedgerModel", name := "received", desc := "(II)I" } : Jvm.MethodName)) ∈ lw_all := lw_g (lw_at lw_m0 197 rfl) rfl
theorem q208 : (Jvm.Cond.code ({ cls := "GrantLedgerModel", name := "received", desc := "(II)I" } : Jvm.MethodName) prog_3_method_12_code (5 : Nat) (Option.some Jvm.ClassFile.FieldType.int)) ∈ lw_all := lw_g (lw_at lw_m0 198 rfl) rfl
theorem q212 : (Jvm.Cond.instanceMethod ({ cls := "GrantLedgerModel", name := "given", desc := "(II)I" } : Jvm.MethodName)) ∈ lw_all := lw_g (lw_at lw_m0 202 rfl) rfl
theorem q213 : (Jvm.Cond.selects "GrantLedgerModel" ({ cls := "GrantLedgerModel", name := "given", desc := "(II)I" } : Jvm.MethodName) ({ cls := "GrantLedgerModel", name := "given", desc := "(II)I" } : Jvm.MethodName)) ∈ lw_all := lw_g (lw_at lw_m0 203 rfl) rfl
theorem q214 : (Jvm.Cond.code ({ cls := "GrantLedgerModel", name := "given", desc := "(II)I" } : Jvm.MethodName) prog_3_method_13_code (5 : Nat) (Option.some Jvm.ClassFile.FieldType.int)) ∈ lw_all := lw_g (lw_at lw_m0 204 rfl) rfl
theorem q216 : (Jvm.Cond.instanceMethod ({ cls := "GrantLedgerModel", name := "stands", desc := "(I)I" } : Jvm.MethodName)) ∈ lw_all := lw_g (lw_at lw_m0 206 rfl) rfl
theorem q217 : (Jvm.Cond.selects "GrantLedgerModel" ({ cls := "GrantLedgerModel", name := "stands", desc := "(I)I" } : Jvm.MethodName) ({ cls := "GrantLedgerModel", name := "stands", desc := "(I)I" } : Jvm.MethodName)) ∈ lw_all := lw_g (lw_at lw_m0 207 rfl) rfl
theorem q218 : (Jvm.Cond.code ({ cls := "GrantLedgerModel", name := "stands", desc := "(I)I" } : Jvm.MethodName) prog_3_method_14_code (3 : Nat) (Option.some Jvm.ClassFile.FieldType.int)) ∈ lw_all := lw_g (lw_at lw_m0 208 rfl) rfl
theorem q221 : (Jvm.Cond.instanceMethod ({ cls := "GrantLedgerModel", name := "standing", desc := "()I" } : Jvm.MethodName)) ∈ lw_all := lw_g (lw_at lw_m0 211 rfl) rfl
theorem q222 : (Jvm.Cond.selects "GrantLedgerModel" ({ cls := "GrantLedgerModel", name := "standing", desc := "()I" } : Jvm.MethodName) ({ cls := "GrantLedgerModel", name := "standing", desc := "()I" } : Jvm.MethodName)) ∈ lw_all := lw_g (lw_at lw_m0 212 rfl) rfl
theorem q223 : (Jvm.Cond.code ({ cls := "GrantLedgerModel", name := "standing", desc := "()I" } : Jvm.MethodName) prog_3_method_16_code (1 : Nat) (Option.some Jvm.ClassFile.FieldType.int)) ∈ lw_all := lw_g (lw_at lw_m0 213 rfl) rfl
theorem in_X1 : ∀ w ∈ wsX10, w ∈ lw_all := lw_in wsX10 [146, 148, 150, 152, 154, 156, 158, 160] (by decide +kernel) (by decide +kernel)
theorem q10 : (Jvm.Cond.initialized "GrantLedgerLaw") ∈ lw_all := lw_g (lw_at lw_m0 0 rfl) rfl
set_option maxRecDepth 100000
theorem q13 : (Jvm.Cond.classLink "GrantLedgerLaw" (7 : Nat) "GrantLedger") ∈ lw_all := lw_g (lw_at lw_m0 3 rfl) rfl
theorem q15 : (Jvm.Cond.methodLink "GrantLedgerLaw" (9 : Nat) ({ cls := "GrantLedger", name := "<init>", desc := "()V" } : Jvm.MethodName)) ∈ lw_all := lw_g (lw_at lw_m0 5 rfl) rfl
theorem q57 : (Jvm.Cond.methodLink "GrantLedgerLaw" (13 : Nat) ({ cls := "GrantLedger", name := "grant", desc := "(IIIZ)I" } : Jvm.MethodName)) ∈ lw_all := lw_g (lw_at lw_m0 47 rfl) rfl
theorem q71 : (Jvm.Cond.methodLink "GrantLedgerLaw" (18 : Nat) ({ cls := "GrantLedger", name := "revoke", desc := "(III)I" } : Jvm.MethodName)) ∈ lw_all := lw_g (lw_at lw_m0 61 rfl) rfl
theorem q99 : (Jvm.Cond.methodLink "GrantLedgerLaw" (23 : Nat) ({ cls := "GrantLedger", name := "expel", desc := "(I)I" } : Jvm.MethodName)) ∈ lw_all := lw_g (lw_at lw_m0 89 rfl) rfl
theorem q103 : (Jvm.Cond.methodLink "GrantLedgerLaw" (28 : Nat) ({ cls := "GrantLedger", name := "holds", desc := "(II)I" } : Jvm.MethodName)) ∈ lw_all := lw_g (lw_at lw_m0 93 rfl) rfl
theorem q111 : (Jvm.Cond.methodLink "GrantLedgerLaw" (33 : Nat) ({ cls := "GrantLedger", name := "may", desc := "(II)I" } : Jvm.MethodName)) ∈ lw_all := lw_g (lw_at lw_m0 101 rfl) rfl
theorem q115 : (Jvm.Cond.methodLink "GrantLedgerLaw" (37 : Nat) ({ cls := "GrantLedger", name := "received", desc := "(II)I" } : Jvm.MethodName)) ∈ lw_all := lw_g (lw_at lw_m0 105 rfl) rfl
theorem q116 : (Jvm.Cond.methodLink "GrantLedgerLaw" (41 : Nat) ({ cls := "GrantLedger", name := "given", desc := "(II)I" } : Jvm.MethodName)) ∈ lw_all := lw_g (lw_at lw_m0 106 rfl) rfl
theorem q120 : (Jvm.Cond.methodLink "GrantLedgerLaw" (45 : Nat) ({ cls := "GrantLedger", name := "stands", desc := "(I)I" } : Jvm.MethodName)) ∈ lw_all := lw_g (lw_at lw_m0 110 rfl) rfl
theorem q124 : (Jvm.Cond.methodLink "GrantLedgerLaw" (49 : Nat) ({ cls := "GrantLedger", name := "reach", desc := "(III)I" } : Jvm.MethodName)) ∈ lw_all := lw_g (lw_at lw_m0 114 rfl) rfl
theorem q128 : (Jvm.Cond.methodLink "GrantLedgerLaw" (53 : Nat) ({ cls := "GrantLedger", name := "standing", desc := "()I" } : Jvm.MethodName)) ∈ lw_all := lw_g (lw_at lw_m0 118 rfl) rfl
theorem q132 : (Jvm.Cond.classLink "GrantLedgerLaw" (10 : Nat) "GrantLedgerModel") ∈ lw_all := lw_g (lw_at lw_m0 122 rfl) rfl
theorem q134 : (Jvm.Cond.methodLink "GrantLedgerLaw" (12 : Nat) ({ cls := "GrantLedgerModel", name := "<init>", desc := "()V" } : Jvm.MethodName)) ∈ lw_all := lw_g (lw_at lw_m0 124 rfl) rfl
theorem q163 : (Jvm.Cond.methodLink "GrantLedgerLaw" (17 : Nat) ({ cls := "GrantLedgerModel", name := "grant", desc := "(IIIZ)I" } : Jvm.MethodName)) ∈ lw_all := lw_g (lw_at lw_m0 153 rfl) rfl
theorem q177 : (Jvm.Cond.methodLink "GrantLedgerLaw" (22 : Nat) ({ cls := "GrantLedgerModel", name := "revoke", desc := "(III)I" } : Jvm.MethodName)) ∈ lw_all := lw_g (lw_at lw_m0 167 rfl) rfl
theorem q197 : (Jvm.Cond.methodLink "GrantLedgerLaw" (27 : Nat) ({ cls := "GrantLedgerModel", name := "expel", desc := "(I)I" } : Jvm.MethodName)) ∈ lw_all := lw_g (lw_at lw_m0 187 rfl) rfl
theorem q201 : (Jvm.Cond.methodLink "GrantLedgerLaw" (32 : Nat) ({ cls := "GrantLedgerModel", name := "holds", desc := "(II)I" } : Jvm.MethodName)) ∈ lw_all := lw_g (lw_at lw_m0 191 rfl) rfl
theorem q209 : (Jvm.Cond.methodLink "GrantLedgerLaw" (36 : Nat) ({ cls := "GrantLedgerModel", name := "may", desc := "(II)I" } : Jvm.MethodName)) ∈ lw_all := lw_g (lw_at lw_m0 199 rfl) rfl
theorem q210 : (Jvm.Cond.methodLink "GrantLedgerLaw" (40 : Nat) ({ cls := "GrantLedgerModel", name := "received", desc := "(II)I" } : Jvm.MethodName)) ∈ lw_all := lw_g (lw_at lw_m0 200 rfl) rfl
theorem q211 : (Jvm.Cond.methodLink "GrantLedgerLaw" (44 : Nat) ({ cls := "GrantLedgerModel", name := "given", desc := "(II)I" } : Jvm.MethodName)) ∈ lw_all := lw_g (lw_at lw_m0 201 rfl) rfl
theorem q215 : (Jvm.Cond.methodLink "GrantLedgerLaw" (48 : Nat) ({ cls := "GrantLedgerModel", name := "stands", desc := "(I)I" } : Jvm.MethodName)) ∈ lw_all := lw_g (lw_at lw_m0 205 rfl) rfl
theorem q219 : (Jvm.Cond.methodLink "GrantLedgerLaw" (52 : Nat) ({ cls := "GrantLedgerModel", name := "reach", desc := "(III)I" } : Jvm.MethodName)) ∈ lw_all := lw_g (lw_at lw_m0 209 rfl) rfl
theorem q220 : (Jvm.Cond.methodLink "GrantLedgerLaw" (57 : Nat) ({ cls := "GrantLedgerModel", name := "standing", desc := "()I" } : Jvm.MethodName)) ∈ lw_all := lw_g (lw_at lw_m0 210 rfl) rfl
theorem q55 : (Jvm.Cond.arrayClass Jvm.ClassFile.FieldType.int) ∈ lw_all := lw_g (lw_at lw_m0 45 rfl) rfl
set_option maxRecDepth 100000
theorem q56 : (Jvm.Cond.arrayClass Jvm.ClassFile.FieldType.boolean) ∈ lw_all := lw_g (lw_at lw_m0 46 rfl) rfl
/-! java/lang/Object -/
set_option maxRecDepth 100000
def RJ0 : String := "java/lang/Object"
abbrev cJ0_init : ByteArray := object_method_1_code
def yJ0_init : MethodName := ⟨RJ0, "<init>", "()V"⟩
theorem q19 : (Jvm.Cond.instanceMethod ({ cls := "java/lang/Object", name := "<init>", desc := "()V" } : Jvm.MethodName)) ∈ lw_all := lw_g (lw_at lw_m0 9 rfl) rfl
theorem q20 : (Jvm.Cond.code ({ cls := "java/lang/Object", name := "<init>", desc := "()V" } : Jvm.MethodName) object_method_1_code (1 : Nat) (Option.none : Option Jvm.ClassFile.FieldType)) ∈ lw_all := lw_g (lw_at lw_m0 10 rfl) rfl
/-! the law's own entry -/
set_option maxRecDepth 100000
abbrev cL_law : ByteArray := code
end
section
set_option maxRecDepth 100000
theorem dX0_init_0 : decode cX0_init 0 = .ok (.aload_n 0, 1) := by decide +kernel
theorem dX0_init_1 : decode cX0_init 1 = .ok (.invokespecial 1, 3) := by decide +kernel
theorem dX0_init_4 : decode cX0_init 4 = .ok (.aload_n 0, 1) := by decide +kernel
theorem dX0_init_5 : decode cX0_init 5 = .ok (.bipush 48, 2) := by decide +kernel
theorem dX0_init_7 : decode cX0_init 7 = .ok (.newarray .int, 2) := by decide +kernel
theorem dX0_init_9 : decode cX0_init 9 = .ok (.putfield 7, 3) := by decide +kernel
theorem dX0_init_12 : decode cX0_init 12 = .ok (.aload_n 0, 1) := by decide +kernel
theorem dX0_init_13 : decode cX0_init 13 = .ok (.bipush 48, 2) := by decide +kernel
theorem dX0_init_15 : decode cX0_init 15 = .ok (.newarray .int, 2) := by decide +kernel
theorem dX0_init_17 : decode cX0_init 17 = .ok (.putfield 13, 3) := by decide +kernel
theorem dX0_init_20 : decode cX0_init 20 = .ok (.aload_n 0, 1) := by decide +kernel
theorem dX0_init_21 : decode cX0_init 21 = .ok (.bipush 48, 2) := by decide +kernel
theorem dX0_init_23 : decode cX0_init 23 = .ok (.newarray .int, 2) := by decide +kernel
theorem dX0_init_25 : decode cX0_init 25 = .ok (.putfield 16, 3) := by decide +kernel
theorem dX0_init_28 : decode cX0_init 28 = .ok (.aload_n 0, 1) := by decide +kernel
theorem dX0_init_29 : decode cX0_init 29 = .ok (.bipush 48, 2) := by decide +kernel
theorem dX0_init_31 : decode cX0_init 31 = .ok (.newarray .int, 2) := by decide +kernel
theorem dX0_init_33 : decode cX0_init 33 = .ok (.putfield 19, 3) := by decide +kernel
theorem dX0_init_36 : decode cX0_init 36 = .ok (.aload_n 0, 1) := by decide +kernel
theorem dX0_init_37 : decode cX0_init 37 = .ok (.bipush 48, 2) := by decide +kernel
theorem dX0_init_39 : decode cX0_init 39 = .ok (.newarray .boolean, 2) := by decide +kernel
theorem dX0_init_41 : decode cX0_init 41 = .ok (.putfield 22, 3) := by decide +kernel
theorem dX0_init_44 : decode cX0_init 44 = .ok (.aload_n 0, 1) := by decide +kernel
theorem dX0_init_45 : decode cX0_init 45 = .ok (.bipush 48, 2) := by decide +kernel
theorem dX0_init_47 : decode cX0_init 47 = .ok (.newarray .boolean, 2) := by decide +kernel
theorem dX0_init_49 : decode cX0_init 49 = .ok (.putfield 26, 3) := by decide +kernel
theorem dX0_init_52 : decode cX0_init 52 = .ok (.aload_n 0, 1) := by decide +kernel
theorem dX0_init_53 : decode cX0_init 53 = .ok (.bipush 24, 2) := by decide +kernel
theorem dX0_init_55 : decode cX0_init 55 = .ok (.newarray .int, 2) := by decide +kernel
theorem dX0_init_57 : decode cX0_init 57 = .ok (.putfield 29, 3) := by decide +kernel
theorem dX0_init_60 : decode cX0_init 60 = .ok (.aload_n 0, 1) := by decide +kernel
theorem dX0_init_61 : decode cX0_init 61 = .ok (.bipush 24, 2) := by decide +kernel
theorem dX0_init_63 : decode cX0_init 63 = .ok (.newarray .boolean, 2) := by decide +kernel
theorem dX0_init_65 : decode cX0_init 65 = .ok (.putfield 32, 3) := by decide +kernel
theorem dX0_init_68 : decode cX0_init 68 = .ok (.return_, 1) := by decide +kernel
theorem dX0_grant_0 : decode cX0_grant 0 = .ok (.iload_n 1, 1) := by decide +kernel
theorem dX0_grant_1 : decode cX0_grant 1 = .ok (.invokestatic 35, 3) := by decide +kernel
theorem dX0_grant_4 : decode cX0_grant 4 = .ok (.ifCond .eq 35, 3) := by decide +kernel
theorem dX0_grant_7 : decode cX0_grant 7 = .ok (.iload_n 2, 1) := by decide +kernel
theorem dX0_grant_8 : decode cX0_grant 8 = .ok (.invokestatic 35, 3) := by decide +kernel
theorem dX0_grant_11 : decode cX0_grant 11 = .ok (.ifCond .eq 28, 3) := by decide +kernel
theorem dX0_grant_14 : decode cX0_grant 14 = .ok (.iload_n 1, 1) := by decide +kernel
theorem dX0_grant_15 : decode cX0_grant 15 = .ok (.iload_n 2, 1) := by decide +kernel
theorem dX0_grant_16 : decode cX0_grant 16 = .ok (.if_icmp .eq 23, 3) := by decide +kernel
theorem dX0_grant_19 : decode cX0_grant 19 = .ok (.iload_n 2, 1) := by decide +kernel
theorem dX0_grant_20 : decode cX0_grant 20 = .ok (.ifCond .eq 19, 3) := by decide +kernel
theorem dX0_grant_23 : decode cX0_grant 23 = .ok (.iload_n 3, 1) := by decide +kernel
theorem dX0_grant_24 : decode cX0_grant 24 = .ok (.invokestatic 39, 3) := by decide +kernel
theorem dX0_grant_27 : decode cX0_grant 27 = .ok (.ifCond .eq 12, 3) := by decide +kernel
theorem dX0_grant_30 : decode cX0_grant 30 = .ok (.aload_n 0, 1) := by decide +kernel
theorem dX0_grant_31 : decode cX0_grant 31 = .ok (.getfield 42, 3) := by decide +kernel
theorem dX0_grant_34 : decode cX0_grant 34 = .ok (.bipush 48, 2) := by decide +kernel
theorem dX0_grant_36 : decode cX0_grant 36 = .ok (.if_icmp .lt 5, 3) := by decide +kernel
theorem dX0_grant_39 : decode cX0_grant 39 = .ok (.iconst (-1), 1) := by decide +kernel
theorem dX0_grant_40 : decode cX0_grant 40 = .ok (.ireturn, 1) := by decide +kernel
theorem dX0_grant_41 : decode cX0_grant 41 = .ok (.iload_n 1, 1) := by decide +kernel
theorem dX0_grant_42 : decode cX0_grant 42 = .ok (.ifCond .eq 15, 3) := by decide +kernel
theorem dX0_grant_45 : decode cX0_grant 45 = .ok (.aload_n 0, 1) := by decide +kernel
theorem dX0_grant_46 : decode cX0_grant 46 = .ok (.iload_n 1, 1) := by decide +kernel
theorem dX0_grant_47 : decode cX0_grant 47 = .ok (.iload_n 3, 1) := by decide +kernel
theorem dX0_grant_48 : decode cX0_grant 48 = .ok (.invokevirtual 46, 3) := by decide +kernel
theorem dX0_grant_51 : decode cX0_grant 51 = .ok (.ifCond .ge 6, 3) := by decide +kernel
theorem dX0_grant_54 : decode cX0_grant 54 = .ok (.bipush (-2), 2) := by decide +kernel
theorem dX0_grant_56 : decode cX0_grant 56 = .ok (.ireturn, 1) := by decide +kernel
theorem dX0_grant_57 : decode cX0_grant 57 = .ok (.aload_n 0, 1) := by decide +kernel
theorem dX0_grant_58 : decode cX0_grant 58 = .ok (.getfield 7, 3) := by decide +kernel
theorem dX0_grant_61 : decode cX0_grant 61 = .ok (.aload_n 0, 1) := by decide +kernel
theorem dX0_grant_62 : decode cX0_grant 62 = .ok (.getfield 42, 3) := by decide +kernel
theorem dX0_grant_65 : decode cX0_grant 65 = .ok (.aload_n 0, 1) := by decide +kernel
theorem dX0_grant_66 : decode cX0_grant 66 = .ok (.getfield 50, 3) := by decide +kernel
theorem dX0_grant_69 : decode cX0_grant 69 = .ok (.iastore, 1) := by decide +kernel
theorem dX0_grant_70 : decode cX0_grant 70 = .ok (.aload_n 0, 1) := by decide +kernel
theorem dX0_grant_71 : decode cX0_grant 71 = .ok (.getfield 13, 3) := by decide +kernel
theorem dX0_grant_74 : decode cX0_grant 74 = .ok (.aload_n 0, 1) := by decide +kernel
theorem dX0_grant_75 : decode cX0_grant 75 = .ok (.getfield 42, 3) := by decide +kernel
theorem dX0_grant_78 : decode cX0_grant 78 = .ok (.iload_n 1, 1) := by decide +kernel
theorem dX0_grant_79 : decode cX0_grant 79 = .ok (.iastore, 1) := by decide +kernel
theorem dX0_grant_80 : decode cX0_grant 80 = .ok (.aload_n 0, 1) := by decide +kernel
theorem dX0_grant_81 : decode cX0_grant 81 = .ok (.getfield 16, 3) := by decide +kernel
theorem dX0_grant_84 : decode cX0_grant 84 = .ok (.aload_n 0, 1) := by decide +kernel
theorem dX0_grant_85 : decode cX0_grant 85 = .ok (.getfield 42, 3) := by decide +kernel
theorem dX0_grant_88 : decode cX0_grant 88 = .ok (.iload_n 2, 1) := by decide +kernel
theorem dX0_grant_89 : decode cX0_grant 89 = .ok (.iastore, 1) := by decide +kernel
theorem dX0_grant_90 : decode cX0_grant 90 = .ok (.aload_n 0, 1) := by decide +kernel
theorem dX0_grant_91 : decode cX0_grant 91 = .ok (.getfield 19, 3) := by decide +kernel
theorem dX0_grant_94 : decode cX0_grant 94 = .ok (.aload_n 0, 1) := by decide +kernel
theorem dX0_grant_95 : decode cX0_grant 95 = .ok (.getfield 42, 3) := by decide +kernel
theorem dX0_grant_98 : decode cX0_grant 98 = .ok (.iload_n 3, 1) := by decide +kernel
theorem dX0_grant_99 : decode cX0_grant 99 = .ok (.iastore, 1) := by decide +kernel
theorem dX0_grant_100 : decode cX0_grant 100 = .ok (.aload_n 0, 1) := by decide +kernel
theorem dX0_grant_101 : decode cX0_grant 101 = .ok (.getfield 22, 3) := by decide +kernel
theorem dX0_grant_104 : decode cX0_grant 104 = .ok (.aload_n 0, 1) := by decide +kernel
theorem dX0_grant_105 : decode cX0_grant 105 = .ok (.getfield 42, 3) := by decide +kernel
theorem dX0_grant_108 : decode cX0_grant 108 = .ok (.iload 4, 2) := by decide +kernel
theorem dX0_grant_110 : decode cX0_grant 110 = .ok (.bastore, 1) := by decide +kernel
theorem dX0_grant_111 : decode cX0_grant 111 = .ok (.aload_n 0, 1) := by decide +kernel
theorem dX0_grant_112 : decode cX0_grant 112 = .ok (.getfield 26, 3) := by decide +kernel
theorem dX0_grant_115 : decode cX0_grant 115 = .ok (.aload_n 0, 1) := by decide +kernel
theorem dX0_grant_116 : decode cX0_grant 116 = .ok (.getfield 42, 3) := by decide +kernel
theorem dX0_grant_119 : decode cX0_grant 119 = .ok (.iconst 0, 1) := by decide +kernel
theorem dX0_grant_120 : decode cX0_grant 120 = .ok (.bastore, 1) := by decide +kernel
theorem dX0_grant_121 : decode cX0_grant 121 = .ok (.aload_n 0, 1) := by decide +kernel
theorem dX0_grant_122 : decode cX0_grant 122 = .ok (.dup, 1) := by decide +kernel
theorem dX0_grant_123 : decode cX0_grant 123 = .ok (.getfield 42, 3) := by decide +kernel
theorem dX0_grant_126 : decode cX0_grant 126 = .ok (.iconst 1, 1) := by decide +kernel
theorem dX0_grant_127 : decode cX0_grant 127 = .ok (.iadd, 1) := by decide +kernel
theorem dX0_grant_128 : decode cX0_grant 128 = .ok (.putfield 42, 3) := by decide +kernel
theorem dX0_grant_131 : decode cX0_grant 131 = .ok (.aload_n 0, 1) := by decide +kernel
theorem dX0_grant_132 : decode cX0_grant 132 = .ok (.dup, 1) := by decide +kernel
theorem dX0_grant_133 : decode cX0_grant 133 = .ok (.getfield 50, 3) := by decide +kernel
theorem dX0_grant_136 : decode cX0_grant 136 = .ok (.iconst 1, 1) := by decide +kernel
theorem dX0_grant_137 : decode cX0_grant 137 = .ok (.iadd, 1) := by decide +kernel
theorem dX0_grant_138 : decode cX0_grant 138 = .ok (.putfield 50, 3) := by decide +kernel
theorem dX0_grant_141 : decode cX0_grant 141 = .ok (.aload_n 0, 1) := by decide +kernel
theorem dX0_grant_142 : decode cX0_grant 142 = .ok (.getfield 50, 3) := by decide +kernel
theorem dX0_grant_145 : decode cX0_grant 145 = .ok (.iconst 1, 1) := by decide +kernel
theorem dX0_grant_146 : decode cX0_grant 146 = .ok (.isub, 1) := by decide +kernel
theorem dX0_grant_147 : decode cX0_grant 147 = .ok (.ireturn, 1) := by decide +kernel
theorem dX0_isUser_0 : decode cX0_isUser 0 = .ok (.iload_n 0, 1) := by decide +kernel
theorem dX0_isUser_1 : decode cX0_isUser 1 = .ok (.ifCond .lt 13, 3) := by decide +kernel
theorem dX0_isUser_4 : decode cX0_isUser 4 = .ok (.iload_n 0, 1) := by decide +kernel
theorem dX0_isUser_5 : decode cX0_isUser 5 = .ok (.bipush 7, 2) := by decide +kernel
theorem dX0_isUser_7 : decode cX0_isUser 7 = .ok (.if_icmp .gt 7, 3) := by decide +kernel
theorem dX0_isUser_10 : decode cX0_isUser 10 = .ok (.iconst 1, 1) := by decide +kernel
theorem dX0_isUser_11 : decode cX0_isUser 11 = .ok (.goto 4, 3) := by decide +kernel
theorem dX0_isUser_14 : decode cX0_isUser 14 = .ok (.iconst 0, 1) := by decide +kernel
theorem dX0_isUser_15 : decode cX0_isUser 15 = .ok (.ireturn, 1) := by decide +kernel
theorem dX0_isPrivilege_0 : decode cX0_isPrivilege 0 = .ok (.iload_n 0, 1) := by decide +kernel
theorem dX0_isPrivilege_1 : decode cX0_isPrivilege 1 = .ok (.ifCond .lt 12, 3) := by decide +kernel
theorem dX0_isPrivilege_4 : decode cX0_isPrivilege 4 = .ok (.iload_n 0, 1) := by decide +kernel
theorem dX0_isPrivilege_5 : decode cX0_isPrivilege 5 = .ok (.iconst 2, 1) := by decide +kernel
theorem dX0_isPrivilege_6 : decode cX0_isPrivilege 6 = .ok (.if_icmp .gt 7, 3) := by decide +kernel
theorem dX0_isPrivilege_9 : decode cX0_isPrivilege 9 = .ok (.iconst 1, 1) := by decide +kernel
theorem dX0_isPrivilege_10 : decode cX0_isPrivilege 10 = .ok (.goto 4, 3) := by decide +kernel
theorem dX0_isPrivilege_13 : decode cX0_isPrivilege 13 = .ok (.iconst 0, 1) := by decide +kernel
theorem dX0_isPrivilege_14 : decode cX0_isPrivilege 14 = .ok (.ireturn, 1) := by decide +kernel
theorem dX0_earliest_0 : decode cX0_earliest 0 = .ok (.iconst 0, 1) := by decide +kernel
theorem dX0_earliest_1 : decode cX0_earliest 1 = .ok (.istore_n 3, 1) := by decide +kernel
theorem dX0_earliest_2 : decode cX0_earliest 2 = .ok (.iload_n 3, 1) := by decide +kernel
theorem dX0_earliest_3 : decode cX0_earliest 3 = .ok (.aload_n 0, 1) := by decide +kernel
theorem dX0_earliest_4 : decode cX0_earliest 4 = .ok (.getfield 42, 3) := by decide +kernel
theorem dX0_earliest_7 : decode cX0_earliest 7 = .ok (.if_icmp .ge 54, 3) := by decide +kernel
theorem dX0_earliest_10 : decode cX0_earliest 10 = .ok (.aload_n 0, 1) := by decide +kernel
theorem dX0_earliest_11 : decode cX0_earliest 11 = .ok (.getfield 16, 3) := by decide +kernel
theorem dX0_earliest_14 : decode cX0_earliest 14 = .ok (.iload_n 3, 1) := by decide +kernel
theorem dX0_earliest_15 : decode cX0_earliest 15 = .ok (.iaload, 1) := by decide +kernel
theorem dX0_earliest_16 : decode cX0_earliest 16 = .ok (.iload_n 1, 1) := by decide +kernel
theorem dX0_earliest_17 : decode cX0_earliest 17 = .ok (.if_icmp .ne 38, 3) := by decide +kernel
theorem dX0_earliest_20 : decode cX0_earliest 20 = .ok (.aload_n 0, 1) := by decide +kernel
theorem dX0_earliest_21 : decode cX0_earliest 21 = .ok (.getfield 19, 3) := by decide +kernel
theorem dX0_earliest_24 : decode cX0_earliest 24 = .ok (.iload_n 3, 1) := by decide +kernel
theorem dX0_earliest_25 : decode cX0_earliest 25 = .ok (.iaload, 1) := by decide +kernel
theorem dX0_earliest_26 : decode cX0_earliest 26 = .ok (.iload_n 2, 1) := by decide +kernel
theorem dX0_earliest_27 : decode cX0_earliest 27 = .ok (.if_icmp .ne 28, 3) := by decide +kernel
theorem dX0_earliest_30 : decode cX0_earliest 30 = .ok (.aload_n 0, 1) := by decide +kernel
theorem dX0_earliest_31 : decode cX0_earliest 31 = .ok (.getfield 22, 3) := by decide +kernel
theorem dX0_earliest_34 : decode cX0_earliest 34 = .ok (.iload_n 3, 1) := by decide +kernel
theorem dX0_earliest_35 : decode cX0_earliest 35 = .ok (.baload, 1) := by decide +kernel
theorem dX0_earliest_36 : decode cX0_earliest 36 = .ok (.ifCond .eq 19, 3) := by decide +kernel
theorem dX0_earliest_39 : decode cX0_earliest 39 = .ok (.aload_n 0, 1) := by decide +kernel
theorem dX0_earliest_40 : decode cX0_earliest 40 = .ok (.getfield 26, 3) := by decide +kernel
theorem dX0_earliest_43 : decode cX0_earliest 43 = .ok (.iload_n 3, 1) := by decide +kernel
theorem dX0_earliest_44 : decode cX0_earliest 44 = .ok (.baload, 1) := by decide +kernel
theorem dX0_earliest_45 : decode cX0_earliest 45 = .ok (.ifCond .ne 10, 3) := by decide +kernel
theorem dX0_earliest_48 : decode cX0_earliest 48 = .ok (.aload_n 0, 1) := by decide +kernel
theorem dX0_earliest_49 : decode cX0_earliest 49 = .ok (.getfield 7, 3) := by decide +kernel
theorem dX0_earliest_52 : decode cX0_earliest 52 = .ok (.iload_n 3, 1) := by decide +kernel
theorem dX0_earliest_53 : decode cX0_earliest 53 = .ok (.iaload, 1) := by decide +kernel
theorem dX0_earliest_54 : decode cX0_earliest 54 = .ok (.ireturn, 1) := by decide +kernel
theorem dX0_earliest_55 : decode cX0_earliest 55 = .ok (.iinc 3 1, 3) := by decide +kernel
theorem dX0_earliest_58 : decode cX0_earliest 58 = .ok (.goto (-56), 3) := by decide +kernel
theorem dX0_earliest_61 : decode cX0_earliest 61 = .ok (.iconst (-1), 1) := by decide +kernel
theorem dX0_earliest_62 : decode cX0_earliest 62 = .ok (.ireturn, 1) := by decide +kernel
theorem dX0_revoke_0 : decode cX0_revoke 0 = .ok (.iload_n 1, 1) := by decide +kernel
theorem dX0_revoke_1 : decode cX0_revoke 1 = .ok (.invokestatic 35, 3) := by decide +kernel
theorem dX0_revoke_4 : decode cX0_revoke 4 = .ok (.ifCond .eq 17, 3) := by decide +kernel
theorem dX0_revoke_7 : decode cX0_revoke 7 = .ok (.iload_n 2, 1) := by decide +kernel
theorem dX0_revoke_8 : decode cX0_revoke 8 = .ok (.invokestatic 35, 3) := by decide +kernel
theorem dX0_revoke_11 : decode cX0_revoke 11 = .ok (.ifCond .eq 10, 3) := by decide +kernel
theorem dX0_revoke_14 : decode cX0_revoke 14 = .ok (.iload_n 3, 1) := by decide +kernel
theorem dX0_revoke_15 : decode cX0_revoke 15 = .ok (.invokestatic 39, 3) := by decide +kernel
theorem dX0_revoke_18 : decode cX0_revoke 18 = .ok (.ifCond .ne 5, 3) := by decide +kernel
theorem dX0_revoke_21 : decode cX0_revoke 21 = .ok (.iconst (-1), 1) := by decide +kernel
theorem dX0_revoke_22 : decode cX0_revoke 22 = .ok (.ireturn, 1) := by decide +kernel
theorem dX0_revoke_23 : decode cX0_revoke 23 = .ok (.aload_n 0, 1) := by decide +kernel
theorem dX0_revoke_24 : decode cX0_revoke 24 = .ok (.iload_n 1, 1) := by decide +kernel
theorem dX0_revoke_25 : decode cX0_revoke 25 = .ok (.iload_n 2, 1) := by decide +kernel
theorem dX0_revoke_26 : decode cX0_revoke 26 = .ok (.iload_n 3, 1) := by decide +kernel
theorem dX0_revoke_27 : decode cX0_revoke 27 = .ok (.invokevirtual 53, 3) := by decide +kernel
theorem dX0_revoke_30 : decode cX0_revoke 30 = .ok (.aload_n 0, 1) := by decide +kernel
theorem dX0_revoke_31 : decode cX0_revoke 31 = .ok (.invokevirtual 57, 3) := by decide +kernel
theorem dX0_revoke_34 : decode cX0_revoke 34 = .ok (.aload_n 0, 1) := by decide +kernel
theorem dX0_revoke_35 : decode cX0_revoke 35 = .ok (.invokevirtual 60, 3) := by decide +kernel
theorem dX0_revoke_38 : decode cX0_revoke 38 = .ok (.ireturn, 1) := by decide +kernel
theorem dX0_mark_0 : decode cX0_mark 0 = .ok (.aload_n 0, 1) := by decide +kernel
theorem dX0_mark_1 : decode cX0_mark 1 = .ok (.invokevirtual 64, 3) := by decide +kernel
theorem dX0_mark_4 : decode cX0_mark 4 = .ok (.iconst 0, 1) := by decide +kernel
theorem dX0_mark_5 : decode cX0_mark 5 = .ok (.istore 4, 2) := by decide +kernel
theorem dX0_mark_7 : decode cX0_mark 7 = .ok (.iload 4, 2) := by decide +kernel
theorem dX0_mark_9 : decode cX0_mark 9 = .ok (.aload_n 0, 1) := by decide +kernel
theorem dX0_mark_10 : decode cX0_mark 10 = .ok (.getfield 42, 3) := by decide +kernel
theorem dX0_mark_13 : decode cX0_mark 13 = .ok (.if_icmp .ge 48, 3) := by decide +kernel
theorem dX0_mark_16 : decode cX0_mark 16 = .ok (.aload_n 0, 1) := by decide +kernel
theorem dX0_mark_17 : decode cX0_mark 17 = .ok (.getfield 13, 3) := by decide +kernel
theorem dX0_mark_20 : decode cX0_mark 20 = .ok (.iload 4, 2) := by decide +kernel
theorem dX0_mark_22 : decode cX0_mark 22 = .ok (.iaload, 1) := by decide +kernel
theorem dX0_mark_23 : decode cX0_mark 23 = .ok (.iload_n 1, 1) := by decide +kernel
theorem dX0_mark_24 : decode cX0_mark 24 = .ok (.if_icmp .ne 31, 3) := by decide +kernel
theorem dX0_mark_27 : decode cX0_mark 27 = .ok (.aload_n 0, 1) := by decide +kernel
theorem dX0_mark_28 : decode cX0_mark 28 = .ok (.getfield 16, 3) := by decide +kernel
theorem dX0_mark_31 : decode cX0_mark 31 = .ok (.iload 4, 2) := by decide +kernel
theorem dX0_mark_33 : decode cX0_mark 33 = .ok (.iaload, 1) := by decide +kernel
theorem dX0_mark_34 : decode cX0_mark 34 = .ok (.iload_n 2, 1) := by decide +kernel
theorem dX0_mark_35 : decode cX0_mark 35 = .ok (.if_icmp .ne 20, 3) := by decide +kernel
theorem dX0_mark_38 : decode cX0_mark 38 = .ok (.aload_n 0, 1) := by decide +kernel
theorem dX0_mark_39 : decode cX0_mark 39 = .ok (.getfield 19, 3) := by decide +kernel
theorem dX0_mark_42 : decode cX0_mark 42 = .ok (.iload 4, 2) := by decide +kernel
theorem dX0_mark_44 : decode cX0_mark 44 = .ok (.iaload, 1) := by decide +kernel
theorem dX0_mark_45 : decode cX0_mark 45 = .ok (.iload_n 3, 1) := by decide +kernel
theorem dX0_mark_46 : decode cX0_mark 46 = .ok (.if_icmp .ne 9, 3) := by decide +kernel
theorem dX0_mark_49 : decode cX0_mark 49 = .ok (.aload_n 0, 1) := by decide +kernel
theorem dX0_mark_50 : decode cX0_mark 50 = .ok (.iload 4, 2) := by decide +kernel
theorem dX0_mark_52 : decode cX0_mark 52 = .ok (.invokevirtual 67, 3) := by decide +kernel
theorem dX0_mark_55 : decode cX0_mark 55 = .ok (.iinc 4 1, 3) := by decide +kernel
theorem dX0_mark_58 : decode cX0_mark 58 = .ok (.goto (-51), 3) := by decide +kernel
theorem dX0_mark_61 : decode cX0_mark 61 = .ok (.return_, 1) := by decide +kernel
theorem dX0_clearMarks_0 : decode cX0_clearMarks 0 = .ok (.iconst 0, 1) := by decide +kernel
theorem dX0_clearMarks_1 : decode cX0_clearMarks 1 = .ok (.istore_n 1, 1) := by decide +kernel
theorem dX0_clearMarks_2 : decode cX0_clearMarks 2 = .ok (.iload_n 1, 1) := by decide +kernel
theorem dX0_clearMarks_3 : decode cX0_clearMarks 3 = .ok (.aload_n 0, 1) := by decide +kernel
theorem dX0_clearMarks_4 : decode cX0_clearMarks 4 = .ok (.getfield 42, 3) := by decide +kernel
theorem dX0_clearMarks_7 : decode cX0_clearMarks 7 = .ok (.if_icmp .ge 16, 3) := by decide +kernel
theorem dX0_clearMarks_10 : decode cX0_clearMarks 10 = .ok (.aload_n 0, 1) := by decide +kernel
theorem dX0_clearMarks_11 : decode cX0_clearMarks 11 = .ok (.getfield 26, 3) := by decide +kernel
theorem dX0_clearMarks_14 : decode cX0_clearMarks 14 = .ok (.iload_n 1, 1) := by decide +kernel
theorem dX0_clearMarks_15 : decode cX0_clearMarks 15 = .ok (.iconst 0, 1) := by decide +kernel
theorem dX0_clearMarks_16 : decode cX0_clearMarks 16 = .ok (.bastore, 1) := by decide +kernel
theorem dX0_clearMarks_17 : decode cX0_clearMarks 17 = .ok (.iinc 1 1, 3) := by decide +kernel
theorem dX0_clearMarks_20 : decode cX0_clearMarks 20 = .ok (.goto (-18), 3) := by decide +kernel
theorem dX0_clearMarks_23 : decode cX0_clearMarks 23 = .ok (.return_, 1) := by decide +kernel
theorem dX0_letFall_0 : decode cX0_letFall 0 = .ok (.aload_n 0, 1) := by decide +kernel
theorem dX0_letFall_1 : decode cX0_letFall 1 = .ok (.getfield 26, 3) := by decide +kernel
theorem dX0_letFall_4 : decode cX0_letFall 4 = .ok (.iload_n 1, 1) := by decide +kernel
theorem dX0_letFall_5 : decode cX0_letFall 5 = .ok (.iconst 1, 1) := by decide +kernel
theorem dX0_letFall_6 : decode cX0_letFall 6 = .ok (.bastore, 1) := by decide +kernel
theorem dX0_letFall_7 : decode cX0_letFall 7 = .ok (.iconst 3, 1) := by decide +kernel
theorem dX0_letFall_8 : decode cX0_letFall 8 = .ok (.aload_n 0, 1) := by decide +kernel
theorem dX0_letFall_9 : decode cX0_letFall 9 = .ok (.getfield 16, 3) := by decide +kernel
theorem dX0_letFall_12 : decode cX0_letFall 12 = .ok (.iload_n 1, 1) := by decide +kernel
theorem dX0_letFall_13 : decode cX0_letFall 13 = .ok (.iaload, 1) := by decide +kernel
theorem dX0_letFall_14 : decode cX0_letFall 14 = .ok (.imul, 1) := by decide +kernel
theorem dX0_letFall_15 : decode cX0_letFall 15 = .ok (.aload_n 0, 1) := by decide +kernel
theorem dX0_letFall_16 : decode cX0_letFall 16 = .ok (.getfield 19, 3) := by decide +kernel
theorem dX0_letFall_19 : decode cX0_letFall 19 = .ok (.iload_n 1, 1) := by decide +kernel
theorem dX0_letFall_20 : decode cX0_letFall 20 = .ok (.iaload, 1) := by decide +kernel
theorem dX0_letFall_21 : decode cX0_letFall 21 = .ok (.iadd, 1) := by decide +kernel
theorem dX0_letFall_22 : decode cX0_letFall 22 = .ok (.istore_n 2, 1) := by decide +kernel
theorem dX0_letFall_23 : decode cX0_letFall 23 = .ok (.aload_n 0, 1) := by decide +kernel
theorem dX0_letFall_24 : decode cX0_letFall 24 = .ok (.getfield 22, 3) := by decide +kernel
theorem dX0_letFall_27 : decode cX0_letFall 27 = .ok (.iload_n 1, 1) := by decide +kernel
theorem dX0_letFall_28 : decode cX0_letFall 28 = .ok (.baload, 1) := by decide +kernel
theorem dX0_letFall_29 : decode cX0_letFall 29 = .ok (.ifCond .eq 39, 3) := by decide +kernel
theorem dX0_letFall_32 : decode cX0_letFall 32 = .ok (.aload_n 0, 1) := by decide +kernel
theorem dX0_letFall_33 : decode cX0_letFall 33 = .ok (.getfield 32, 3) := by decide +kernel
theorem dX0_letFall_36 : decode cX0_letFall 36 = .ok (.iload_n 2, 1) := by decide +kernel
theorem dX0_letFall_37 : decode cX0_letFall 37 = .ok (.baload, 1) := by decide +kernel
theorem dX0_letFall_38 : decode cX0_letFall 38 = .ok (.ifCond .ne 30, 3) := by decide +kernel
theorem dX0_letFall_41 : decode cX0_letFall 41 = .ok (.aload_n 0, 1) := by decide +kernel
theorem dX0_letFall_42 : decode cX0_letFall 42 = .ok (.getfield 32, 3) := by decide +kernel
theorem dX0_letFall_45 : decode cX0_letFall 45 = .ok (.iload_n 2, 1) := by decide +kernel
theorem dX0_letFall_46 : decode cX0_letFall 46 = .ok (.iconst 1, 1) := by decide +kernel
theorem dX0_letFall_47 : decode cX0_letFall 47 = .ok (.bastore, 1) := by decide +kernel
theorem dX0_letFall_48 : decode cX0_letFall 48 = .ok (.aload_n 0, 1) := by decide +kernel
theorem dX0_letFall_49 : decode cX0_letFall 49 = .ok (.getfield 29, 3) := by decide +kernel
theorem dX0_letFall_52 : decode cX0_letFall 52 = .ok (.aload_n 0, 1) := by decide +kernel
theorem dX0_letFall_53 : decode cX0_letFall 53 = .ok (.getfield 74, 3) := by decide +kernel
theorem dX0_letFall_56 : decode cX0_letFall 56 = .ok (.iload_n 2, 1) := by decide +kernel
theorem dX0_letFall_57 : decode cX0_letFall 57 = .ok (.iastore, 1) := by decide +kernel
theorem dX0_letFall_58 : decode cX0_letFall 58 = .ok (.aload_n 0, 1) := by decide +kernel
theorem dX0_letFall_59 : decode cX0_letFall 59 = .ok (.dup, 1) := by decide +kernel
theorem dX0_letFall_60 : decode cX0_letFall 60 = .ok (.getfield 74, 3) := by decide +kernel
theorem dX0_letFall_63 : decode cX0_letFall 63 = .ok (.iconst 1, 1) := by decide +kernel
theorem dX0_letFall_64 : decode cX0_letFall 64 = .ok (.iadd, 1) := by decide +kernel
theorem dX0_letFall_65 : decode cX0_letFall 65 = .ok (.putfield 74, 3) := by decide +kernel
theorem dX0_letFall_68 : decode cX0_letFall 68 = .ok (.return_, 1) := by decide +kernel
theorem dX0_spread_0 : decode cX0_spread 0 = .ok (.iconst 0, 1) := by decide +kernel
theorem dX0_spread_1 : decode cX0_spread 1 = .ok (.istore_n 1, 1) := by decide +kernel
theorem dX0_spread_2 : decode cX0_spread 2 = .ok (.iload_n 1, 1) := by decide +kernel
theorem dX0_spread_3 : decode cX0_spread 3 = .ok (.bipush 100, 2) := by decide +kernel
theorem dX0_spread_5 : decode cX0_spread 5 = .ok (.if_icmp .ge 53, 3) := by decide +kernel
theorem dX0_spread_8 : decode cX0_spread 8 = .ok (.aload_n 0, 1) := by decide +kernel
theorem dX0_spread_9 : decode cX0_spread 9 = .ok (.getfield 74, 3) := by decide +kernel
theorem dX0_spread_12 : decode cX0_spread 12 = .ok (.ifCond .le 46, 3) := by decide +kernel
theorem dX0_spread_15 : decode cX0_spread 15 = .ok (.aload_n 0, 1) := by decide +kernel
theorem dX0_spread_16 : decode cX0_spread 16 = .ok (.dup, 1) := by decide +kernel
theorem dX0_spread_17 : decode cX0_spread 17 = .ok (.getfield 74, 3) := by decide +kernel
theorem dX0_spread_20 : decode cX0_spread 20 = .ok (.iconst 1, 1) := by decide +kernel
theorem dX0_spread_21 : decode cX0_spread 21 = .ok (.isub, 1) := by decide +kernel
theorem dX0_spread_22 : decode cX0_spread 22 = .ok (.putfield 74, 3) := by decide +kernel
theorem dX0_spread_25 : decode cX0_spread 25 = .ok (.aload_n 0, 1) := by decide +kernel
theorem dX0_spread_26 : decode cX0_spread 26 = .ok (.getfield 29, 3) := by decide +kernel
theorem dX0_spread_29 : decode cX0_spread 29 = .ok (.aload_n 0, 1) := by decide +kernel
theorem dX0_spread_30 : decode cX0_spread 30 = .ok (.getfield 74, 3) := by decide +kernel
theorem dX0_spread_33 : decode cX0_spread 33 = .ok (.iaload, 1) := by decide +kernel
theorem dX0_spread_34 : decode cX0_spread 34 = .ok (.istore_n 2, 1) := by decide +kernel
theorem dX0_spread_35 : decode cX0_spread 35 = .ok (.aload_n 0, 1) := by decide +kernel
theorem dX0_spread_36 : decode cX0_spread 36 = .ok (.getfield 32, 3) := by decide +kernel
theorem dX0_spread_39 : decode cX0_spread 39 = .ok (.iload_n 2, 1) := by decide +kernel
theorem dX0_spread_40 : decode cX0_spread 40 = .ok (.iconst 0, 1) := by decide +kernel
theorem dX0_spread_41 : decode cX0_spread 41 = .ok (.bastore, 1) := by decide +kernel
theorem dX0_spread_42 : decode cX0_spread 42 = .ok (.aload_n 0, 1) := by decide +kernel
theorem dX0_spread_43 : decode cX0_spread 43 = .ok (.iload_n 2, 1) := by decide +kernel
theorem dX0_spread_44 : decode cX0_spread 44 = .ok (.iconst 3, 1) := by decide +kernel
theorem dX0_spread_45 : decode cX0_spread 45 = .ok (.idiv, 1) := by decide +kernel
theorem dX0_spread_46 : decode cX0_spread 46 = .ok (.iload_n 2, 1) := by decide +kernel
theorem dX0_spread_47 : decode cX0_spread 47 = .ok (.iconst 3, 1) := by decide +kernel
theorem dX0_spread_48 : decode cX0_spread 48 = .ok (.irem, 1) := by decide +kernel
theorem dX0_spread_49 : decode cX0_spread 49 = .ok (.invokevirtual 77, 3) := by decide +kernel
theorem dX0_spread_52 : decode cX0_spread 52 = .ok (.iinc 1 1, 3) := by decide +kernel
theorem dX0_spread_55 : decode cX0_spread 55 = .ok (.goto (-53), 3) := by decide +kernel
theorem dX0_spread_58 : decode cX0_spread 58 = .ok (.return_, 1) := by decide +kernel
theorem dX0_review_0 : decode cX0_review 0 = .ok (.aload_n 0, 1) := by decide +kernel
theorem dX0_review_1 : decode cX0_review 1 = .ok (.iload_n 1, 1) := by decide +kernel
theorem dX0_review_2 : decode cX0_review 2 = .ok (.iload_n 2, 1) := by decide +kernel
theorem dX0_review_3 : decode cX0_review 3 = .ok (.invokevirtual 46, 3) := by decide +kernel
theorem dX0_review_6 : decode cX0_review 6 = .ok (.istore_n 3, 1) := by decide +kernel
theorem dX0_review_7 : decode cX0_review 7 = .ok (.iconst 0, 1) := by decide +kernel
theorem dX0_review_8 : decode cX0_review 8 = .ok (.istore 4, 2) := by decide +kernel
theorem dX0_review_10 : decode cX0_review 10 = .ok (.iload 4, 2) := by decide +kernel
theorem dX0_review_12 : decode cX0_review 12 = .ok (.aload_n 0, 1) := by decide +kernel
theorem dX0_review_13 : decode cX0_review 13 = .ok (.getfield 42, 3) := by decide +kernel
theorem dX0_review_16 : decode cX0_review 16 = .ok (.if_icmp .ge 74, 3) := by decide +kernel
theorem dX0_review_19 : decode cX0_review 19 = .ok (.aload_n 0, 1) := by decide +kernel
theorem dX0_review_20 : decode cX0_review 20 = .ok (.getfield 13, 3) := by decide +kernel
theorem dX0_review_23 : decode cX0_review 23 = .ok (.iload 4, 2) := by decide +kernel
theorem dX0_review_25 : decode cX0_review 25 = .ok (.iaload, 1) := by decide +kernel
theorem dX0_review_26 : decode cX0_review 26 = .ok (.iload_n 1, 1) := by decide +kernel
theorem dX0_review_27 : decode cX0_review 27 = .ok (.if_icmp .ne 28, 3) := by decide +kernel
theorem dX0_review_30 : decode cX0_review 30 = .ok (.aload_n 0, 1) := by decide +kernel
theorem dX0_review_31 : decode cX0_review 31 = .ok (.getfield 19, 3) := by decide +kernel
theorem dX0_review_34 : decode cX0_review 34 = .ok (.iload 4, 2) := by decide +kernel
theorem dX0_review_36 : decode cX0_review 36 = .ok (.iaload, 1) := by decide +kernel
theorem dX0_review_37 : decode cX0_review 37 = .ok (.iload_n 2, 1) := by decide +kernel
theorem dX0_review_38 : decode cX0_review 38 = .ok (.if_icmp .ne 17, 3) := by decide +kernel
theorem dX0_review_41 : decode cX0_review 41 = .ok (.aload_n 0, 1) := by decide +kernel
theorem dX0_review_42 : decode cX0_review 42 = .ok (.getfield 26, 3) := by decide +kernel
theorem dX0_review_45 : decode cX0_review 45 = .ok (.iload 4, 2) := by decide +kernel
theorem dX0_review_47 : decode cX0_review 47 = .ok (.baload, 1) := by decide +kernel
theorem dX0_review_48 : decode cX0_review 48 = .ok (.ifCond .ne 7, 3) := by decide +kernel
theorem dX0_review_51 : decode cX0_review 51 = .ok (.iconst 1, 1) := by decide +kernel
theorem dX0_review_52 : decode cX0_review 52 = .ok (.goto 4, 3) := by decide +kernel
theorem dX0_review_55 : decode cX0_review 55 = .ok (.iconst 0, 1) := by decide +kernel
theorem dX0_review_56 : decode cX0_review 56 = .ok (.istore 5, 2) := by decide +kernel
theorem dX0_review_58 : decode cX0_review 58 = .ok (.iload 5, 2) := by decide +kernel
theorem dX0_review_60 : decode cX0_review 60 = .ok (.ifCond .eq 24, 3) := by decide +kernel
theorem dX0_review_63 : decode cX0_review 63 = .ok (.iload_n 3, 1) := by decide +kernel
theorem dX0_review_64 : decode cX0_review 64 = .ok (.ifCond .lt 14, 3) := by decide +kernel
theorem dX0_review_67 : decode cX0_review 67 = .ok (.aload_n 0, 1) := by decide +kernel
theorem dX0_review_68 : decode cX0_review 68 = .ok (.getfield 7, 3) := by decide +kernel
theorem dX0_review_71 : decode cX0_review 71 = .ok (.iload 4, 2) := by decide +kernel
end
section
set_option maxRecDepth 100000
theorem dX0_review_73 : decode cX0_review 73 = .ok (.iaload, 1) := by decide +kernel
theorem dX0_review_74 : decode cX0_review 74 = .ok (.iload_n 3, 1) := by decide +kernel
theorem dX0_review_75 : decode cX0_review 75 = .ok (.if_icmp .ge 9, 3) := by decide +kernel
theorem dX0_review_78 : decode cX0_review 78 = .ok (.aload_n 0, 1) := by decide +kernel
theorem dX0_review_79 : decode cX0_review 79 = .ok (.iload 4, 2) := by decide +kernel
theorem dX0_review_81 : decode cX0_review 81 = .ok (.invokevirtual 67, 3) := by decide +kernel
theorem dX0_review_84 : decode cX0_review 84 = .ok (.iinc 4 1, 3) := by decide +kernel
theorem dX0_review_87 : decode cX0_review 87 = .ok (.goto (-77), 3) := by decide +kernel
theorem dX0_review_90 : decode cX0_review 90 = .ok (.return_, 1) := by decide +kernel
theorem dX0_sweep_0 : decode cX0_sweep 0 = .ok (.iconst 0, 1) := by decide +kernel
theorem dX0_sweep_1 : decode cX0_sweep 1 = .ok (.istore_n 1, 1) := by decide +kernel
theorem dX0_sweep_2 : decode cX0_sweep 2 = .ok (.iconst 0, 1) := by decide +kernel
theorem dX0_sweep_3 : decode cX0_sweep 3 = .ok (.istore_n 2, 1) := by decide +kernel
theorem dX0_sweep_4 : decode cX0_sweep 4 = .ok (.iload_n 2, 1) := by decide +kernel
theorem dX0_sweep_5 : decode cX0_sweep 5 = .ok (.aload_n 0, 1) := by decide +kernel
theorem dX0_sweep_6 : decode cX0_sweep 6 = .ok (.getfield 42, 3) := by decide +kernel
theorem dX0_sweep_9 : decode cX0_sweep 9 = .ok (.if_icmp .ge 88, 3) := by decide +kernel
theorem dX0_sweep_12 : decode cX0_sweep 12 = .ok (.aload_n 0, 1) := by decide +kernel
theorem dX0_sweep_13 : decode cX0_sweep 13 = .ok (.getfield 26, 3) := by decide +kernel
theorem dX0_sweep_16 : decode cX0_sweep 16 = .ok (.iload_n 2, 1) := by decide +kernel
theorem dX0_sweep_17 : decode cX0_sweep 17 = .ok (.baload, 1) := by decide +kernel
theorem dX0_sweep_18 : decode cX0_sweep 18 = .ok (.ifCond .ne 73, 3) := by decide +kernel
theorem dX0_sweep_21 : decode cX0_sweep 21 = .ok (.aload_n 0, 1) := by decide +kernel
theorem dX0_sweep_22 : decode cX0_sweep 22 = .ok (.getfield 7, 3) := by decide +kernel
theorem dX0_sweep_25 : decode cX0_sweep 25 = .ok (.iload_n 1, 1) := by decide +kernel
theorem dX0_sweep_26 : decode cX0_sweep 26 = .ok (.aload_n 0, 1) := by decide +kernel
theorem dX0_sweep_27 : decode cX0_sweep 27 = .ok (.getfield 7, 3) := by decide +kernel
theorem dX0_sweep_30 : decode cX0_sweep 30 = .ok (.iload_n 2, 1) := by decide +kernel
theorem dX0_sweep_31 : decode cX0_sweep 31 = .ok (.iaload, 1) := by decide +kernel
theorem dX0_sweep_32 : decode cX0_sweep 32 = .ok (.iastore, 1) := by decide +kernel
theorem dX0_sweep_33 : decode cX0_sweep 33 = .ok (.aload_n 0, 1) := by decide +kernel
theorem dX0_sweep_34 : decode cX0_sweep 34 = .ok (.getfield 13, 3) := by decide +kernel
theorem dX0_sweep_37 : decode cX0_sweep 37 = .ok (.iload_n 1, 1) := by decide +kernel
theorem dX0_sweep_38 : decode cX0_sweep 38 = .ok (.aload_n 0, 1) := by decide +kernel
theorem dX0_sweep_39 : decode cX0_sweep 39 = .ok (.getfield 13, 3) := by decide +kernel
theorem dX0_sweep_42 : decode cX0_sweep 42 = .ok (.iload_n 2, 1) := by decide +kernel
theorem dX0_sweep_43 : decode cX0_sweep 43 = .ok (.iaload, 1) := by decide +kernel
theorem dX0_sweep_44 : decode cX0_sweep 44 = .ok (.iastore, 1) := by decide +kernel
theorem dX0_sweep_45 : decode cX0_sweep 45 = .ok (.aload_n 0, 1) := by decide +kernel
theorem dX0_sweep_46 : decode cX0_sweep 46 = .ok (.getfield 16, 3) := by decide +kernel
theorem dX0_sweep_49 : decode cX0_sweep 49 = .ok (.iload_n 1, 1) := by decide +kernel
theorem dX0_sweep_50 : decode cX0_sweep 50 = .ok (.aload_n 0, 1) := by decide +kernel
theorem dX0_sweep_51 : decode cX0_sweep 51 = .ok (.getfield 16, 3) := by decide +kernel
theorem dX0_sweep_54 : decode cX0_sweep 54 = .ok (.iload_n 2, 1) := by decide +kernel
theorem dX0_sweep_55 : decode cX0_sweep 55 = .ok (.iaload, 1) := by decide +kernel
theorem dX0_sweep_56 : decode cX0_sweep 56 = .ok (.iastore, 1) := by decide +kernel
theorem dX0_sweep_57 : decode cX0_sweep 57 = .ok (.aload_n 0, 1) := by decide +kernel
theorem dX0_sweep_58 : decode cX0_sweep 58 = .ok (.getfield 19, 3) := by decide +kernel
theorem dX0_sweep_61 : decode cX0_sweep 61 = .ok (.iload_n 1, 1) := by decide +kernel
theorem dX0_sweep_62 : decode cX0_sweep 62 = .ok (.aload_n 0, 1) := by decide +kernel
theorem dX0_sweep_63 : decode cX0_sweep 63 = .ok (.getfield 19, 3) := by decide +kernel
theorem dX0_sweep_66 : decode cX0_sweep 66 = .ok (.iload_n 2, 1) := by decide +kernel
theorem dX0_sweep_67 : decode cX0_sweep 67 = .ok (.iaload, 1) := by decide +kernel
theorem dX0_sweep_68 : decode cX0_sweep 68 = .ok (.iastore, 1) := by decide +kernel
theorem dX0_sweep_69 : decode cX0_sweep 69 = .ok (.aload_n 0, 1) := by decide +kernel
theorem dX0_sweep_70 : decode cX0_sweep 70 = .ok (.getfield 22, 3) := by decide +kernel
theorem dX0_sweep_73 : decode cX0_sweep 73 = .ok (.iload_n 1, 1) := by decide +kernel
theorem dX0_sweep_74 : decode cX0_sweep 74 = .ok (.aload_n 0, 1) := by decide +kernel
theorem dX0_sweep_75 : decode cX0_sweep 75 = .ok (.getfield 22, 3) := by decide +kernel
theorem dX0_sweep_78 : decode cX0_sweep 78 = .ok (.iload_n 2, 1) := by decide +kernel
theorem dX0_sweep_79 : decode cX0_sweep 79 = .ok (.baload, 1) := by decide +kernel
theorem dX0_sweep_80 : decode cX0_sweep 80 = .ok (.bastore, 1) := by decide +kernel
theorem dX0_sweep_81 : decode cX0_sweep 81 = .ok (.aload_n 0, 1) := by decide +kernel
theorem dX0_sweep_82 : decode cX0_sweep 82 = .ok (.getfield 26, 3) := by decide +kernel
theorem dX0_sweep_85 : decode cX0_sweep 85 = .ok (.iload_n 1, 1) := by decide +kernel
theorem dX0_sweep_86 : decode cX0_sweep 86 = .ok (.iconst 0, 1) := by decide +kernel
theorem dX0_sweep_87 : decode cX0_sweep 87 = .ok (.bastore, 1) := by decide +kernel
theorem dX0_sweep_88 : decode cX0_sweep 88 = .ok (.iinc 1 1, 3) := by decide +kernel
theorem dX0_sweep_91 : decode cX0_sweep 91 = .ok (.iinc 2 1, 3) := by decide +kernel
theorem dX0_sweep_94 : decode cX0_sweep 94 = .ok (.goto (-90), 3) := by decide +kernel
theorem dX0_sweep_97 : decode cX0_sweep 97 = .ok (.aload_n 0, 1) := by decide +kernel
theorem dX0_sweep_98 : decode cX0_sweep 98 = .ok (.getfield 42, 3) := by decide +kernel
theorem dX0_sweep_101 : decode cX0_sweep 101 = .ok (.iload_n 1, 1) := by decide +kernel
theorem dX0_sweep_102 : decode cX0_sweep 102 = .ok (.isub, 1) := by decide +kernel
theorem dX0_sweep_103 : decode cX0_sweep 103 = .ok (.istore_n 2, 1) := by decide +kernel
theorem dX0_sweep_104 : decode cX0_sweep 104 = .ok (.aload_n 0, 1) := by decide +kernel
theorem dX0_sweep_105 : decode cX0_sweep 105 = .ok (.iload_n 1, 1) := by decide +kernel
theorem dX0_sweep_106 : decode cX0_sweep 106 = .ok (.putfield 42, 3) := by decide +kernel
theorem dX0_sweep_109 : decode cX0_sweep 109 = .ok (.aload_n 0, 1) := by decide +kernel
theorem dX0_sweep_110 : decode cX0_sweep 110 = .ok (.invokevirtual 64, 3) := by decide +kernel
theorem dX0_sweep_113 : decode cX0_sweep 113 = .ok (.iload_n 2, 1) := by decide +kernel
theorem dX0_sweep_114 : decode cX0_sweep 114 = .ok (.ireturn, 1) := by decide +kernel
theorem dX0_expel_0 : decode cX0_expel 0 = .ok (.iload_n 1, 1) := by decide +kernel
theorem dX0_expel_1 : decode cX0_expel 1 = .ok (.iconst 1, 1) := by decide +kernel
theorem dX0_expel_2 : decode cX0_expel 2 = .ok (.if_icmp .lt 9, 3) := by decide +kernel
theorem dX0_expel_5 : decode cX0_expel 5 = .ok (.iload_n 1, 1) := by decide +kernel
theorem dX0_expel_6 : decode cX0_expel 6 = .ok (.bipush 7, 2) := by decide +kernel
theorem dX0_expel_8 : decode cX0_expel 8 = .ok (.if_icmp .le 5, 3) := by decide +kernel
theorem dX0_expel_11 : decode cX0_expel 11 = .ok (.iconst (-1), 1) := by decide +kernel
theorem dX0_expel_12 : decode cX0_expel 12 = .ok (.ireturn, 1) := by decide +kernel
theorem dX0_expel_13 : decode cX0_expel 13 = .ok (.aload_n 0, 1) := by decide +kernel
theorem dX0_expel_14 : decode cX0_expel 14 = .ok (.invokevirtual 64, 3) := by decide +kernel
theorem dX0_expel_17 : decode cX0_expel 17 = .ok (.iconst 0, 1) := by decide +kernel
theorem dX0_expel_18 : decode cX0_expel 18 = .ok (.istore_n 2, 1) := by decide +kernel
theorem dX0_expel_19 : decode cX0_expel 19 = .ok (.iload_n 2, 1) := by decide +kernel
theorem dX0_expel_20 : decode cX0_expel 20 = .ok (.aload_n 0, 1) := by decide +kernel
theorem dX0_expel_21 : decode cX0_expel 21 = .ok (.getfield 42, 3) := by decide +kernel
theorem dX0_expel_24 : decode cX0_expel 24 = .ok (.if_icmp .ge 34, 3) := by decide +kernel
theorem dX0_expel_27 : decode cX0_expel 27 = .ok (.aload_n 0, 1) := by decide +kernel
theorem dX0_expel_28 : decode cX0_expel 28 = .ok (.getfield 13, 3) := by decide +kernel
theorem dX0_expel_31 : decode cX0_expel 31 = .ok (.iload_n 2, 1) := by decide +kernel
theorem dX0_expel_32 : decode cX0_expel 32 = .ok (.iaload, 1) := by decide +kernel
theorem dX0_expel_33 : decode cX0_expel 33 = .ok (.iload_n 1, 1) := by decide +kernel
theorem dX0_expel_34 : decode cX0_expel 34 = .ok (.if_icmp .eq 13, 3) := by decide +kernel
theorem dX0_expel_37 : decode cX0_expel 37 = .ok (.aload_n 0, 1) := by decide +kernel
theorem dX0_expel_38 : decode cX0_expel 38 = .ok (.getfield 16, 3) := by decide +kernel
theorem dX0_expel_41 : decode cX0_expel 41 = .ok (.iload_n 2, 1) := by decide +kernel
theorem dX0_expel_42 : decode cX0_expel 42 = .ok (.iaload, 1) := by decide +kernel
theorem dX0_expel_43 : decode cX0_expel 43 = .ok (.iload_n 1, 1) := by decide +kernel
theorem dX0_expel_44 : decode cX0_expel 44 = .ok (.if_icmp .ne 8, 3) := by decide +kernel
theorem dX0_expel_47 : decode cX0_expel 47 = .ok (.aload_n 0, 1) := by decide +kernel
theorem dX0_expel_48 : decode cX0_expel 48 = .ok (.iload_n 2, 1) := by decide +kernel
theorem dX0_expel_49 : decode cX0_expel 49 = .ok (.invokevirtual 67, 3) := by decide +kernel
theorem dX0_expel_52 : decode cX0_expel 52 = .ok (.iinc 2 1, 3) := by decide +kernel
theorem dX0_expel_55 : decode cX0_expel 55 = .ok (.goto (-36), 3) := by decide +kernel
theorem dX0_expel_58 : decode cX0_expel 58 = .ok (.aload_n 0, 1) := by decide +kernel
theorem dX0_expel_59 : decode cX0_expel 59 = .ok (.invokevirtual 57, 3) := by decide +kernel
theorem dX0_expel_62 : decode cX0_expel 62 = .ok (.aload_n 0, 1) := by decide +kernel
theorem dX0_expel_63 : decode cX0_expel 63 = .ok (.invokevirtual 60, 3) := by decide +kernel
theorem dX0_expel_66 : decode cX0_expel 66 = .ok (.ireturn, 1) := by decide +kernel
theorem dX0_holds_0 : decode cX0_holds 0 = .ok (.iload_n 1, 1) := by decide +kernel
theorem dX0_holds_1 : decode cX0_holds 1 = .ok (.invokestatic 35, 3) := by decide +kernel
theorem dX0_holds_4 : decode cX0_holds 4 = .ok (.ifCond .eq 10, 3) := by decide +kernel
theorem dX0_holds_7 : decode cX0_holds 7 = .ok (.iload_n 2, 1) := by decide +kernel
theorem dX0_holds_8 : decode cX0_holds 8 = .ok (.invokestatic 39, 3) := by decide +kernel
theorem dX0_holds_11 : decode cX0_holds 11 = .ok (.ifCond .ne 5, 3) := by decide +kernel
theorem dX0_holds_14 : decode cX0_holds 14 = .ok (.iconst (-1), 1) := by decide +kernel
theorem dX0_holds_15 : decode cX0_holds 15 = .ok (.ireturn, 1) := by decide +kernel
theorem dX0_holds_16 : decode cX0_holds 16 = .ok (.iload_n 1, 1) := by decide +kernel
theorem dX0_holds_17 : decode cX0_holds 17 = .ok (.ifCond .eq 12, 3) := by decide +kernel
theorem dX0_holds_20 : decode cX0_holds 20 = .ok (.aload_n 0, 1) := by decide +kernel
theorem dX0_holds_21 : decode cX0_holds 21 = .ok (.iload_n 1, 1) := by decide +kernel
theorem dX0_holds_22 : decode cX0_holds 22 = .ok (.iload_n 2, 1) := by decide +kernel
theorem dX0_holds_23 : decode cX0_holds 23 = .ok (.invokevirtual 71, 3) := by decide +kernel
theorem dX0_holds_26 : decode cX0_holds 26 = .ok (.ifCond .le 7, 3) := by decide +kernel
theorem dX0_holds_29 : decode cX0_holds 29 = .ok (.iconst 1, 1) := by decide +kernel
theorem dX0_holds_30 : decode cX0_holds 30 = .ok (.goto 4, 3) := by decide +kernel
theorem dX0_holds_33 : decode cX0_holds 33 = .ok (.iconst 0, 1) := by decide +kernel
theorem dX0_holds_34 : decode cX0_holds 34 = .ok (.ireturn, 1) := by decide +kernel
theorem dX0_received_0 : decode cX0_received 0 = .ok (.iload_n 1, 1) := by decide +kernel
theorem dX0_received_1 : decode cX0_received 1 = .ok (.invokestatic 35, 3) := by decide +kernel
theorem dX0_received_4 : decode cX0_received 4 = .ok (.ifCond .eq 10, 3) := by decide +kernel
theorem dX0_received_7 : decode cX0_received 7 = .ok (.iload_n 2, 1) := by decide +kernel
theorem dX0_received_8 : decode cX0_received 8 = .ok (.invokestatic 39, 3) := by decide +kernel
theorem dX0_received_11 : decode cX0_received 11 = .ok (.ifCond .ne 5, 3) := by decide +kernel
theorem dX0_received_14 : decode cX0_received 14 = .ok (.iconst (-1), 1) := by decide +kernel
theorem dX0_received_15 : decode cX0_received 15 = .ok (.ireturn, 1) := by decide +kernel
theorem dX0_received_16 : decode cX0_received 16 = .ok (.iconst 0, 1) := by decide +kernel
theorem dX0_received_17 : decode cX0_received 17 = .ok (.istore_n 3, 1) := by decide +kernel
theorem dX0_received_18 : decode cX0_received 18 = .ok (.iconst 0, 1) := by decide +kernel
theorem dX0_received_19 : decode cX0_received 19 = .ok (.istore 4, 2) := by decide +kernel
theorem dX0_received_21 : decode cX0_received 21 = .ok (.iload 4, 2) := by decide +kernel
theorem dX0_received_23 : decode cX0_received 23 = .ok (.aload_n 0, 1) := by decide +kernel
theorem dX0_received_24 : decode cX0_received 24 = .ok (.getfield 42, 3) := by decide +kernel
theorem dX0_received_27 : decode cX0_received 27 = .ok (.if_icmp .ge 39, 3) := by decide +kernel
theorem dX0_received_30 : decode cX0_received 30 = .ok (.iload_n 3, 1) := by decide +kernel
theorem dX0_received_31 : decode cX0_received 31 = .ok (.aload_n 0, 1) := by decide +kernel
theorem dX0_received_32 : decode cX0_received 32 = .ok (.getfield 16, 3) := by decide +kernel
theorem dX0_received_35 : decode cX0_received 35 = .ok (.iload 4, 2) := by decide +kernel
theorem dX0_received_37 : decode cX0_received 37 = .ok (.iaload, 1) := by decide +kernel
theorem dX0_received_38 : decode cX0_received 38 = .ok (.iload_n 1, 1) := by decide +kernel
theorem dX0_received_39 : decode cX0_received 39 = .ok (.if_icmp .ne 18, 3) := by decide +kernel
theorem dX0_received_42 : decode cX0_received 42 = .ok (.aload_n 0, 1) := by decide +kernel
theorem dX0_received_43 : decode cX0_received 43 = .ok (.getfield 19, 3) := by decide +kernel
theorem dX0_received_46 : decode cX0_received 46 = .ok (.iload 4, 2) := by decide +kernel
theorem dX0_received_48 : decode cX0_received 48 = .ok (.iaload, 1) := by decide +kernel
theorem dX0_received_49 : decode cX0_received 49 = .ok (.iload_n 2, 1) := by decide +kernel
theorem dX0_received_50 : decode cX0_received 50 = .ok (.if_icmp .ne 7, 3) := by decide +kernel
theorem dX0_received_53 : decode cX0_received 53 = .ok (.iconst 1, 1) := by decide +kernel
theorem dX0_received_54 : decode cX0_received 54 = .ok (.goto 4, 3) := by decide +kernel
theorem dX0_received_57 : decode cX0_received 57 = .ok (.iconst 0, 1) := by decide +kernel
theorem dX0_received_58 : decode cX0_received 58 = .ok (.iadd, 1) := by decide +kernel
theorem dX0_received_59 : decode cX0_received 59 = .ok (.istore_n 3, 1) := by decide +kernel
theorem dX0_received_60 : decode cX0_received 60 = .ok (.iinc 4 1, 3) := by decide +kernel
theorem dX0_received_63 : decode cX0_received 63 = .ok (.goto (-42), 3) := by decide +kernel
theorem dX0_received_66 : decode cX0_received 66 = .ok (.iload_n 3, 1) := by decide +kernel
theorem dX0_received_67 : decode cX0_received 67 = .ok (.ireturn, 1) := by decide +kernel
theorem dX0_may_0 : decode cX0_may 0 = .ok (.iload_n 1, 1) := by decide +kernel
theorem dX0_may_1 : decode cX0_may 1 = .ok (.invokestatic 35, 3) := by decide +kernel
theorem dX0_may_4 : decode cX0_may 4 = .ok (.ifCond .eq 10, 3) := by decide +kernel
theorem dX0_may_7 : decode cX0_may 7 = .ok (.iload_n 2, 1) := by decide +kernel
theorem dX0_may_8 : decode cX0_may 8 = .ok (.invokestatic 39, 3) := by decide +kernel
theorem dX0_may_11 : decode cX0_may 11 = .ok (.ifCond .ne 5, 3) := by decide +kernel
theorem dX0_may_14 : decode cX0_may 14 = .ok (.iconst (-1), 1) := by decide +kernel
theorem dX0_may_15 : decode cX0_may 15 = .ok (.ireturn, 1) := by decide +kernel
theorem dX0_may_16 : decode cX0_may 16 = .ok (.aload_n 0, 1) := by decide +kernel
theorem dX0_may_17 : decode cX0_may 17 = .ok (.invokevirtual 64, 3) := by decide +kernel
theorem dX0_may_20 : decode cX0_may 20 = .ok (.iload_n 1, 1) := by decide +kernel
theorem dX0_may_21 : decode cX0_may 21 = .ok (.ifCond .eq 12, 3) := by decide +kernel
theorem dX0_may_24 : decode cX0_may 24 = .ok (.aload_n 0, 1) := by decide +kernel
theorem dX0_may_25 : decode cX0_may 25 = .ok (.iload_n 1, 1) := by decide +kernel
theorem dX0_may_26 : decode cX0_may 26 = .ok (.iload_n 2, 1) := by decide +kernel
theorem dX0_may_27 : decode cX0_may 27 = .ok (.invokevirtual 46, 3) := by decide +kernel
theorem dX0_may_30 : decode cX0_may 30 = .ok (.ifCond .lt 7, 3) := by decide +kernel
theorem dX0_may_33 : decode cX0_may 33 = .ok (.iconst 1, 1) := by decide +kernel
theorem dX0_may_34 : decode cX0_may 34 = .ok (.goto 4, 3) := by decide +kernel
theorem dX0_may_37 : decode cX0_may 37 = .ok (.iconst 0, 1) := by decide +kernel
theorem dX0_may_38 : decode cX0_may 38 = .ok (.ireturn, 1) := by decide +kernel
theorem dX0_given_0 : decode cX0_given 0 = .ok (.iload_n 1, 1) := by decide +kernel
theorem dX0_given_1 : decode cX0_given 1 = .ok (.invokestatic 35, 3) := by decide +kernel
theorem dX0_given_4 : decode cX0_given 4 = .ok (.ifCond .eq 10, 3) := by decide +kernel
theorem dX0_given_7 : decode cX0_given 7 = .ok (.iload_n 2, 1) := by decide +kernel
theorem dX0_given_8 : decode cX0_given 8 = .ok (.invokestatic 39, 3) := by decide +kernel
theorem dX0_given_11 : decode cX0_given 11 = .ok (.ifCond .ne 5, 3) := by decide +kernel
theorem dX0_given_14 : decode cX0_given 14 = .ok (.iconst (-1), 1) := by decide +kernel
theorem dX0_given_15 : decode cX0_given 15 = .ok (.ireturn, 1) := by decide +kernel
theorem dX0_given_16 : decode cX0_given 16 = .ok (.iconst 0, 1) := by decide +kernel
theorem dX0_given_17 : decode cX0_given 17 = .ok (.istore_n 3, 1) := by decide +kernel
theorem dX0_given_18 : decode cX0_given 18 = .ok (.iconst 0, 1) := by decide +kernel
theorem dX0_given_19 : decode cX0_given 19 = .ok (.istore 4, 2) := by decide +kernel
theorem dX0_given_21 : decode cX0_given 21 = .ok (.iload 4, 2) := by decide +kernel
theorem dX0_given_23 : decode cX0_given 23 = .ok (.aload_n 0, 1) := by decide +kernel
theorem dX0_given_24 : decode cX0_given 24 = .ok (.getfield 42, 3) := by decide +kernel
theorem dX0_given_27 : decode cX0_given 27 = .ok (.if_icmp .ge 39, 3) := by decide +kernel
theorem dX0_given_30 : decode cX0_given 30 = .ok (.iload_n 3, 1) := by decide +kernel
theorem dX0_given_31 : decode cX0_given 31 = .ok (.aload_n 0, 1) := by decide +kernel
theorem dX0_given_32 : decode cX0_given 32 = .ok (.getfield 13, 3) := by decide +kernel
theorem dX0_given_35 : decode cX0_given 35 = .ok (.iload 4, 2) := by decide +kernel
theorem dX0_given_37 : decode cX0_given 37 = .ok (.iaload, 1) := by decide +kernel
theorem dX0_given_38 : decode cX0_given 38 = .ok (.iload_n 1, 1) := by decide +kernel
theorem dX0_given_39 : decode cX0_given 39 = .ok (.if_icmp .ne 18, 3) := by decide +kernel
theorem dX0_given_42 : decode cX0_given 42 = .ok (.aload_n 0, 1) := by decide +kernel
theorem dX0_given_43 : decode cX0_given 43 = .ok (.getfield 19, 3) := by decide +kernel
theorem dX0_given_46 : decode cX0_given 46 = .ok (.iload 4, 2) := by decide +kernel
theorem dX0_given_48 : decode cX0_given 48 = .ok (.iaload, 1) := by decide +kernel
theorem dX0_given_49 : decode cX0_given 49 = .ok (.iload_n 2, 1) := by decide +kernel
theorem dX0_given_50 : decode cX0_given 50 = .ok (.if_icmp .ne 7, 3) := by decide +kernel
theorem dX0_given_53 : decode cX0_given 53 = .ok (.iconst 1, 1) := by decide +kernel
theorem dX0_given_54 : decode cX0_given 54 = .ok (.goto 4, 3) := by decide +kernel
theorem dX0_given_57 : decode cX0_given 57 = .ok (.iconst 0, 1) := by decide +kernel
theorem dX0_given_58 : decode cX0_given 58 = .ok (.iadd, 1) := by decide +kernel
theorem dX0_given_59 : decode cX0_given 59 = .ok (.istore_n 3, 1) := by decide +kernel
theorem dX0_given_60 : decode cX0_given 60 = .ok (.iinc 4 1, 3) := by decide +kernel
theorem dX0_given_63 : decode cX0_given 63 = .ok (.goto (-42), 3) := by decide +kernel
theorem dX0_given_66 : decode cX0_given 66 = .ok (.iload_n 3, 1) := by decide +kernel
theorem dX0_given_67 : decode cX0_given 67 = .ok (.ireturn, 1) := by decide +kernel
theorem dX0_stands_0 : decode cX0_stands 0 = .ok (.iconst 0, 1) := by decide +kernel
theorem dX0_stands_1 : decode cX0_stands 1 = .ok (.istore_n 2, 1) := by decide +kernel
theorem dX0_stands_2 : decode cX0_stands 2 = .ok (.aload_n 0, 1) := by decide +kernel
theorem dX0_stands_3 : decode cX0_stands 3 = .ok (.getfield 42, 3) := by decide +kernel
theorem dX0_stands_6 : decode cX0_stands 6 = .ok (.istore_n 3, 1) := by decide +kernel
theorem dX0_stands_7 : decode cX0_stands 7 = .ok (.iconst 0, 1) := by decide +kernel
theorem dX0_stands_8 : decode cX0_stands 8 = .ok (.istore 4, 2) := by decide +kernel
theorem dX0_stands_10 : decode cX0_stands 10 = .ok (.iload 4, 2) := by decide +kernel
theorem dX0_stands_12 : decode cX0_stands 12 = .ok (.bipush 7, 2) := by decide +kernel
theorem dX0_stands_14 : decode cX0_stands 14 = .ok (.if_icmp .ge 43, 3) := by decide +kernel
theorem dX0_stands_17 : decode cX0_stands 17 = .ok (.iload_n 2, 1) := by decide +kernel
theorem dX0_stands_18 : decode cX0_stands 18 = .ok (.iload_n 3, 1) := by decide +kernel
theorem dX0_stands_19 : decode cX0_stands 19 = .ok (.if_icmp .ge 38, 3) := by decide +kernel
theorem dX0_stands_22 : decode cX0_stands 22 = .ok (.iload_n 2, 1) := by decide +kernel
theorem dX0_stands_23 : decode cX0_stands 23 = .ok (.iload_n 3, 1) := by decide +kernel
theorem dX0_stands_24 : decode cX0_stands 24 = .ok (.iadd, 1) := by decide +kernel
theorem dX0_stands_25 : decode cX0_stands 25 = .ok (.iconst 2, 1) := by decide +kernel
theorem dX0_stands_26 : decode cX0_stands 26 = .ok (.idiv, 1) := by decide +kernel
theorem dX0_stands_27 : decode cX0_stands 27 = .ok (.istore 5, 2) := by decide +kernel
theorem dX0_stands_29 : decode cX0_stands 29 = .ok (.aload_n 0, 1) := by decide +kernel
theorem dX0_stands_30 : decode cX0_stands 30 = .ok (.getfield 7, 3) := by decide +kernel
theorem dX0_stands_33 : decode cX0_stands 33 = .ok (.iload 5, 2) := by decide +kernel
theorem dX0_stands_35 : decode cX0_stands 35 = .ok (.iaload, 1) := by decide +kernel
theorem dX0_stands_36 : decode cX0_stands 36 = .ok (.iload_n 1, 1) := by decide +kernel
theorem dX0_stands_37 : decode cX0_stands 37 = .ok (.if_icmp .ge 11, 3) := by decide +kernel
theorem dX0_stands_40 : decode cX0_stands 40 = .ok (.iload 5, 2) := by decide +kernel
theorem dX0_stands_42 : decode cX0_stands 42 = .ok (.iconst 1, 1) := by decide +kernel
theorem dX0_stands_43 : decode cX0_stands 43 = .ok (.iadd, 1) := by decide +kernel
theorem dX0_stands_44 : decode cX0_stands 44 = .ok (.istore_n 2, 1) := by decide +kernel
theorem dX0_stands_45 : decode cX0_stands 45 = .ok (.goto 6, 3) := by decide +kernel
theorem dX0_stands_48 : decode cX0_stands 48 = .ok (.iload 5, 2) := by decide +kernel
theorem dX0_stands_50 : decode cX0_stands 50 = .ok (.istore_n 3, 1) := by decide +kernel
theorem dX0_stands_51 : decode cX0_stands 51 = .ok (.iinc 4 1, 3) := by decide +kernel
theorem dX0_stands_54 : decode cX0_stands 54 = .ok (.goto (-44), 3) := by decide +kernel
theorem dX0_stands_57 : decode cX0_stands 57 = .ok (.iload_n 2, 1) := by decide +kernel
theorem dX0_stands_58 : decode cX0_stands 58 = .ok (.aload_n 0, 1) := by decide +kernel
theorem dX0_stands_59 : decode cX0_stands 59 = .ok (.getfield 42, 3) := by decide +kernel
theorem dX0_stands_62 : decode cX0_stands 62 = .ok (.if_icmp .ge 17, 3) := by decide +kernel
theorem dX0_stands_65 : decode cX0_stands 65 = .ok (.aload_n 0, 1) := by decide +kernel
theorem dX0_stands_66 : decode cX0_stands 66 = .ok (.getfield 7, 3) := by decide +kernel
theorem dX0_stands_69 : decode cX0_stands 69 = .ok (.iload_n 2, 1) := by decide +kernel
theorem dX0_stands_70 : decode cX0_stands 70 = .ok (.iaload, 1) := by decide +kernel
theorem dX0_stands_71 : decode cX0_stands 71 = .ok (.iload_n 1, 1) := by decide +kernel
theorem dX0_stands_72 : decode cX0_stands 72 = .ok (.if_icmp .ne 7, 3) := by decide +kernel
theorem dX0_stands_75 : decode cX0_stands 75 = .ok (.iconst 1, 1) := by decide +kernel
theorem dX0_stands_76 : decode cX0_stands 76 = .ok (.goto 4, 3) := by decide +kernel
theorem dX0_stands_79 : decode cX0_stands 79 = .ok (.iconst 0, 1) := by decide +kernel
theorem dX0_stands_80 : decode cX0_stands 80 = .ok (.ireturn, 1) := by decide +kernel
theorem dX0_reach_0 : decode cX0_reach 0 = .ok (.iload_n 1, 1) := by decide +kernel
theorem dX0_reach_1 : decode cX0_reach 1 = .ok (.invokestatic 35, 3) := by decide +kernel
theorem dX0_reach_4 : decode cX0_reach 4 = .ok (.ifCond .eq 17, 3) := by decide +kernel
theorem dX0_reach_7 : decode cX0_reach 7 = .ok (.iload_n 2, 1) := by decide +kernel
theorem dX0_reach_8 : decode cX0_reach 8 = .ok (.invokestatic 35, 3) := by decide +kernel
theorem dX0_reach_11 : decode cX0_reach 11 = .ok (.ifCond .eq 10, 3) := by decide +kernel
theorem dX0_reach_14 : decode cX0_reach 14 = .ok (.iload_n 3, 1) := by decide +kernel
theorem dX0_reach_15 : decode cX0_reach 15 = .ok (.invokestatic 39, 3) := by decide +kernel
theorem dX0_reach_18 : decode cX0_reach 18 = .ok (.ifCond .ne 5, 3) := by decide +kernel
theorem dX0_reach_21 : decode cX0_reach 21 = .ok (.iconst (-1), 1) := by decide +kernel
theorem dX0_reach_22 : decode cX0_reach 22 = .ok (.ireturn, 1) := by decide +kernel
theorem dX0_reach_23 : decode cX0_reach 23 = .ok (.aload_n 0, 1) := by decide +kernel
theorem dX0_reach_24 : decode cX0_reach 24 = .ok (.iload_n 1, 1) := by decide +kernel
theorem dX0_reach_25 : decode cX0_reach 25 = .ok (.iload_n 2, 1) := by decide +kernel
theorem dX0_reach_26 : decode cX0_reach 26 = .ok (.iload_n 3, 1) := by decide +kernel
theorem dX0_reach_27 : decode cX0_reach 27 = .ok (.invokevirtual 53, 3) := by decide +kernel
theorem dX0_reach_30 : decode cX0_reach 30 = .ok (.aload_n 0, 1) := by decide +kernel
theorem dX0_reach_31 : decode cX0_reach 31 = .ok (.invokevirtual 57, 3) := by decide +kernel
theorem dX0_reach_34 : decode cX0_reach 34 = .ok (.iconst 0, 1) := by decide +kernel
theorem dX0_reach_35 : decode cX0_reach 35 = .ok (.istore 4, 2) := by decide +kernel
theorem dX0_reach_37 : decode cX0_reach 37 = .ok (.iconst 0, 1) := by decide +kernel
theorem dX0_reach_38 : decode cX0_reach 38 = .ok (.istore 5, 2) := by decide +kernel
theorem dX0_reach_40 : decode cX0_reach 40 = .ok (.iload 5, 2) := by decide +kernel
theorem dX0_reach_42 : decode cX0_reach 42 = .ok (.aload_n 0, 1) := by decide +kernel
theorem dX0_reach_43 : decode cX0_reach 43 = .ok (.getfield 42, 3) := by decide +kernel
theorem dX0_reach_46 : decode cX0_reach 46 = .ok (.if_icmp .ge 29, 3) := by decide +kernel
theorem dX0_reach_49 : decode cX0_reach 49 = .ok (.iload 4, 2) := by decide +kernel
theorem dX0_reach_51 : decode cX0_reach 51 = .ok (.aload_n 0, 1) := by decide +kernel
theorem dX0_reach_52 : decode cX0_reach 52 = .ok (.getfield 26, 3) := by decide +kernel
theorem dX0_reach_55 : decode cX0_reach 55 = .ok (.iload 5, 2) := by decide +kernel
theorem dX0_reach_57 : decode cX0_reach 57 = .ok (.baload, 1) := by decide +kernel
theorem dX0_reach_58 : decode cX0_reach 58 = .ok (.ifCond .eq 7, 3) := by decide +kernel
theorem dX0_reach_61 : decode cX0_reach 61 = .ok (.iconst 1, 1) := by decide +kernel
theorem dX0_reach_62 : decode cX0_reach 62 = .ok (.goto 4, 3) := by decide +kernel
theorem dX0_reach_65 : decode cX0_reach 65 = .ok (.iconst 0, 1) := by decide +kernel
theorem dX0_reach_66 : decode cX0_reach 66 = .ok (.iadd, 1) := by decide +kernel
theorem dX0_reach_67 : decode cX0_reach 67 = .ok (.istore 4, 2) := by decide +kernel
theorem dX0_reach_69 : decode cX0_reach 69 = .ok (.iinc 5 1, 3) := by decide +kernel
theorem dX0_reach_72 : decode cX0_reach 72 = .ok (.goto (-32), 3) := by decide +kernel
theorem dX0_reach_75 : decode cX0_reach 75 = .ok (.aload_n 0, 1) := by decide +kernel
theorem dX0_reach_76 : decode cX0_reach 76 = .ok (.invokevirtual 64, 3) := by decide +kernel
theorem dX0_reach_79 : decode cX0_reach 79 = .ok (.iload 4, 2) := by decide +kernel
theorem dX0_reach_81 : decode cX0_reach 81 = .ok (.ireturn, 1) := by decide +kernel
theorem dX0_standing_0 : decode cX0_standing 0 = .ok (.aload_n 0, 1) := by decide +kernel
theorem dX0_standing_1 : decode cX0_standing 1 = .ok (.getfield 42, 3) := by decide +kernel
theorem dX0_standing_4 : decode cX0_standing 4 = .ok (.ireturn, 1) := by decide +kernel
end
section
set_option maxRecDepth 100000
theorem dX1_init_0 : decode cX1_init 0 = .ok (.aload_n 0, 1) := by decide +kernel
theorem dX1_init_1 : decode cX1_init 1 = .ok (.invokespecial 1, 3) := by decide +kernel
theorem dX1_init_4 : decode cX1_init 4 = .ok (.aload_n 0, 1) := by decide +kernel
theorem dX1_init_5 : decode cX1_init 5 = .ok (.bipush 48, 2) := by decide +kernel
theorem dX1_init_7 : decode cX1_init 7 = .ok (.newarray .int, 2) := by decide +kernel
theorem dX1_init_9 : decode cX1_init 9 = .ok (.putfield 7, 3) := by decide +kernel
theorem dX1_init_12 : decode cX1_init 12 = .ok (.aload_n 0, 1) := by decide +kernel
theorem dX1_init_13 : decode cX1_init 13 = .ok (.bipush 48, 2) := by decide +kernel
theorem dX1_init_15 : decode cX1_init 15 = .ok (.newarray .int, 2) := by decide +kernel
theorem dX1_init_17 : decode cX1_init 17 = .ok (.putfield 13, 3) := by decide +kernel
theorem dX1_init_20 : decode cX1_init 20 = .ok (.aload_n 0, 1) := by decide +kernel
theorem dX1_init_21 : decode cX1_init 21 = .ok (.bipush 48, 2) := by decide +kernel
theorem dX1_init_23 : decode cX1_init 23 = .ok (.newarray .int, 2) := by decide +kernel
theorem dX1_init_25 : decode cX1_init 25 = .ok (.putfield 16, 3) := by decide +kernel
theorem dX1_init_28 : decode cX1_init 28 = .ok (.aload_n 0, 1) := by decide +kernel
theorem dX1_init_29 : decode cX1_init 29 = .ok (.bipush 48, 2) := by decide +kernel
theorem dX1_init_31 : decode cX1_init 31 = .ok (.newarray .int, 2) := by decide +kernel
theorem dX1_init_33 : decode cX1_init 33 = .ok (.putfield 19, 3) := by decide +kernel
theorem dX1_init_36 : decode cX1_init 36 = .ok (.aload_n 0, 1) := by decide +kernel
theorem dX1_init_37 : decode cX1_init 37 = .ok (.bipush 48, 2) := by decide +kernel
theorem dX1_init_39 : decode cX1_init 39 = .ok (.newarray .boolean, 2) := by decide +kernel
theorem dX1_init_41 : decode cX1_init 41 = .ok (.putfield 22, 3) := by decide +kernel
theorem dX1_init_44 : decode cX1_init 44 = .ok (.aload_n 0, 1) := by decide +kernel
theorem dX1_init_45 : decode cX1_init 45 = .ok (.bipush 48, 2) := by decide +kernel
theorem dX1_init_47 : decode cX1_init 47 = .ok (.newarray .boolean, 2) := by decide +kernel
theorem dX1_init_49 : decode cX1_init 49 = .ok (.putfield 26, 3) := by decide +kernel
theorem dX1_init_52 : decode cX1_init 52 = .ok (.return_, 1) := by decide +kernel
theorem dX1_grant_0 : decode cX1_grant 0 = .ok (.iload_n 1, 1) := by decide +kernel
theorem dX1_grant_1 : decode cX1_grant 1 = .ok (.invokestatic 29, 3) := by decide +kernel
theorem dX1_grant_4 : decode cX1_grant 4 = .ok (.ifCond .ne 35, 3) := by decide +kernel
theorem dX1_grant_7 : decode cX1_grant 7 = .ok (.iload_n 2, 1) := by decide +kernel
theorem dX1_grant_8 : decode cX1_grant 8 = .ok (.invokestatic 29, 3) := by decide +kernel
theorem dX1_grant_11 : decode cX1_grant 11 = .ok (.ifCond .ne 28, 3) := by decide +kernel
theorem dX1_grant_14 : decode cX1_grant 14 = .ok (.iload_n 1, 1) := by decide +kernel
theorem dX1_grant_15 : decode cX1_grant 15 = .ok (.iload_n 2, 1) := by decide +kernel
theorem dX1_grant_16 : decode cX1_grant 16 = .ok (.if_icmp .eq 23, 3) := by decide +kernel
theorem dX1_grant_19 : decode cX1_grant 19 = .ok (.iload_n 2, 1) := by decide +kernel
theorem dX1_grant_20 : decode cX1_grant 20 = .ok (.ifCond .eq 19, 3) := by decide +kernel
theorem dX1_grant_23 : decode cX1_grant 23 = .ok (.iload_n 3, 1) := by decide +kernel
theorem dX1_grant_24 : decode cX1_grant 24 = .ok (.invokestatic 33, 3) := by decide +kernel
theorem dX1_grant_27 : decode cX1_grant 27 = .ok (.ifCond .ne 12, 3) := by decide +kernel
theorem dX1_grant_30 : decode cX1_grant 30 = .ok (.aload_n 0, 1) := by decide +kernel
theorem dX1_grant_31 : decode cX1_grant 31 = .ok (.getfield 36, 3) := by decide +kernel
theorem dX1_grant_34 : decode cX1_grant 34 = .ok (.bipush 48, 2) := by decide +kernel
theorem dX1_grant_36 : decode cX1_grant 36 = .ok (.if_icmp .ne 5, 3) := by decide +kernel
theorem dX1_grant_39 : decode cX1_grant 39 = .ok (.iconst (-1), 1) := by decide +kernel
theorem dX1_grant_40 : decode cX1_grant 40 = .ok (.ireturn, 1) := by decide +kernel
theorem dX1_grant_41 : decode cX1_grant 41 = .ok (.aload_n 0, 1) := by decide +kernel
theorem dX1_grant_42 : decode cX1_grant 42 = .ok (.iload_n 1, 1) := by decide +kernel
theorem dX1_grant_43 : decode cX1_grant 43 = .ok (.iload_n 3, 1) := by decide +kernel
theorem dX1_grant_44 : decode cX1_grant 44 = .ok (.invokevirtual 40, 3) := by decide +kernel
theorem dX1_grant_47 : decode cX1_grant 47 = .ok (.ifCond .ne 6, 3) := by decide +kernel
theorem dX1_grant_50 : decode cX1_grant 50 = .ok (.bipush (-2), 2) := by decide +kernel
theorem dX1_grant_52 : decode cX1_grant 52 = .ok (.ireturn, 1) := by decide +kernel
theorem dX1_grant_53 : decode cX1_grant 53 = .ok (.aload_n 0, 1) := by decide +kernel
theorem dX1_grant_54 : decode cX1_grant 54 = .ok (.getfield 7, 3) := by decide +kernel
theorem dX1_grant_57 : decode cX1_grant 57 = .ok (.aload_n 0, 1) := by decide +kernel
theorem dX1_grant_58 : decode cX1_grant 58 = .ok (.getfield 36, 3) := by decide +kernel
theorem dX1_grant_61 : decode cX1_grant 61 = .ok (.aload_n 0, 1) := by decide +kernel
theorem dX1_grant_62 : decode cX1_grant 62 = .ok (.getfield 44, 3) := by decide +kernel
theorem dX1_grant_65 : decode cX1_grant 65 = .ok (.iastore, 1) := by decide +kernel
theorem dX1_grant_66 : decode cX1_grant 66 = .ok (.aload_n 0, 1) := by decide +kernel
theorem dX1_grant_67 : decode cX1_grant 67 = .ok (.getfield 13, 3) := by decide +kernel
theorem dX1_grant_70 : decode cX1_grant 70 = .ok (.aload_n 0, 1) := by decide +kernel
theorem dX1_grant_71 : decode cX1_grant 71 = .ok (.getfield 36, 3) := by decide +kernel
theorem dX1_grant_74 : decode cX1_grant 74 = .ok (.iload_n 1, 1) := by decide +kernel
theorem dX1_grant_75 : decode cX1_grant 75 = .ok (.iastore, 1) := by decide +kernel
theorem dX1_grant_76 : decode cX1_grant 76 = .ok (.aload_n 0, 1) := by decide +kernel
theorem dX1_grant_77 : decode cX1_grant 77 = .ok (.getfield 16, 3) := by decide +kernel
theorem dX1_grant_80 : decode cX1_grant 80 = .ok (.aload_n 0, 1) := by decide +kernel
theorem dX1_grant_81 : decode cX1_grant 81 = .ok (.getfield 36, 3) := by decide +kernel
theorem dX1_grant_84 : decode cX1_grant 84 = .ok (.iload_n 2, 1) := by decide +kernel
theorem dX1_grant_85 : decode cX1_grant 85 = .ok (.iastore, 1) := by decide +kernel
theorem dX1_grant_86 : decode cX1_grant 86 = .ok (.aload_n 0, 1) := by decide +kernel
theorem dX1_grant_87 : decode cX1_grant 87 = .ok (.getfield 19, 3) := by decide +kernel
theorem dX1_grant_90 : decode cX1_grant 90 = .ok (.aload_n 0, 1) := by decide +kernel
theorem dX1_grant_91 : decode cX1_grant 91 = .ok (.getfield 36, 3) := by decide +kernel
theorem dX1_grant_94 : decode cX1_grant 94 = .ok (.iload_n 3, 1) := by decide +kernel
theorem dX1_grant_95 : decode cX1_grant 95 = .ok (.iastore, 1) := by decide +kernel
theorem dX1_grant_96 : decode cX1_grant 96 = .ok (.aload_n 0, 1) := by decide +kernel
theorem dX1_grant_97 : decode cX1_grant 97 = .ok (.getfield 22, 3) := by decide +kernel
theorem dX1_grant_100 : decode cX1_grant 100 = .ok (.aload_n 0, 1) := by decide +kernel
theorem dX1_grant_101 : decode cX1_grant 101 = .ok (.getfield 36, 3) := by decide +kernel
theorem dX1_grant_104 : decode cX1_grant 104 = .ok (.iload 4, 2) := by decide +kernel
theorem dX1_grant_106 : decode cX1_grant 106 = .ok (.bastore, 1) := by decide +kernel
theorem dX1_grant_107 : decode cX1_grant 107 = .ok (.aload_n 0, 1) := by decide +kernel
theorem dX1_grant_108 : decode cX1_grant 108 = .ok (.dup, 1) := by decide +kernel
theorem dX1_grant_109 : decode cX1_grant 109 = .ok (.getfield 36, 3) := by decide +kernel
theorem dX1_grant_112 : decode cX1_grant 112 = .ok (.iconst 1, 1) := by decide +kernel
theorem dX1_grant_113 : decode cX1_grant 113 = .ok (.iadd, 1) := by decide +kernel
theorem dX1_grant_114 : decode cX1_grant 114 = .ok (.putfield 36, 3) := by decide +kernel
theorem dX1_grant_117 : decode cX1_grant 117 = .ok (.aload_n 0, 1) := by decide +kernel
theorem dX1_grant_118 : decode cX1_grant 118 = .ok (.dup, 1) := by decide +kernel
theorem dX1_grant_119 : decode cX1_grant 119 = .ok (.getfield 44, 3) := by decide +kernel
theorem dX1_grant_122 : decode cX1_grant 122 = .ok (.iconst 1, 1) := by decide +kernel
theorem dX1_grant_123 : decode cX1_grant 123 = .ok (.iadd, 1) := by decide +kernel
theorem dX1_grant_124 : decode cX1_grant 124 = .ok (.putfield 44, 3) := by decide +kernel
theorem dX1_grant_127 : decode cX1_grant 127 = .ok (.aload_n 0, 1) := by decide +kernel
theorem dX1_grant_128 : decode cX1_grant 128 = .ok (.getfield 44, 3) := by decide +kernel
theorem dX1_grant_131 : decode cX1_grant 131 = .ok (.iconst 1, 1) := by decide +kernel
theorem dX1_grant_132 : decode cX1_grant 132 = .ok (.isub, 1) := by decide +kernel
theorem dX1_grant_133 : decode cX1_grant 133 = .ok (.ireturn, 1) := by decide +kernel
theorem dX1_bad_0 : decode cX1_bad 0 = .ok (.iload_n 0, 1) := by decide +kernel
theorem dX1_bad_1 : decode cX1_bad 1 = .ok (.ifCond .lt 9, 3) := by decide +kernel
theorem dX1_bad_4 : decode cX1_bad 4 = .ok (.iload_n 0, 1) := by decide +kernel
theorem dX1_bad_5 : decode cX1_bad 5 = .ok (.bipush 7, 2) := by decide +kernel
theorem dX1_bad_7 : decode cX1_bad 7 = .ok (.if_icmp .le 7, 3) := by decide +kernel
theorem dX1_bad_10 : decode cX1_bad 10 = .ok (.iconst 1, 1) := by decide +kernel
theorem dX1_bad_11 : decode cX1_bad 11 = .ok (.goto 4, 3) := by decide +kernel
theorem dX1_bad_14 : decode cX1_bad 14 = .ok (.iconst 0, 1) := by decide +kernel
theorem dX1_bad_15 : decode cX1_bad 15 = .ok (.ireturn, 1) := by decide +kernel
theorem dX1_badPrivilege_0 : decode cX1_badPrivilege 0 = .ok (.iload_n 0, 1) := by decide +kernel
theorem dX1_badPrivilege_1 : decode cX1_badPrivilege 1 = .ok (.ifCond .lt 8, 3) := by decide +kernel
theorem dX1_badPrivilege_4 : decode cX1_badPrivilege 4 = .ok (.iload_n 0, 1) := by decide +kernel
theorem dX1_badPrivilege_5 : decode cX1_badPrivilege 5 = .ok (.iconst 2, 1) := by decide +kernel
theorem dX1_badPrivilege_6 : decode cX1_badPrivilege 6 = .ok (.if_icmp .le 7, 3) := by decide +kernel
theorem dX1_badPrivilege_9 : decode cX1_badPrivilege 9 = .ok (.iconst 1, 1) := by decide +kernel
theorem dX1_badPrivilege_10 : decode cX1_badPrivilege 10 = .ok (.goto 4, 3) := by decide +kernel
theorem dX1_badPrivilege_13 : decode cX1_badPrivilege 13 = .ok (.iconst 0, 1) := by decide +kernel
theorem dX1_badPrivilege_14 : decode cX1_badPrivilege 14 = .ok (.ireturn, 1) := by decide +kernel
theorem dX1_may_0 : decode cX1_may 0 = .ok (.iload_n 1, 1) := by decide +kernel
theorem dX1_may_1 : decode cX1_may 1 = .ok (.invokestatic 29, 3) := by decide +kernel
theorem dX1_may_4 : decode cX1_may 4 = .ok (.ifCond .ne 10, 3) := by decide +kernel
theorem dX1_may_7 : decode cX1_may 7 = .ok (.iload_n 2, 1) := by decide +kernel
theorem dX1_may_8 : decode cX1_may 8 = .ok (.invokestatic 33, 3) := by decide +kernel
theorem dX1_may_11 : decode cX1_may 11 = .ok (.ifCond .eq 5, 3) := by decide +kernel
theorem dX1_may_14 : decode cX1_may 14 = .ok (.iconst (-1), 1) := by decide +kernel
theorem dX1_may_15 : decode cX1_may 15 = .ok (.ireturn, 1) := by decide +kernel
theorem dX1_may_16 : decode cX1_may 16 = .ok (.iconst 0, 1) := by decide +kernel
theorem dX1_may_17 : decode cX1_may 17 = .ok (.istore_n 3, 1) := by decide +kernel
theorem dX1_may_18 : decode cX1_may 18 = .ok (.iload_n 3, 1) := by decide +kernel
theorem dX1_may_19 : decode cX1_may 19 = .ok (.aload_n 0, 1) := by decide +kernel
theorem dX1_may_20 : decode cX1_may 20 = .ok (.getfield 36, 3) := by decide +kernel
theorem dX1_may_23 : decode cX1_may 23 = .ok (.if_icmp .ge 40, 3) := by decide +kernel
theorem dX1_may_26 : decode cX1_may 26 = .ok (.aload_n 0, 1) := by decide +kernel
theorem dX1_may_27 : decode cX1_may 27 = .ok (.getfield 16, 3) := by decide +kernel
theorem dX1_may_30 : decode cX1_may 30 = .ok (.iload_n 3, 1) := by decide +kernel
theorem dX1_may_31 : decode cX1_may 31 = .ok (.iaload, 1) := by decide +kernel
theorem dX1_may_32 : decode cX1_may 32 = .ok (.iload_n 1, 1) := by decide +kernel
theorem dX1_may_33 : decode cX1_may 33 = .ok (.if_icmp .ne 24, 3) := by decide +kernel
theorem dX1_may_36 : decode cX1_may 36 = .ok (.aload_n 0, 1) := by decide +kernel
theorem dX1_may_37 : decode cX1_may 37 = .ok (.getfield 19, 3) := by decide +kernel
theorem dX1_may_40 : decode cX1_may 40 = .ok (.iload_n 3, 1) := by decide +kernel
theorem dX1_may_41 : decode cX1_may 41 = .ok (.iaload, 1) := by decide +kernel
theorem dX1_may_42 : decode cX1_may 42 = .ok (.iload_n 2, 1) := by decide +kernel
theorem dX1_may_43 : decode cX1_may 43 = .ok (.if_icmp .ne 14, 3) := by decide +kernel
theorem dX1_may_46 : decode cX1_may 46 = .ok (.aload_n 0, 1) := by decide +kernel
theorem dX1_may_47 : decode cX1_may 47 = .ok (.getfield 22, 3) := by decide +kernel
theorem dX1_may_50 : decode cX1_may 50 = .ok (.iload_n 3, 1) := by decide +kernel
theorem dX1_may_51 : decode cX1_may 51 = .ok (.baload, 1) := by decide +kernel
theorem dX1_may_52 : decode cX1_may 52 = .ok (.ifCond .eq 5, 3) := by decide +kernel
theorem dX1_may_55 : decode cX1_may 55 = .ok (.iconst 1, 1) := by decide +kernel
theorem dX1_may_56 : decode cX1_may 56 = .ok (.ireturn, 1) := by decide +kernel
theorem dX1_may_57 : decode cX1_may 57 = .ok (.iinc 3 1, 3) := by decide +kernel
theorem dX1_may_60 : decode cX1_may 60 = .ok (.goto (-42), 3) := by decide +kernel
theorem dX1_may_63 : decode cX1_may 63 = .ok (.iload_n 1, 1) := by decide +kernel
theorem dX1_may_64 : decode cX1_may 64 = .ok (.ifCond .ne 7, 3) := by decide +kernel
theorem dX1_may_67 : decode cX1_may 67 = .ok (.iconst 1, 1) := by decide +kernel
theorem dX1_may_68 : decode cX1_may 68 = .ok (.goto 4, 3) := by decide +kernel
theorem dX1_may_71 : decode cX1_may 71 = .ok (.iconst 0, 1) := by decide +kernel
theorem dX1_may_72 : decode cX1_may 72 = .ok (.ireturn, 1) := by decide +kernel
theorem dX1_revoke_0 : decode cX1_revoke 0 = .ok (.aload_n 0, 1) := by decide +kernel
theorem dX1_revoke_1 : decode cX1_revoke 1 = .ok (.iload_n 1, 1) := by decide +kernel
theorem dX1_revoke_2 : decode cX1_revoke 2 = .ok (.iload_n 2, 1) := by decide +kernel
theorem dX1_revoke_3 : decode cX1_revoke 3 = .ok (.iload_n 3, 1) := by decide +kernel
theorem dX1_revoke_4 : decode cX1_revoke 4 = .ok (.invokevirtual 50, 3) := by decide +kernel
theorem dX1_revoke_7 : decode cX1_revoke 7 = .ok (.istore 4, 2) := by decide +kernel
theorem dX1_revoke_9 : decode cX1_revoke 9 = .ok (.iload 4, 2) := by decide +kernel
theorem dX1_revoke_11 : decode cX1_revoke 11 = .ok (.ifCond .lt 7, 3) := by decide +kernel
theorem dX1_revoke_14 : decode cX1_revoke 14 = .ok (.aload_n 0, 1) := by decide +kernel
theorem dX1_revoke_15 : decode cX1_revoke 15 = .ok (.invokevirtual 54, 3) := by decide +kernel
theorem dX1_revoke_18 : decode cX1_revoke 18 = .ok (.iload 4, 2) := by decide +kernel
theorem dX1_revoke_20 : decode cX1_revoke 20 = .ok (.ireturn, 1) := by decide +kernel
theorem dX1_reach_0 : decode cX1_reach 0 = .ok (.iload_n 1, 1) := by decide +kernel
theorem dX1_reach_1 : decode cX1_reach 1 = .ok (.invokestatic 29, 3) := by decide +kernel
theorem dX1_reach_4 : decode cX1_reach 4 = .ok (.ifCond .ne 17, 3) := by decide +kernel
theorem dX1_reach_7 : decode cX1_reach 7 = .ok (.iload_n 2, 1) := by decide +kernel
theorem dX1_reach_8 : decode cX1_reach 8 = .ok (.invokestatic 29, 3) := by decide +kernel
theorem dX1_reach_11 : decode cX1_reach 11 = .ok (.ifCond .ne 10, 3) := by decide +kernel
theorem dX1_reach_14 : decode cX1_reach 14 = .ok (.iload_n 3, 1) := by decide +kernel
theorem dX1_reach_15 : decode cX1_reach 15 = .ok (.invokestatic 33, 3) := by decide +kernel
theorem dX1_reach_18 : decode cX1_reach 18 = .ok (.ifCond .eq 5, 3) := by decide +kernel
theorem dX1_reach_21 : decode cX1_reach 21 = .ok (.iconst (-1), 1) := by decide +kernel
theorem dX1_reach_22 : decode cX1_reach 22 = .ok (.ireturn, 1) := by decide +kernel
theorem dX1_reach_23 : decode cX1_reach 23 = .ok (.iconst 0, 1) := by decide +kernel
theorem dX1_reach_24 : decode cX1_reach 24 = .ok (.istore 4, 2) := by decide +kernel
theorem dX1_reach_26 : decode cX1_reach 26 = .ok (.iload 4, 2) := by decide +kernel
theorem dX1_reach_28 : decode cX1_reach 28 = .ok (.aload_n 0, 1) := by decide +kernel
theorem dX1_reach_29 : decode cX1_reach 29 = .ok (.getfield 36, 3) := by decide +kernel
theorem dX1_reach_32 : decode cX1_reach 32 = .ok (.if_icmp .ge 54, 3) := by decide +kernel
theorem dX1_reach_35 : decode cX1_reach 35 = .ok (.aload_n 0, 1) := by decide +kernel
theorem dX1_reach_36 : decode cX1_reach 36 = .ok (.getfield 26, 3) := by decide +kernel
theorem dX1_reach_39 : decode cX1_reach 39 = .ok (.iload 4, 2) := by decide +kernel
theorem dX1_reach_41 : decode cX1_reach 41 = .ok (.aload_n 0, 1) := by decide +kernel
theorem dX1_reach_42 : decode cX1_reach 42 = .ok (.getfield 13, 3) := by decide +kernel
theorem dX1_reach_45 : decode cX1_reach 45 = .ok (.iload 4, 2) := by decide +kernel
theorem dX1_reach_47 : decode cX1_reach 47 = .ok (.iaload, 1) := by decide +kernel
theorem dX1_reach_48 : decode cX1_reach 48 = .ok (.iload_n 1, 1) := by decide +kernel
theorem dX1_reach_49 : decode cX1_reach 49 = .ok (.if_icmp .ne 25, 3) := by decide +kernel
theorem dX1_reach_52 : decode cX1_reach 52 = .ok (.aload_n 0, 1) := by decide +kernel
theorem dX1_reach_53 : decode cX1_reach 53 = .ok (.getfield 16, 3) := by decide +kernel
theorem dX1_reach_56 : decode cX1_reach 56 = .ok (.iload 4, 2) := by decide +kernel
theorem dX1_reach_58 : decode cX1_reach 58 = .ok (.iaload, 1) := by decide +kernel
theorem dX1_reach_59 : decode cX1_reach 59 = .ok (.iload_n 2, 1) := by decide +kernel
theorem dX1_reach_60 : decode cX1_reach 60 = .ok (.if_icmp .ne 14, 3) := by decide +kernel
theorem dX1_reach_63 : decode cX1_reach 63 = .ok (.aload_n 0, 1) := by decide +kernel
theorem dX1_reach_64 : decode cX1_reach 64 = .ok (.getfield 19, 3) := by decide +kernel
theorem dX1_reach_67 : decode cX1_reach 67 = .ok (.iload 4, 2) := by decide +kernel
theorem dX1_reach_69 : decode cX1_reach 69 = .ok (.iaload, 1) := by decide +kernel
theorem dX1_reach_70 : decode cX1_reach 70 = .ok (.iload_n 3, 1) := by decide +kernel
theorem dX1_reach_71 : decode cX1_reach 71 = .ok (.if_icmp .eq 7, 3) := by decide +kernel
theorem dX1_reach_74 : decode cX1_reach 74 = .ok (.iconst 1, 1) := by decide +kernel
theorem dX1_reach_75 : decode cX1_reach 75 = .ok (.goto 4, 3) := by decide +kernel
theorem dX1_reach_78 : decode cX1_reach 78 = .ok (.iconst 0, 1) := by decide +kernel
theorem dX1_reach_79 : decode cX1_reach 79 = .ok (.bastore, 1) := by decide +kernel
theorem dX1_reach_80 : decode cX1_reach 80 = .ok (.iinc 4 1, 3) := by decide +kernel
theorem dX1_reach_83 : decode cX1_reach 83 = .ok (.goto (-57), 3) := by decide +kernel
theorem dX1_reach_86 : decode cX1_reach 86 = .ok (.aload_n 0, 1) := by decide +kernel
theorem dX1_reach_87 : decode cX1_reach 87 = .ok (.invokevirtual 57, 3) := by decide +kernel
theorem dX1_reach_90 : decode cX1_reach 90 = .ok (.ireturn, 1) := by decide +kernel
theorem dX1_settle_0 : decode cX1_settle 0 = .ok (.iconst 0, 1) := by decide +kernel
theorem dX1_settle_1 : decode cX1_settle 1 = .ok (.istore_n 1, 1) := by decide +kernel
theorem dX1_settle_2 : decode cX1_settle 2 = .ok (.iconst 0, 1) := by decide +kernel
theorem dX1_settle_3 : decode cX1_settle 3 = .ok (.istore_n 2, 1) := by decide +kernel
theorem dX1_settle_4 : decode cX1_settle 4 = .ok (.iload_n 2, 1) := by decide +kernel
theorem dX1_settle_5 : decode cX1_settle 5 = .ok (.aload_n 0, 1) := by decide +kernel
theorem dX1_settle_6 : decode cX1_settle 6 = .ok (.getfield 36, 3) := by decide +kernel
theorem dX1_settle_9 : decode cX1_settle 9 = .ok (.if_icmp .ge 49, 3) := by decide +kernel
theorem dX1_settle_12 : decode cX1_settle 12 = .ok (.aload_n 0, 1) := by decide +kernel
theorem dX1_settle_13 : decode cX1_settle 13 = .ok (.getfield 26, 3) := by decide +kernel
theorem dX1_settle_16 : decode cX1_settle 16 = .ok (.iload_n 2, 1) := by decide +kernel
theorem dX1_settle_17 : decode cX1_settle 17 = .ok (.aload_n 0, 1) := by decide +kernel
theorem dX1_settle_18 : decode cX1_settle 18 = .ok (.getfield 26, 3) := by decide +kernel
theorem dX1_settle_21 : decode cX1_settle 21 = .ok (.iload_n 2, 1) := by decide +kernel
theorem dX1_settle_22 : decode cX1_settle 22 = .ok (.baload, 1) := by decide +kernel
theorem dX1_settle_23 : decode cX1_settle 23 = .ok (.ifCond .eq 15, 3) := by decide +kernel
theorem dX1_settle_26 : decode cX1_settle 26 = .ok (.aload_n 0, 1) := by decide +kernel
theorem dX1_settle_27 : decode cX1_settle 27 = .ok (.iload_n 2, 1) := by decide +kernel
theorem dX1_settle_28 : decode cX1_settle 28 = .ok (.invokevirtual 47, 3) := by decide +kernel
theorem dX1_settle_31 : decode cX1_settle 31 = .ok (.ifCond .eq 7, 3) := by decide +kernel
theorem dX1_settle_34 : decode cX1_settle 34 = .ok (.iconst 1, 1) := by decide +kernel
theorem dX1_settle_35 : decode cX1_settle 35 = .ok (.goto 4, 3) := by decide +kernel
theorem dX1_settle_38 : decode cX1_settle 38 = .ok (.iconst 0, 1) := by decide +kernel
theorem dX1_settle_39 : decode cX1_settle 39 = .ok (.bastore, 1) := by decide +kernel
theorem dX1_settle_40 : decode cX1_settle 40 = .ok (.aload_n 0, 1) := by decide +kernel
theorem dX1_settle_41 : decode cX1_settle 41 = .ok (.getfield 26, 3) := by decide +kernel
theorem dX1_settle_44 : decode cX1_settle 44 = .ok (.iload_n 2, 1) := by decide +kernel
theorem dX1_settle_45 : decode cX1_settle 45 = .ok (.baload, 1) := by decide +kernel
theorem dX1_settle_46 : decode cX1_settle 46 = .ok (.ifCond .ne 6, 3) := by decide +kernel
theorem dX1_settle_49 : decode cX1_settle 49 = .ok (.iinc 1 1, 3) := by decide +kernel
theorem dX1_settle_52 : decode cX1_settle 52 = .ok (.iinc 2 1, 3) := by decide +kernel
theorem dX1_settle_55 : decode cX1_settle 55 = .ok (.goto (-51), 3) := by decide +kernel
theorem dX1_settle_58 : decode cX1_settle 58 = .ok (.iload_n 1, 1) := by decide +kernel
theorem dX1_settle_59 : decode cX1_settle 59 = .ok (.ireturn, 1) := by decide +kernel
theorem dX1_founded_0 : decode cX1_founded 0 = .ok (.aload_n 0, 1) := by decide +kernel
theorem dX1_founded_1 : decode cX1_founded 1 = .ok (.getfield 13, 3) := by decide +kernel
theorem dX1_founded_4 : decode cX1_founded 4 = .ok (.iload_n 1, 1) := by decide +kernel
theorem dX1_founded_5 : decode cX1_founded 5 = .ok (.iaload, 1) := by decide +kernel
theorem dX1_founded_6 : decode cX1_founded 6 = .ok (.ifCond .ne 5, 3) := by decide +kernel
theorem dX1_founded_9 : decode cX1_founded 9 = .ok (.iconst 1, 1) := by decide +kernel
end
section
set_option maxRecDepth 100000
theorem dX1_founded_10 : decode cX1_founded 10 = .ok (.ireturn, 1) := by decide +kernel
theorem dX1_founded_11 : decode cX1_founded 11 = .ok (.iconst 0, 1) := by decide +kernel
theorem dX1_founded_12 : decode cX1_founded 12 = .ok (.istore_n 2, 1) := by decide +kernel
theorem dX1_founded_13 : decode cX1_founded 13 = .ok (.iload_n 2, 1) := by decide +kernel
theorem dX1_founded_14 : decode cX1_founded 14 = .ok (.iload_n 1, 1) := by decide +kernel
theorem dX1_founded_15 : decode cX1_founded 15 = .ok (.if_icmp .ge 59, 3) := by decide +kernel
theorem dX1_founded_18 : decode cX1_founded 18 = .ok (.aload_n 0, 1) := by decide +kernel
theorem dX1_founded_19 : decode cX1_founded 19 = .ok (.getfield 26, 3) := by decide +kernel
theorem dX1_founded_22 : decode cX1_founded 22 = .ok (.iload_n 2, 1) := by decide +kernel
theorem dX1_founded_23 : decode cX1_founded 23 = .ok (.baload, 1) := by decide +kernel
theorem dX1_founded_24 : decode cX1_founded 24 = .ok (.ifCond .eq 44, 3) := by decide +kernel
theorem dX1_founded_27 : decode cX1_founded 27 = .ok (.aload_n 0, 1) := by decide +kernel
theorem dX1_founded_28 : decode cX1_founded 28 = .ok (.getfield 22, 3) := by decide +kernel
theorem dX1_founded_31 : decode cX1_founded 31 = .ok (.iload_n 2, 1) := by decide +kernel
theorem dX1_founded_32 : decode cX1_founded 32 = .ok (.baload, 1) := by decide +kernel
theorem dX1_founded_33 : decode cX1_founded 33 = .ok (.ifCond .eq 35, 3) := by decide +kernel
theorem dX1_founded_36 : decode cX1_founded 36 = .ok (.aload_n 0, 1) := by decide +kernel
theorem dX1_founded_37 : decode cX1_founded 37 = .ok (.getfield 16, 3) := by decide +kernel
theorem dX1_founded_40 : decode cX1_founded 40 = .ok (.iload_n 2, 1) := by decide +kernel
theorem dX1_founded_41 : decode cX1_founded 41 = .ok (.iaload, 1) := by decide +kernel
theorem dX1_founded_42 : decode cX1_founded 42 = .ok (.aload_n 0, 1) := by decide +kernel
theorem dX1_founded_43 : decode cX1_founded 43 = .ok (.getfield 13, 3) := by decide +kernel
theorem dX1_founded_46 : decode cX1_founded 46 = .ok (.iload_n 1, 1) := by decide +kernel
theorem dX1_founded_47 : decode cX1_founded 47 = .ok (.iaload, 1) := by decide +kernel
theorem dX1_founded_48 : decode cX1_founded 48 = .ok (.if_icmp .ne 20, 3) := by decide +kernel
theorem dX1_founded_51 : decode cX1_founded 51 = .ok (.aload_n 0, 1) := by decide +kernel
theorem dX1_founded_52 : decode cX1_founded 52 = .ok (.getfield 19, 3) := by decide +kernel
theorem dX1_founded_55 : decode cX1_founded 55 = .ok (.iload_n 2, 1) := by decide +kernel
theorem dX1_founded_56 : decode cX1_founded 56 = .ok (.iaload, 1) := by decide +kernel
theorem dX1_founded_57 : decode cX1_founded 57 = .ok (.aload_n 0, 1) := by decide +kernel
theorem dX1_founded_58 : decode cX1_founded 58 = .ok (.getfield 19, 3) := by decide +kernel
theorem dX1_founded_61 : decode cX1_founded 61 = .ok (.iload_n 1, 1) := by decide +kernel
theorem dX1_founded_62 : decode cX1_founded 62 = .ok (.iaload, 1) := by decide +kernel
theorem dX1_founded_63 : decode cX1_founded 63 = .ok (.if_icmp .ne 5, 3) := by decide +kernel
theorem dX1_founded_66 : decode cX1_founded 66 = .ok (.iconst 1, 1) := by decide +kernel
theorem dX1_founded_67 : decode cX1_founded 67 = .ok (.ireturn, 1) := by decide +kernel
theorem dX1_founded_68 : decode cX1_founded 68 = .ok (.iinc 2 1, 3) := by decide +kernel
theorem dX1_founded_71 : decode cX1_founded 71 = .ok (.goto (-58), 3) := by decide +kernel
theorem dX1_founded_74 : decode cX1_founded 74 = .ok (.iconst 0, 1) := by decide +kernel
theorem dX1_founded_75 : decode cX1_founded 75 = .ok (.ireturn, 1) := by decide +kernel
theorem dX1_drop_0 : decode cX1_drop 0 = .ok (.iconst 0, 1) := by decide +kernel
theorem dX1_drop_1 : decode cX1_drop 1 = .ok (.istore_n 1, 1) := by decide +kernel
theorem dX1_drop_2 : decode cX1_drop 2 = .ok (.iconst 0, 1) := by decide +kernel
theorem dX1_drop_3 : decode cX1_drop 3 = .ok (.istore_n 2, 1) := by decide +kernel
theorem dX1_drop_4 : decode cX1_drop 4 = .ok (.iload_n 2, 1) := by decide +kernel
theorem dX1_drop_5 : decode cX1_drop 5 = .ok (.aload_n 0, 1) := by decide +kernel
theorem dX1_drop_6 : decode cX1_drop 6 = .ok (.getfield 36, 3) := by decide +kernel
theorem dX1_drop_9 : decode cX1_drop 9 = .ok (.if_icmp .ge 81, 3) := by decide +kernel
theorem dX1_drop_12 : decode cX1_drop 12 = .ok (.aload_n 0, 1) := by decide +kernel
theorem dX1_drop_13 : decode cX1_drop 13 = .ok (.getfield 26, 3) := by decide +kernel
theorem dX1_drop_16 : decode cX1_drop 16 = .ok (.iload_n 2, 1) := by decide +kernel
theorem dX1_drop_17 : decode cX1_drop 17 = .ok (.baload, 1) := by decide +kernel
theorem dX1_drop_18 : decode cX1_drop 18 = .ok (.ifCond .eq 66, 3) := by decide +kernel
theorem dX1_drop_21 : decode cX1_drop 21 = .ok (.aload_n 0, 1) := by decide +kernel
theorem dX1_drop_22 : decode cX1_drop 22 = .ok (.getfield 7, 3) := by decide +kernel
theorem dX1_drop_25 : decode cX1_drop 25 = .ok (.iload_n 1, 1) := by decide +kernel
theorem dX1_drop_26 : decode cX1_drop 26 = .ok (.aload_n 0, 1) := by decide +kernel
theorem dX1_drop_27 : decode cX1_drop 27 = .ok (.getfield 7, 3) := by decide +kernel
theorem dX1_drop_30 : decode cX1_drop 30 = .ok (.iload_n 2, 1) := by decide +kernel
theorem dX1_drop_31 : decode cX1_drop 31 = .ok (.iaload, 1) := by decide +kernel
theorem dX1_drop_32 : decode cX1_drop 32 = .ok (.iastore, 1) := by decide +kernel
theorem dX1_drop_33 : decode cX1_drop 33 = .ok (.aload_n 0, 1) := by decide +kernel
theorem dX1_drop_34 : decode cX1_drop 34 = .ok (.getfield 13, 3) := by decide +kernel
theorem dX1_drop_37 : decode cX1_drop 37 = .ok (.iload_n 1, 1) := by decide +kernel
theorem dX1_drop_38 : decode cX1_drop 38 = .ok (.aload_n 0, 1) := by decide +kernel
theorem dX1_drop_39 : decode cX1_drop 39 = .ok (.getfield 13, 3) := by decide +kernel
theorem dX1_drop_42 : decode cX1_drop 42 = .ok (.iload_n 2, 1) := by decide +kernel
theorem dX1_drop_43 : decode cX1_drop 43 = .ok (.iaload, 1) := by decide +kernel
theorem dX1_drop_44 : decode cX1_drop 44 = .ok (.iastore, 1) := by decide +kernel
theorem dX1_drop_45 : decode cX1_drop 45 = .ok (.aload_n 0, 1) := by decide +kernel
theorem dX1_drop_46 : decode cX1_drop 46 = .ok (.getfield 16, 3) := by decide +kernel
theorem dX1_drop_49 : decode cX1_drop 49 = .ok (.iload_n 1, 1) := by decide +kernel
theorem dX1_drop_50 : decode cX1_drop 50 = .ok (.aload_n 0, 1) := by decide +kernel
theorem dX1_drop_51 : decode cX1_drop 51 = .ok (.getfield 16, 3) := by decide +kernel
theorem dX1_drop_54 : decode cX1_drop 54 = .ok (.iload_n 2, 1) := by decide +kernel
theorem dX1_drop_55 : decode cX1_drop 55 = .ok (.iaload, 1) := by decide +kernel
theorem dX1_drop_56 : decode cX1_drop 56 = .ok (.iastore, 1) := by decide +kernel
theorem dX1_drop_57 : decode cX1_drop 57 = .ok (.aload_n 0, 1) := by decide +kernel
theorem dX1_drop_58 : decode cX1_drop 58 = .ok (.getfield 19, 3) := by decide +kernel
theorem dX1_drop_61 : decode cX1_drop 61 = .ok (.iload_n 1, 1) := by decide +kernel
theorem dX1_drop_62 : decode cX1_drop 62 = .ok (.aload_n 0, 1) := by decide +kernel
theorem dX1_drop_63 : decode cX1_drop 63 = .ok (.getfield 19, 3) := by decide +kernel
theorem dX1_drop_66 : decode cX1_drop 66 = .ok (.iload_n 2, 1) := by decide +kernel
theorem dX1_drop_67 : decode cX1_drop 67 = .ok (.iaload, 1) := by decide +kernel
theorem dX1_drop_68 : decode cX1_drop 68 = .ok (.iastore, 1) := by decide +kernel
theorem dX1_drop_69 : decode cX1_drop 69 = .ok (.aload_n 0, 1) := by decide +kernel
theorem dX1_drop_70 : decode cX1_drop 70 = .ok (.getfield 22, 3) := by decide +kernel
theorem dX1_drop_73 : decode cX1_drop 73 = .ok (.iload_n 1, 1) := by decide +kernel
theorem dX1_drop_74 : decode cX1_drop 74 = .ok (.aload_n 0, 1) := by decide +kernel
theorem dX1_drop_75 : decode cX1_drop 75 = .ok (.getfield 22, 3) := by decide +kernel
theorem dX1_drop_78 : decode cX1_drop 78 = .ok (.iload_n 2, 1) := by decide +kernel
theorem dX1_drop_79 : decode cX1_drop 79 = .ok (.baload, 1) := by decide +kernel
theorem dX1_drop_80 : decode cX1_drop 80 = .ok (.bastore, 1) := by decide +kernel
theorem dX1_drop_81 : decode cX1_drop 81 = .ok (.iinc 1 1, 3) := by decide +kernel
theorem dX1_drop_84 : decode cX1_drop 84 = .ok (.iinc 2 1, 3) := by decide +kernel
theorem dX1_drop_87 : decode cX1_drop 87 = .ok (.goto (-83), 3) := by decide +kernel
theorem dX1_drop_90 : decode cX1_drop 90 = .ok (.aload_n 0, 1) := by decide +kernel
theorem dX1_drop_91 : decode cX1_drop 91 = .ok (.iload_n 1, 1) := by decide +kernel
theorem dX1_drop_92 : decode cX1_drop 92 = .ok (.putfield 36, 3) := by decide +kernel
theorem dX1_drop_95 : decode cX1_drop 95 = .ok (.return_, 1) := by decide +kernel
theorem dX1_expel_0 : decode cX1_expel 0 = .ok (.iload_n 1, 1) := by decide +kernel
theorem dX1_expel_1 : decode cX1_expel 1 = .ok (.iconst 1, 1) := by decide +kernel
theorem dX1_expel_2 : decode cX1_expel 2 = .ok (.if_icmp .lt 9, 3) := by decide +kernel
theorem dX1_expel_5 : decode cX1_expel 5 = .ok (.iload_n 1, 1) := by decide +kernel
theorem dX1_expel_6 : decode cX1_expel 6 = .ok (.bipush 7, 2) := by decide +kernel
theorem dX1_expel_8 : decode cX1_expel 8 = .ok (.if_icmp .le 5, 3) := by decide +kernel
theorem dX1_expel_11 : decode cX1_expel 11 = .ok (.iconst (-1), 1) := by decide +kernel
theorem dX1_expel_12 : decode cX1_expel 12 = .ok (.ireturn, 1) := by decide +kernel
theorem dX1_expel_13 : decode cX1_expel 13 = .ok (.iconst 0, 1) := by decide +kernel
theorem dX1_expel_14 : decode cX1_expel 14 = .ok (.istore_n 2, 1) := by decide +kernel
theorem dX1_expel_15 : decode cX1_expel 15 = .ok (.iload_n 2, 1) := by decide +kernel
theorem dX1_expel_16 : decode cX1_expel 16 = .ok (.aload_n 0, 1) := by decide +kernel
theorem dX1_expel_17 : decode cX1_expel 17 = .ok (.getfield 36, 3) := by decide +kernel
theorem dX1_expel_20 : decode cX1_expel 20 = .ok (.if_icmp .ge 40, 3) := by decide +kernel
theorem dX1_expel_23 : decode cX1_expel 23 = .ok (.aload_n 0, 1) := by decide +kernel
theorem dX1_expel_24 : decode cX1_expel 24 = .ok (.getfield 26, 3) := by decide +kernel
theorem dX1_expel_27 : decode cX1_expel 27 = .ok (.iload_n 2, 1) := by decide +kernel
theorem dX1_expel_28 : decode cX1_expel 28 = .ok (.aload_n 0, 1) := by decide +kernel
theorem dX1_expel_29 : decode cX1_expel 29 = .ok (.getfield 13, 3) := by decide +kernel
theorem dX1_expel_32 : decode cX1_expel 32 = .ok (.iload_n 2, 1) := by decide +kernel
theorem dX1_expel_33 : decode cX1_expel 33 = .ok (.iaload, 1) := by decide +kernel
theorem dX1_expel_34 : decode cX1_expel 34 = .ok (.iload_n 1, 1) := by decide +kernel
theorem dX1_expel_35 : decode cX1_expel 35 = .ok (.if_icmp .eq 17, 3) := by decide +kernel
theorem dX1_expel_38 : decode cX1_expel 38 = .ok (.aload_n 0, 1) := by decide +kernel
theorem dX1_expel_39 : decode cX1_expel 39 = .ok (.getfield 16, 3) := by decide +kernel
theorem dX1_expel_42 : decode cX1_expel 42 = .ok (.iload_n 2, 1) := by decide +kernel
theorem dX1_expel_43 : decode cX1_expel 43 = .ok (.iaload, 1) := by decide +kernel
theorem dX1_expel_44 : decode cX1_expel 44 = .ok (.iload_n 1, 1) := by decide +kernel
theorem dX1_expel_45 : decode cX1_expel 45 = .ok (.if_icmp .eq 7, 3) := by decide +kernel
theorem dX1_expel_48 : decode cX1_expel 48 = .ok (.iconst 1, 1) := by decide +kernel
theorem dX1_expel_49 : decode cX1_expel 49 = .ok (.goto 4, 3) := by decide +kernel
theorem dX1_expel_52 : decode cX1_expel 52 = .ok (.iconst 0, 1) := by decide +kernel
theorem dX1_expel_53 : decode cX1_expel 53 = .ok (.bastore, 1) := by decide +kernel
theorem dX1_expel_54 : decode cX1_expel 54 = .ok (.iinc 2 1, 3) := by decide +kernel
theorem dX1_expel_57 : decode cX1_expel 57 = .ok (.goto (-42), 3) := by decide +kernel
theorem dX1_expel_60 : decode cX1_expel 60 = .ok (.aload_n 0, 1) := by decide +kernel
theorem dX1_expel_61 : decode cX1_expel 61 = .ok (.invokevirtual 57, 3) := by decide +kernel
theorem dX1_expel_64 : decode cX1_expel 64 = .ok (.istore_n 2, 1) := by decide +kernel
theorem dX1_expel_65 : decode cX1_expel 65 = .ok (.aload_n 0, 1) := by decide +kernel
theorem dX1_expel_66 : decode cX1_expel 66 = .ok (.invokevirtual 54, 3) := by decide +kernel
theorem dX1_expel_69 : decode cX1_expel 69 = .ok (.iload_n 2, 1) := by decide +kernel
theorem dX1_expel_70 : decode cX1_expel 70 = .ok (.ireturn, 1) := by decide +kernel
theorem dX1_holds_0 : decode cX1_holds 0 = .ok (.iload_n 1, 1) := by decide +kernel
theorem dX1_holds_1 : decode cX1_holds 1 = .ok (.invokestatic 29, 3) := by decide +kernel
theorem dX1_holds_4 : decode cX1_holds 4 = .ok (.ifCond .ne 10, 3) := by decide +kernel
theorem dX1_holds_7 : decode cX1_holds 7 = .ok (.iload_n 2, 1) := by decide +kernel
theorem dX1_holds_8 : decode cX1_holds 8 = .ok (.invokestatic 33, 3) := by decide +kernel
theorem dX1_holds_11 : decode cX1_holds 11 = .ok (.ifCond .eq 5, 3) := by decide +kernel
theorem dX1_holds_14 : decode cX1_holds 14 = .ok (.iconst (-1), 1) := by decide +kernel
theorem dX1_holds_15 : decode cX1_holds 15 = .ok (.ireturn, 1) := by decide +kernel
theorem dX1_holds_16 : decode cX1_holds 16 = .ok (.iload_n 1, 1) := by decide +kernel
theorem dX1_holds_17 : decode cX1_holds 17 = .ok (.ifCond .eq 12, 3) := by decide +kernel
theorem dX1_holds_20 : decode cX1_holds 20 = .ok (.aload_n 0, 1) := by decide +kernel
theorem dX1_holds_21 : decode cX1_holds 21 = .ok (.iload_n 1, 1) := by decide +kernel
theorem dX1_holds_22 : decode cX1_holds 22 = .ok (.iload_n 2, 1) := by decide +kernel
theorem dX1_holds_23 : decode cX1_holds 23 = .ok (.invokevirtual 61, 3) := by decide +kernel
theorem dX1_holds_26 : decode cX1_holds 26 = .ok (.ifCond .le 7, 3) := by decide +kernel
theorem dX1_holds_29 : decode cX1_holds 29 = .ok (.iconst 1, 1) := by decide +kernel
theorem dX1_holds_30 : decode cX1_holds 30 = .ok (.goto 4, 3) := by decide +kernel
theorem dX1_holds_33 : decode cX1_holds 33 = .ok (.iconst 0, 1) := by decide +kernel
theorem dX1_holds_34 : decode cX1_holds 34 = .ok (.ireturn, 1) := by decide +kernel
theorem dX1_received_0 : decode cX1_received 0 = .ok (.iload_n 1, 1) := by decide +kernel
theorem dX1_received_1 : decode cX1_received 1 = .ok (.invokestatic 29, 3) := by decide +kernel
theorem dX1_received_4 : decode cX1_received 4 = .ok (.ifCond .ne 10, 3) := by decide +kernel
theorem dX1_received_7 : decode cX1_received 7 = .ok (.iload_n 2, 1) := by decide +kernel
theorem dX1_received_8 : decode cX1_received 8 = .ok (.invokestatic 33, 3) := by decide +kernel
theorem dX1_received_11 : decode cX1_received 11 = .ok (.ifCond .eq 5, 3) := by decide +kernel
theorem dX1_received_14 : decode cX1_received 14 = .ok (.iconst (-1), 1) := by decide +kernel
theorem dX1_received_15 : decode cX1_received 15 = .ok (.ireturn, 1) := by decide +kernel
theorem dX1_received_16 : decode cX1_received 16 = .ok (.iconst 0, 1) := by decide +kernel
theorem dX1_received_17 : decode cX1_received 17 = .ok (.istore_n 3, 1) := by decide +kernel
theorem dX1_received_18 : decode cX1_received 18 = .ok (.iconst 0, 1) := by decide +kernel
theorem dX1_received_19 : decode cX1_received 19 = .ok (.istore 4, 2) := by decide +kernel
theorem dX1_received_21 : decode cX1_received 21 = .ok (.iload 4, 2) := by decide +kernel
theorem dX1_received_23 : decode cX1_received 23 = .ok (.aload_n 0, 1) := by decide +kernel
theorem dX1_received_24 : decode cX1_received 24 = .ok (.getfield 36, 3) := by decide +kernel
theorem dX1_received_27 : decode cX1_received 27 = .ok (.if_icmp .ge 34, 3) := by decide +kernel
theorem dX1_received_30 : decode cX1_received 30 = .ok (.aload_n 0, 1) := by decide +kernel
theorem dX1_received_31 : decode cX1_received 31 = .ok (.getfield 16, 3) := by decide +kernel
theorem dX1_received_34 : decode cX1_received 34 = .ok (.iload 4, 2) := by decide +kernel
theorem dX1_received_36 : decode cX1_received 36 = .ok (.iaload, 1) := by decide +kernel
theorem dX1_received_37 : decode cX1_received 37 = .ok (.iload_n 1, 1) := by decide +kernel
theorem dX1_received_38 : decode cX1_received 38 = .ok (.if_icmp .ne 17, 3) := by decide +kernel
theorem dX1_received_41 : decode cX1_received 41 = .ok (.aload_n 0, 1) := by decide +kernel
theorem dX1_received_42 : decode cX1_received 42 = .ok (.getfield 19, 3) := by decide +kernel
theorem dX1_received_45 : decode cX1_received 45 = .ok (.iload 4, 2) := by decide +kernel
theorem dX1_received_47 : decode cX1_received 47 = .ok (.iaload, 1) := by decide +kernel
theorem dX1_received_48 : decode cX1_received 48 = .ok (.iload_n 2, 1) := by decide +kernel
theorem dX1_received_49 : decode cX1_received 49 = .ok (.if_icmp .ne 6, 3) := by decide +kernel
theorem dX1_received_52 : decode cX1_received 52 = .ok (.iinc 3 1, 3) := by decide +kernel
theorem dX1_received_55 : decode cX1_received 55 = .ok (.iinc 4 1, 3) := by decide +kernel
theorem dX1_received_58 : decode cX1_received 58 = .ok (.goto (-37), 3) := by decide +kernel
theorem dX1_received_61 : decode cX1_received 61 = .ok (.iload_n 3, 1) := by decide +kernel
theorem dX1_received_62 : decode cX1_received 62 = .ok (.ireturn, 1) := by decide +kernel
theorem dX1_given_0 : decode cX1_given 0 = .ok (.iload_n 1, 1) := by decide +kernel
theorem dX1_given_1 : decode cX1_given 1 = .ok (.invokestatic 29, 3) := by decide +kernel
theorem dX1_given_4 : decode cX1_given 4 = .ok (.ifCond .ne 10, 3) := by decide +kernel
theorem dX1_given_7 : decode cX1_given 7 = .ok (.iload_n 2, 1) := by decide +kernel
theorem dX1_given_8 : decode cX1_given 8 = .ok (.invokestatic 33, 3) := by decide +kernel
theorem dX1_given_11 : decode cX1_given 11 = .ok (.ifCond .eq 5, 3) := by decide +kernel
theorem dX1_given_14 : decode cX1_given 14 = .ok (.iconst (-1), 1) := by decide +kernel
theorem dX1_given_15 : decode cX1_given 15 = .ok (.ireturn, 1) := by decide +kernel
theorem dX1_given_16 : decode cX1_given 16 = .ok (.iconst 0, 1) := by decide +kernel
theorem dX1_given_17 : decode cX1_given 17 = .ok (.istore_n 3, 1) := by decide +kernel
theorem dX1_given_18 : decode cX1_given 18 = .ok (.iconst 0, 1) := by decide +kernel
theorem dX1_given_19 : decode cX1_given 19 = .ok (.istore 4, 2) := by decide +kernel
theorem dX1_given_21 : decode cX1_given 21 = .ok (.iload 4, 2) := by decide +kernel
theorem dX1_given_23 : decode cX1_given 23 = .ok (.aload_n 0, 1) := by decide +kernel
theorem dX1_given_24 : decode cX1_given 24 = .ok (.getfield 36, 3) := by decide +kernel
theorem dX1_given_27 : decode cX1_given 27 = .ok (.if_icmp .ge 34, 3) := by decide +kernel
theorem dX1_given_30 : decode cX1_given 30 = .ok (.aload_n 0, 1) := by decide +kernel
theorem dX1_given_31 : decode cX1_given 31 = .ok (.getfield 13, 3) := by decide +kernel
theorem dX1_given_34 : decode cX1_given 34 = .ok (.iload 4, 2) := by decide +kernel
theorem dX1_given_36 : decode cX1_given 36 = .ok (.iaload, 1) := by decide +kernel
theorem dX1_given_37 : decode cX1_given 37 = .ok (.iload_n 1, 1) := by decide +kernel
theorem dX1_given_38 : decode cX1_given 38 = .ok (.if_icmp .ne 17, 3) := by decide +kernel
theorem dX1_given_41 : decode cX1_given 41 = .ok (.aload_n 0, 1) := by decide +kernel
theorem dX1_given_42 : decode cX1_given 42 = .ok (.getfield 19, 3) := by decide +kernel
theorem dX1_given_45 : decode cX1_given 45 = .ok (.iload 4, 2) := by decide +kernel
theorem dX1_given_47 : decode cX1_given 47 = .ok (.iaload, 1) := by decide +kernel
theorem dX1_given_48 : decode cX1_given 48 = .ok (.iload_n 2, 1) := by decide +kernel
theorem dX1_given_49 : decode cX1_given 49 = .ok (.if_icmp .ne 6, 3) := by decide +kernel
theorem dX1_given_52 : decode cX1_given 52 = .ok (.iinc 3 1, 3) := by decide +kernel
theorem dX1_given_55 : decode cX1_given 55 = .ok (.iinc 4 1, 3) := by decide +kernel
theorem dX1_given_58 : decode cX1_given 58 = .ok (.goto (-37), 3) := by decide +kernel
theorem dX1_given_61 : decode cX1_given 61 = .ok (.iload_n 3, 1) := by decide +kernel
theorem dX1_given_62 : decode cX1_given 62 = .ok (.ireturn, 1) := by decide +kernel
theorem dX1_stands_0 : decode cX1_stands 0 = .ok (.iconst 0, 1) := by decide +kernel
theorem dX1_stands_1 : decode cX1_stands 1 = .ok (.istore_n 2, 1) := by decide +kernel
theorem dX1_stands_2 : decode cX1_stands 2 = .ok (.iload_n 2, 1) := by decide +kernel
theorem dX1_stands_3 : decode cX1_stands 3 = .ok (.aload_n 0, 1) := by decide +kernel
theorem dX1_stands_4 : decode cX1_stands 4 = .ok (.getfield 36, 3) := by decide +kernel
theorem dX1_stands_7 : decode cX1_stands 7 = .ok (.if_icmp .ge 21, 3) := by decide +kernel
theorem dX1_stands_10 : decode cX1_stands 10 = .ok (.aload_n 0, 1) := by decide +kernel
theorem dX1_stands_11 : decode cX1_stands 11 = .ok (.getfield 7, 3) := by decide +kernel
theorem dX1_stands_14 : decode cX1_stands 14 = .ok (.iload_n 2, 1) := by decide +kernel
theorem dX1_stands_15 : decode cX1_stands 15 = .ok (.iaload, 1) := by decide +kernel
theorem dX1_stands_16 : decode cX1_stands 16 = .ok (.iload_n 1, 1) := by decide +kernel
theorem dX1_stands_17 : decode cX1_stands 17 = .ok (.if_icmp .ne 5, 3) := by decide +kernel
theorem dX1_stands_20 : decode cX1_stands 20 = .ok (.iconst 1, 1) := by decide +kernel
theorem dX1_stands_21 : decode cX1_stands 21 = .ok (.ireturn, 1) := by decide +kernel
theorem dX1_stands_22 : decode cX1_stands 22 = .ok (.iinc 2 1, 3) := by decide +kernel
theorem dX1_stands_25 : decode cX1_stands 25 = .ok (.goto (-23), 3) := by decide +kernel
theorem dX1_stands_28 : decode cX1_stands 28 = .ok (.iconst 0, 1) := by decide +kernel
theorem dX1_stands_29 : decode cX1_stands 29 = .ok (.ireturn, 1) := by decide +kernel
theorem dX1_standing_0 : decode cX1_standing 0 = .ok (.aload_n 0, 1) := by decide +kernel
theorem dX1_standing_1 : decode cX1_standing 1 = .ok (.getfield 36, 3) := by decide +kernel
theorem dX1_standing_4 : decode cX1_standing 4 = .ok (.ireturn, 1) := by decide +kernel
end
section
set_option maxRecDepth 100000
theorem dL_law_0 : decode cL_law 0 = .ok (.new 7, 3) := by decide +kernel
theorem dL_law_3 : decode cL_law 3 = .ok (.dup, 1) := by decide +kernel
theorem dL_law_4 : decode cL_law 4 = .ok (.invokespecial 9, 3) := by decide +kernel
theorem dL_law_7 : decode cL_law 7 = .ok (.astore_n 1, 1) := by decide +kernel
theorem dL_law_8 : decode cL_law 8 = .ok (.new 10, 3) := by decide +kernel
theorem dL_law_11 : decode cL_law 11 = .ok (.dup, 1) := by decide +kernel
theorem dL_law_12 : decode cL_law 12 = .ok (.invokespecial 12, 3) := by decide +kernel
theorem dL_law_15 : decode cL_law 15 = .ok (.astore_n 2, 1) := by decide +kernel
theorem dL_law_16 : decode cL_law 16 = .ok (.iconst 0, 1) := by decide +kernel
theorem dL_law_17 : decode cL_law 17 = .ok (.istore_n 3, 1) := by decide +kernel
theorem dL_law_18 : decode cL_law 18 = .ok (.iload_n 3, 1) := by decide +kernel
theorem dL_law_19 : decode cL_law 19 = .ok (.aload_n 0, 1) := by decide +kernel
theorem dL_law_20 : decode cL_law 20 = .ok (.arraylength, 1) := by decide +kernel
theorem dL_law_21 : decode cL_law 21 = .ok (.iconst 5, 1) := by decide +kernel
theorem dL_law_22 : decode cL_law 22 = .ok (.isub, 1) := by decide +kernel
theorem dL_law_23 : decode cL_law 23 = .ok (.if_icmp .gt 417, 3) := by decide +kernel
theorem dL_law_26 : decode cL_law 26 = .ok (.aload_n 0, 1) := by decide +kernel
theorem dL_law_27 : decode cL_law 27 = .ok (.iload_n 3, 1) := by decide +kernel
theorem dL_law_28 : decode cL_law 28 = .ok (.iaload, 1) := by decide +kernel
theorem dL_law_29 : decode cL_law 29 = .ok (.bipush 15, 2) := by decide +kernel
theorem dL_law_31 : decode cL_law 31 = .ok (.iand, 1) := by decide +kernel
theorem dL_law_32 : decode cL_law 32 = .ok (.tableswitch 402 0 9 #[56, 125, 168, 191, 224, 257, 290, 323, 346, 389], 56) := by decide +kernel
theorem dL_law_88 : decode cL_law 88 = .ok (.aload_n 1, 1) := by decide +kernel
theorem dL_law_89 : decode cL_law 89 = .ok (.aload_n 0, 1) := by decide +kernel
theorem dL_law_90 : decode cL_law 90 = .ok (.iload_n 3, 1) := by decide +kernel
theorem dL_law_91 : decode cL_law 91 = .ok (.iconst 1, 1) := by decide +kernel
theorem dL_law_92 : decode cL_law 92 = .ok (.iadd, 1) := by decide +kernel
theorem dL_law_93 : decode cL_law 93 = .ok (.iaload, 1) := by decide +kernel
theorem dL_law_94 : decode cL_law 94 = .ok (.aload_n 0, 1) := by decide +kernel
theorem dL_law_95 : decode cL_law 95 = .ok (.iload_n 3, 1) := by decide +kernel
theorem dL_law_96 : decode cL_law 96 = .ok (.iconst 2, 1) := by decide +kernel
theorem dL_law_97 : decode cL_law 97 = .ok (.iadd, 1) := by decide +kernel
theorem dL_law_98 : decode cL_law 98 = .ok (.iaload, 1) := by decide +kernel
theorem dL_law_99 : decode cL_law 99 = .ok (.aload_n 0, 1) := by decide +kernel
theorem dL_law_100 : decode cL_law 100 = .ok (.iload_n 3, 1) := by decide +kernel
theorem dL_law_101 : decode cL_law 101 = .ok (.iconst 3, 1) := by decide +kernel
theorem dL_law_102 : decode cL_law 102 = .ok (.iadd, 1) := by decide +kernel
theorem dL_law_103 : decode cL_law 103 = .ok (.iaload, 1) := by decide +kernel
theorem dL_law_104 : decode cL_law 104 = .ok (.aload_n 0, 1) := by decide +kernel
theorem dL_law_105 : decode cL_law 105 = .ok (.iload_n 3, 1) := by decide +kernel
theorem dL_law_106 : decode cL_law 106 = .ok (.iconst 4, 1) := by decide +kernel
theorem dL_law_107 : decode cL_law 107 = .ok (.iadd, 1) := by decide +kernel
theorem dL_law_108 : decode cL_law 108 = .ok (.iaload, 1) := by decide +kernel
theorem dL_law_109 : decode cL_law 109 = .ok (.ifCond .eq 7, 3) := by decide +kernel
theorem dL_law_112 : decode cL_law 112 = .ok (.iconst 1, 1) := by decide +kernel
theorem dL_law_113 : decode cL_law 113 = .ok (.goto 4, 3) := by decide +kernel
theorem dL_law_116 : decode cL_law 116 = .ok (.iconst 0, 1) := by decide +kernel
theorem dL_law_117 : decode cL_law 117 = .ok (.invokevirtual 13, 3) := by decide +kernel
theorem dL_law_120 : decode cL_law 120 = .ok (.aload_n 2, 1) := by decide +kernel
theorem dL_law_121 : decode cL_law 121 = .ok (.aload_n 0, 1) := by decide +kernel
theorem dL_law_122 : decode cL_law 122 = .ok (.iload_n 3, 1) := by decide +kernel
theorem dL_law_123 : decode cL_law 123 = .ok (.iconst 1, 1) := by decide +kernel
theorem dL_law_124 : decode cL_law 124 = .ok (.iadd, 1) := by decide +kernel
theorem dL_law_125 : decode cL_law 125 = .ok (.iaload, 1) := by decide +kernel
theorem dL_law_126 : decode cL_law 126 = .ok (.aload_n 0, 1) := by decide +kernel
theorem dL_law_127 : decode cL_law 127 = .ok (.iload_n 3, 1) := by decide +kernel
theorem dL_law_128 : decode cL_law 128 = .ok (.iconst 2, 1) := by decide +kernel
theorem dL_law_129 : decode cL_law 129 = .ok (.iadd, 1) := by decide +kernel
theorem dL_law_130 : decode cL_law 130 = .ok (.iaload, 1) := by decide +kernel
theorem dL_law_131 : decode cL_law 131 = .ok (.aload_n 0, 1) := by decide +kernel
theorem dL_law_132 : decode cL_law 132 = .ok (.iload_n 3, 1) := by decide +kernel
theorem dL_law_133 : decode cL_law 133 = .ok (.iconst 3, 1) := by decide +kernel
theorem dL_law_134 : decode cL_law 134 = .ok (.iadd, 1) := by decide +kernel
theorem dL_law_135 : decode cL_law 135 = .ok (.iaload, 1) := by decide +kernel
theorem dL_law_136 : decode cL_law 136 = .ok (.aload_n 0, 1) := by decide +kernel
theorem dL_law_137 : decode cL_law 137 = .ok (.iload_n 3, 1) := by decide +kernel
theorem dL_law_138 : decode cL_law 138 = .ok (.iconst 4, 1) := by decide +kernel
theorem dL_law_139 : decode cL_law 139 = .ok (.iadd, 1) := by decide +kernel
theorem dL_law_140 : decode cL_law 140 = .ok (.iaload, 1) := by decide +kernel
theorem dL_law_141 : decode cL_law 141 = .ok (.ifCond .eq 7, 3) := by decide +kernel
theorem dL_law_144 : decode cL_law 144 = .ok (.iconst 1, 1) := by decide +kernel
theorem dL_law_145 : decode cL_law 145 = .ok (.goto 4, 3) := by decide +kernel
theorem dL_law_148 : decode cL_law 148 = .ok (.iconst 0, 1) := by decide +kernel
theorem dL_law_149 : decode cL_law 149 = .ok (.invokevirtual 17, 3) := by decide +kernel
theorem dL_law_152 : decode cL_law 152 = .ok (.if_icmp .eq 282, 3) := by decide +kernel
theorem dL_law_155 : decode cL_law 155 = .ok (.iconst 0, 1) := by decide +kernel
theorem dL_law_156 : decode cL_law 156 = .ok (.ireturn, 1) := by decide +kernel
theorem dL_law_157 : decode cL_law 157 = .ok (.aload_n 1, 1) := by decide +kernel
theorem dL_law_158 : decode cL_law 158 = .ok (.aload_n 0, 1) := by decide +kernel
theorem dL_law_159 : decode cL_law 159 = .ok (.iload_n 3, 1) := by decide +kernel
theorem dL_law_160 : decode cL_law 160 = .ok (.iconst 1, 1) := by decide +kernel
theorem dL_law_161 : decode cL_law 161 = .ok (.iadd, 1) := by decide +kernel
theorem dL_law_162 : decode cL_law 162 = .ok (.iaload, 1) := by decide +kernel
theorem dL_law_163 : decode cL_law 163 = .ok (.aload_n 0, 1) := by decide +kernel
theorem dL_law_164 : decode cL_law 164 = .ok (.iload_n 3, 1) := by decide +kernel
theorem dL_law_165 : decode cL_law 165 = .ok (.iconst 2, 1) := by decide +kernel
theorem dL_law_166 : decode cL_law 166 = .ok (.iadd, 1) := by decide +kernel
theorem dL_law_167 : decode cL_law 167 = .ok (.iaload, 1) := by decide +kernel
theorem dL_law_168 : decode cL_law 168 = .ok (.aload_n 0, 1) := by decide +kernel
theorem dL_law_169 : decode cL_law 169 = .ok (.iload_n 3, 1) := by decide +kernel
theorem dL_law_170 : decode cL_law 170 = .ok (.iconst 3, 1) := by decide +kernel
theorem dL_law_171 : decode cL_law 171 = .ok (.iadd, 1) := by decide +kernel
theorem dL_law_172 : decode cL_law 172 = .ok (.iaload, 1) := by decide +kernel
theorem dL_law_173 : decode cL_law 173 = .ok (.invokevirtual 18, 3) := by decide +kernel
theorem dL_law_176 : decode cL_law 176 = .ok (.aload_n 2, 1) := by decide +kernel
theorem dL_law_177 : decode cL_law 177 = .ok (.aload_n 0, 1) := by decide +kernel
theorem dL_law_178 : decode cL_law 178 = .ok (.iload_n 3, 1) := by decide +kernel
theorem dL_law_179 : decode cL_law 179 = .ok (.iconst 1, 1) := by decide +kernel
theorem dL_law_180 : decode cL_law 180 = .ok (.iadd, 1) := by decide +kernel
theorem dL_law_181 : decode cL_law 181 = .ok (.iaload, 1) := by decide +kernel
theorem dL_law_182 : decode cL_law 182 = .ok (.aload_n 0, 1) := by decide +kernel
theorem dL_law_183 : decode cL_law 183 = .ok (.iload_n 3, 1) := by decide +kernel
theorem dL_law_184 : decode cL_law 184 = .ok (.iconst 2, 1) := by decide +kernel
theorem dL_law_185 : decode cL_law 185 = .ok (.iadd, 1) := by decide +kernel
theorem dL_law_186 : decode cL_law 186 = .ok (.iaload, 1) := by decide +kernel
theorem dL_law_187 : decode cL_law 187 = .ok (.aload_n 0, 1) := by decide +kernel
theorem dL_law_188 : decode cL_law 188 = .ok (.iload_n 3, 1) := by decide +kernel
theorem dL_law_189 : decode cL_law 189 = .ok (.iconst 3, 1) := by decide +kernel
theorem dL_law_190 : decode cL_law 190 = .ok (.iadd, 1) := by decide +kernel
theorem dL_law_191 : decode cL_law 191 = .ok (.iaload, 1) := by decide +kernel
theorem dL_law_192 : decode cL_law 192 = .ok (.invokevirtual 22, 3) := by decide +kernel
theorem dL_law_195 : decode cL_law 195 = .ok (.if_icmp .eq 239, 3) := by decide +kernel
theorem dL_law_198 : decode cL_law 198 = .ok (.iconst 0, 1) := by decide +kernel
theorem dL_law_199 : decode cL_law 199 = .ok (.ireturn, 1) := by decide +kernel
theorem dL_law_200 : decode cL_law 200 = .ok (.aload_n 1, 1) := by decide +kernel
theorem dL_law_201 : decode cL_law 201 = .ok (.aload_n 0, 1) := by decide +kernel
theorem dL_law_202 : decode cL_law 202 = .ok (.iload_n 3, 1) := by decide +kernel
theorem dL_law_203 : decode cL_law 203 = .ok (.iconst 1, 1) := by decide +kernel
theorem dL_law_204 : decode cL_law 204 = .ok (.iadd, 1) := by decide +kernel
theorem dL_law_205 : decode cL_law 205 = .ok (.iaload, 1) := by decide +kernel
theorem dL_law_206 : decode cL_law 206 = .ok (.invokevirtual 23, 3) := by decide +kernel
theorem dL_law_209 : decode cL_law 209 = .ok (.aload_n 2, 1) := by decide +kernel
theorem dL_law_210 : decode cL_law 210 = .ok (.aload_n 0, 1) := by decide +kernel
theorem dL_law_211 : decode cL_law 211 = .ok (.iload_n 3, 1) := by decide +kernel
theorem dL_law_212 : decode cL_law 212 = .ok (.iconst 1, 1) := by decide +kernel
theorem dL_law_213 : decode cL_law 213 = .ok (.iadd, 1) := by decide +kernel
theorem dL_law_214 : decode cL_law 214 = .ok (.iaload, 1) := by decide +kernel
theorem dL_law_215 : decode cL_law 215 = .ok (.invokevirtual 27, 3) := by decide +kernel
theorem dL_law_218 : decode cL_law 218 = .ok (.if_icmp .eq 216, 3) := by decide +kernel
theorem dL_law_221 : decode cL_law 221 = .ok (.iconst 0, 1) := by decide +kernel
theorem dL_law_222 : decode cL_law 222 = .ok (.ireturn, 1) := by decide +kernel
theorem dL_law_223 : decode cL_law 223 = .ok (.aload_n 1, 1) := by decide +kernel
theorem dL_law_224 : decode cL_law 224 = .ok (.aload_n 0, 1) := by decide +kernel
theorem dL_law_225 : decode cL_law 225 = .ok (.iload_n 3, 1) := by decide +kernel
theorem dL_law_226 : decode cL_law 226 = .ok (.iconst 1, 1) := by decide +kernel
theorem dL_law_227 : decode cL_law 227 = .ok (.iadd, 1) := by decide +kernel
theorem dL_law_228 : decode cL_law 228 = .ok (.iaload, 1) := by decide +kernel
theorem dL_law_229 : decode cL_law 229 = .ok (.aload_n 0, 1) := by decide +kernel
theorem dL_law_230 : decode cL_law 230 = .ok (.iload_n 3, 1) := by decide +kernel
theorem dL_law_231 : decode cL_law 231 = .ok (.iconst 2, 1) := by decide +kernel
theorem dL_law_232 : decode cL_law 232 = .ok (.iadd, 1) := by decide +kernel
theorem dL_law_233 : decode cL_law 233 = .ok (.iaload, 1) := by decide +kernel
theorem dL_law_234 : decode cL_law 234 = .ok (.invokevirtual 28, 3) := by decide +kernel
theorem dL_law_237 : decode cL_law 237 = .ok (.aload_n 2, 1) := by decide +kernel
theorem dL_law_238 : decode cL_law 238 = .ok (.aload_n 0, 1) := by decide +kernel
theorem dL_law_239 : decode cL_law 239 = .ok (.iload_n 3, 1) := by decide +kernel
theorem dL_law_240 : decode cL_law 240 = .ok (.iconst 1, 1) := by decide +kernel
theorem dL_law_241 : decode cL_law 241 = .ok (.iadd, 1) := by decide +kernel
theorem dL_law_242 : decode cL_law 242 = .ok (.iaload, 1) := by decide +kernel
theorem dL_law_243 : decode cL_law 243 = .ok (.aload_n 0, 1) := by decide +kernel
theorem dL_law_244 : decode cL_law 244 = .ok (.iload_n 3, 1) := by decide +kernel
theorem dL_law_245 : decode cL_law 245 = .ok (.iconst 2, 1) := by decide +kernel
theorem dL_law_246 : decode cL_law 246 = .ok (.iadd, 1) := by decide +kernel
theorem dL_law_247 : decode cL_law 247 = .ok (.iaload, 1) := by decide +kernel
theorem dL_law_248 : decode cL_law 248 = .ok (.invokevirtual 32, 3) := by decide +kernel
theorem dL_law_251 : decode cL_law 251 = .ok (.if_icmp .eq 183, 3) := by decide +kernel
theorem dL_law_254 : decode cL_law 254 = .ok (.iconst 0, 1) := by decide +kernel
theorem dL_law_255 : decode cL_law 255 = .ok (.ireturn, 1) := by decide +kernel
theorem dL_law_256 : decode cL_law 256 = .ok (.aload_n 1, 1) := by decide +kernel
theorem dL_law_257 : decode cL_law 257 = .ok (.aload_n 0, 1) := by decide +kernel
theorem dL_law_258 : decode cL_law 258 = .ok (.iload_n 3, 1) := by decide +kernel
theorem dL_law_259 : decode cL_law 259 = .ok (.iconst 1, 1) := by decide +kernel
theorem dL_law_260 : decode cL_law 260 = .ok (.iadd, 1) := by decide +kernel
theorem dL_law_261 : decode cL_law 261 = .ok (.iaload, 1) := by decide +kernel
theorem dL_law_262 : decode cL_law 262 = .ok (.aload_n 0, 1) := by decide +kernel
theorem dL_law_263 : decode cL_law 263 = .ok (.iload_n 3, 1) := by decide +kernel
theorem dL_law_264 : decode cL_law 264 = .ok (.iconst 2, 1) := by decide +kernel
theorem dL_law_265 : decode cL_law 265 = .ok (.iadd, 1) := by decide +kernel
theorem dL_law_266 : decode cL_law 266 = .ok (.iaload, 1) := by decide +kernel
theorem dL_law_267 : decode cL_law 267 = .ok (.invokevirtual 33, 3) := by decide +kernel
theorem dL_law_270 : decode cL_law 270 = .ok (.aload_n 2, 1) := by decide +kernel
theorem dL_law_271 : decode cL_law 271 = .ok (.aload_n 0, 1) := by decide +kernel
theorem dL_law_272 : decode cL_law 272 = .ok (.iload_n 3, 1) := by decide +kernel
theorem dL_law_273 : decode cL_law 273 = .ok (.iconst 1, 1) := by decide +kernel
theorem dL_law_274 : decode cL_law 274 = .ok (.iadd, 1) := by decide +kernel
theorem dL_law_275 : decode cL_law 275 = .ok (.iaload, 1) := by decide +kernel
theorem dL_law_276 : decode cL_law 276 = .ok (.aload_n 0, 1) := by decide +kernel
theorem dL_law_277 : decode cL_law 277 = .ok (.iload_n 3, 1) := by decide +kernel
theorem dL_law_278 : decode cL_law 278 = .ok (.iconst 2, 1) := by decide +kernel
theorem dL_law_279 : decode cL_law 279 = .ok (.iadd, 1) := by decide +kernel
theorem dL_law_280 : decode cL_law 280 = .ok (.iaload, 1) := by decide +kernel
theorem dL_law_281 : decode cL_law 281 = .ok (.invokevirtual 36, 3) := by decide +kernel
theorem dL_law_284 : decode cL_law 284 = .ok (.if_icmp .eq 150, 3) := by decide +kernel
theorem dL_law_287 : decode cL_law 287 = .ok (.iconst 0, 1) := by decide +kernel
theorem dL_law_288 : decode cL_law 288 = .ok (.ireturn, 1) := by decide +kernel
theorem dL_law_289 : decode cL_law 289 = .ok (.aload_n 1, 1) := by decide +kernel
theorem dL_law_290 : decode cL_law 290 = .ok (.aload_n 0, 1) := by decide +kernel
theorem dL_law_291 : decode cL_law 291 = .ok (.iload_n 3, 1) := by decide +kernel
theorem dL_law_292 : decode cL_law 292 = .ok (.iconst 1, 1) := by decide +kernel
theorem dL_law_293 : decode cL_law 293 = .ok (.iadd, 1) := by decide +kernel
theorem dL_law_294 : decode cL_law 294 = .ok (.iaload, 1) := by decide +kernel
theorem dL_law_295 : decode cL_law 295 = .ok (.aload_n 0, 1) := by decide +kernel
theorem dL_law_296 : decode cL_law 296 = .ok (.iload_n 3, 1) := by decide +kernel
theorem dL_law_297 : decode cL_law 297 = .ok (.iconst 2, 1) := by decide +kernel
theorem dL_law_298 : decode cL_law 298 = .ok (.iadd, 1) := by decide +kernel
theorem dL_law_299 : decode cL_law 299 = .ok (.iaload, 1) := by decide +kernel
theorem dL_law_300 : decode cL_law 300 = .ok (.invokevirtual 37, 3) := by decide +kernel
theorem dL_law_303 : decode cL_law 303 = .ok (.aload_n 2, 1) := by decide +kernel
theorem dL_law_304 : decode cL_law 304 = .ok (.aload_n 0, 1) := by decide +kernel
theorem dL_law_305 : decode cL_law 305 = .ok (.iload_n 3, 1) := by decide +kernel
theorem dL_law_306 : decode cL_law 306 = .ok (.iconst 1, 1) := by decide +kernel
theorem dL_law_307 : decode cL_law 307 = .ok (.iadd, 1) := by decide +kernel
theorem dL_law_308 : decode cL_law 308 = .ok (.iaload, 1) := by decide +kernel
theorem dL_law_309 : decode cL_law 309 = .ok (.aload_n 0, 1) := by decide +kernel
theorem dL_law_310 : decode cL_law 310 = .ok (.iload_n 3, 1) := by decide +kernel
theorem dL_law_311 : decode cL_law 311 = .ok (.iconst 2, 1) := by decide +kernel
theorem dL_law_312 : decode cL_law 312 = .ok (.iadd, 1) := by decide +kernel
theorem dL_law_313 : decode cL_law 313 = .ok (.iaload, 1) := by decide +kernel
theorem dL_law_314 : decode cL_law 314 = .ok (.invokevirtual 40, 3) := by decide +kernel
theorem dL_law_317 : decode cL_law 317 = .ok (.if_icmp .eq 117, 3) := by decide +kernel
theorem dL_law_320 : decode cL_law 320 = .ok (.iconst 0, 1) := by decide +kernel
theorem dL_law_321 : decode cL_law 321 = .ok (.ireturn, 1) := by decide +kernel
theorem dL_law_322 : decode cL_law 322 = .ok (.aload_n 1, 1) := by decide +kernel
theorem dL_law_323 : decode cL_law 323 = .ok (.aload_n 0, 1) := by decide +kernel
theorem dL_law_324 : decode cL_law 324 = .ok (.iload_n 3, 1) := by decide +kernel
theorem dL_law_325 : decode cL_law 325 = .ok (.iconst 1, 1) := by decide +kernel
theorem dL_law_326 : decode cL_law 326 = .ok (.iadd, 1) := by decide +kernel
theorem dL_law_327 : decode cL_law 327 = .ok (.iaload, 1) := by decide +kernel
theorem dL_law_328 : decode cL_law 328 = .ok (.aload_n 0, 1) := by decide +kernel
theorem dL_law_329 : decode cL_law 329 = .ok (.iload_n 3, 1) := by decide +kernel
theorem dL_law_330 : decode cL_law 330 = .ok (.iconst 2, 1) := by decide +kernel
theorem dL_law_331 : decode cL_law 331 = .ok (.iadd, 1) := by decide +kernel
theorem dL_law_332 : decode cL_law 332 = .ok (.iaload, 1) := by decide +kernel
theorem dL_law_333 : decode cL_law 333 = .ok (.invokevirtual 41, 3) := by decide +kernel
theorem dL_law_336 : decode cL_law 336 = .ok (.aload_n 2, 1) := by decide +kernel
theorem dL_law_337 : decode cL_law 337 = .ok (.aload_n 0, 1) := by decide +kernel
theorem dL_law_338 : decode cL_law 338 = .ok (.iload_n 3, 1) := by decide +kernel
theorem dL_law_339 : decode cL_law 339 = .ok (.iconst 1, 1) := by decide +kernel
theorem dL_law_340 : decode cL_law 340 = .ok (.iadd, 1) := by decide +kernel
theorem dL_law_341 : decode cL_law 341 = .ok (.iaload, 1) := by decide +kernel
theorem dL_law_342 : decode cL_law 342 = .ok (.aload_n 0, 1) := by decide +kernel
theorem dL_law_343 : decode cL_law 343 = .ok (.iload_n 3, 1) := by decide +kernel
theorem dL_law_344 : decode cL_law 344 = .ok (.iconst 2, 1) := by decide +kernel
theorem dL_law_345 : decode cL_law 345 = .ok (.iadd, 1) := by decide +kernel
theorem dL_law_346 : decode cL_law 346 = .ok (.iaload, 1) := by decide +kernel
theorem dL_law_347 : decode cL_law 347 = .ok (.invokevirtual 44, 3) := by decide +kernel
theorem dL_law_350 : decode cL_law 350 = .ok (.if_icmp .eq 84, 3) := by decide +kernel
theorem dL_law_353 : decode cL_law 353 = .ok (.iconst 0, 1) := by decide +kernel
theorem dL_law_354 : decode cL_law 354 = .ok (.ireturn, 1) := by decide +kernel
theorem dL_law_355 : decode cL_law 355 = .ok (.aload_n 1, 1) := by decide +kernel
theorem dL_law_356 : decode cL_law 356 = .ok (.aload_n 0, 1) := by decide +kernel
theorem dL_law_357 : decode cL_law 357 = .ok (.iload_n 3, 1) := by decide +kernel
theorem dL_law_358 : decode cL_law 358 = .ok (.iconst 1, 1) := by decide +kernel
theorem dL_law_359 : decode cL_law 359 = .ok (.iadd, 1) := by decide +kernel
theorem dL_law_360 : decode cL_law 360 = .ok (.iaload, 1) := by decide +kernel
theorem dL_law_361 : decode cL_law 361 = .ok (.invokevirtual 45, 3) := by decide +kernel
theorem dL_law_364 : decode cL_law 364 = .ok (.aload_n 2, 1) := by decide +kernel
theorem dL_law_365 : decode cL_law 365 = .ok (.aload_n 0, 1) := by decide +kernel
theorem dL_law_366 : decode cL_law 366 = .ok (.iload_n 3, 1) := by decide +kernel
theorem dL_law_367 : decode cL_law 367 = .ok (.iconst 1, 1) := by decide +kernel
theorem dL_law_368 : decode cL_law 368 = .ok (.iadd, 1) := by decide +kernel
theorem dL_law_369 : decode cL_law 369 = .ok (.iaload, 1) := by decide +kernel
theorem dL_law_370 : decode cL_law 370 = .ok (.invokevirtual 48, 3) := by decide +kernel
theorem dL_law_373 : decode cL_law 373 = .ok (.if_icmp .eq 61, 3) := by decide +kernel
theorem dL_law_376 : decode cL_law 376 = .ok (.iconst 0, 1) := by decide +kernel
theorem dL_law_377 : decode cL_law 377 = .ok (.ireturn, 1) := by decide +kernel
theorem dL_law_378 : decode cL_law 378 = .ok (.aload_n 1, 1) := by decide +kernel
theorem dL_law_379 : decode cL_law 379 = .ok (.aload_n 0, 1) := by decide +kernel
theorem dL_law_380 : decode cL_law 380 = .ok (.iload_n 3, 1) := by decide +kernel
theorem dL_law_381 : decode cL_law 381 = .ok (.iconst 1, 1) := by decide +kernel
theorem dL_law_382 : decode cL_law 382 = .ok (.iadd, 1) := by decide +kernel
theorem dL_law_383 : decode cL_law 383 = .ok (.iaload, 1) := by decide +kernel
theorem dL_law_384 : decode cL_law 384 = .ok (.aload_n 0, 1) := by decide +kernel
theorem dL_law_385 : decode cL_law 385 = .ok (.iload_n 3, 1) := by decide +kernel
theorem dL_law_386 : decode cL_law 386 = .ok (.iconst 2, 1) := by decide +kernel
theorem dL_law_387 : decode cL_law 387 = .ok (.iadd, 1) := by decide +kernel
theorem dL_law_388 : decode cL_law 388 = .ok (.iaload, 1) := by decide +kernel
theorem dL_law_389 : decode cL_law 389 = .ok (.aload_n 0, 1) := by decide +kernel
theorem dL_law_390 : decode cL_law 390 = .ok (.iload_n 3, 1) := by decide +kernel
theorem dL_law_391 : decode cL_law 391 = .ok (.iconst 3, 1) := by decide +kernel
theorem dL_law_392 : decode cL_law 392 = .ok (.iadd, 1) := by decide +kernel
theorem dL_law_393 : decode cL_law 393 = .ok (.iaload, 1) := by decide +kernel
theorem dL_law_394 : decode cL_law 394 = .ok (.invokevirtual 49, 3) := by decide +kernel
theorem dL_law_397 : decode cL_law 397 = .ok (.aload_n 2, 1) := by decide +kernel
theorem dL_law_398 : decode cL_law 398 = .ok (.aload_n 0, 1) := by decide +kernel
theorem dL_law_399 : decode cL_law 399 = .ok (.iload_n 3, 1) := by decide +kernel
theorem dL_law_400 : decode cL_law 400 = .ok (.iconst 1, 1) := by decide +kernel
theorem dL_law_401 : decode cL_law 401 = .ok (.iadd, 1) := by decide +kernel
theorem dL_law_402 : decode cL_law 402 = .ok (.iaload, 1) := by decide +kernel
theorem dL_law_403 : decode cL_law 403 = .ok (.aload_n 0, 1) := by decide +kernel
theorem dL_law_404 : decode cL_law 404 = .ok (.iload_n 3, 1) := by decide +kernel
theorem dL_law_405 : decode cL_law 405 = .ok (.iconst 2, 1) := by decide +kernel
theorem dL_law_406 : decode cL_law 406 = .ok (.iadd, 1) := by decide +kernel
theorem dL_law_407 : decode cL_law 407 = .ok (.iaload, 1) := by decide +kernel
theorem dL_law_408 : decode cL_law 408 = .ok (.aload_n 0, 1) := by decide +kernel
theorem dL_law_409 : decode cL_law 409 = .ok (.iload_n 3, 1) := by decide +kernel
theorem dL_law_410 : decode cL_law 410 = .ok (.iconst 3, 1) := by decide +kernel
theorem dL_law_411 : decode cL_law 411 = .ok (.iadd, 1) := by decide +kernel
theorem dL_law_412 : decode cL_law 412 = .ok (.iaload, 1) := by decide +kernel
theorem dL_law_413 : decode cL_law 413 = .ok (.invokevirtual 52, 3) := by decide +kernel
theorem dL_law_416 : decode cL_law 416 = .ok (.if_icmp .eq 18, 3) := by decide +kernel
theorem dL_law_419 : decode cL_law 419 = .ok (.iconst 0, 1) := by decide +kernel
theorem dL_law_420 : decode cL_law 420 = .ok (.ireturn, 1) := by decide +kernel
theorem dL_law_421 : decode cL_law 421 = .ok (.aload_n 1, 1) := by decide +kernel
theorem dL_law_422 : decode cL_law 422 = .ok (.invokevirtual 53, 3) := by decide +kernel
theorem dL_law_425 : decode cL_law 425 = .ok (.aload_n 2, 1) := by decide +kernel
theorem dL_law_426 : decode cL_law 426 = .ok (.invokevirtual 57, 3) := by decide +kernel
theorem dL_law_429 : decode cL_law 429 = .ok (.if_icmp .eq 5, 3) := by decide +kernel
theorem dL_law_432 : decode cL_law 432 = .ok (.iconst 0, 1) := by decide +kernel
theorem dL_law_433 : decode cL_law 433 = .ok (.ireturn, 1) := by decide +kernel
theorem dL_law_434 : decode cL_law 434 = .ok (.iinc 3 5, 3) := by decide +kernel
theorem dL_law_437 : decode cL_law 437 = .ok (.goto (-419), 3) := by decide +kernel
theorem dL_law_440 : decode cL_law 440 = .ok (.iconst 1, 1) := by decide +kernel
theorem dL_law_441 : decode cL_law 441 = .ok (.ireturn, 1) := by decide +kernel
end
section
/-! rows of mine over the kit: booleans, arrays at places that are numbers, contracts of one form, their calls -/
set_option maxRecDepth 100000
abbrev vwCl : List vw_C := [(RX0, TX0, 11), (RX1, TX1, 8)]
/-- a truth value as the machine holds it -/
def bZ (v : Bool) : Int32 := if v then 1 else 0
def bI (b : Nat → Bool) : Nat → Int32 := fun j => bZ (b j)
theorem bZ_nar (v : Bool) : narrow .boolean (.int (bZ v)) = .int (bZ v) := by cases v <;> rfl
theorem bI_up (b : Nat → Bool) (i : Nat) (v : Bool) : upd (bI b) i (vp_nar .boolean (bZ v)) = bI (va_up b i v) := by
  funext j
  by_cases h : j = i
  · simp only [upd, bI, va_up, h, if_true]
    cases v <;> rfl
  · simp only [upd, bI, va_up, h, if_false]
theorem kx_inc (i : Nat) : nI i + Int32.ofInt 1 = nI (i + 1) := nI_1 i
section KX
variable {p : Program} {l : Launch} {e : Env} {R : Room} {s : State} {m : MethodId} {args : Array Value} {below : List Frame} {meth : Method} {c : Code} {H : Heap} {locs : List Loc} {cells slots : Nat} {Q : State → Prop}
variable {cc : ByteArray} {pc : Nat} {ls : Array Slot} {rest : List Value} {D : va_G} {cl : List vw_C} {A : Nat → Prop} {a : Nat} {tys : List (ClassId × FieldType)} {ws : va_W} {H0 : Heap}
theorem kx_ild (hexec : p.tables.exec = Jvm.exec) (hb : c.code = cc) (hK : va_K D cl tys s) (hP : va_P D cl ws H) (q0 t0 : Nat) {cA : ClassId} {n : Nat} {f : Nat → Int32} (ha : ws[q0]? = some (a, .inl (cA, n, .inl f))) (ht : tys[t0]? = some (cA, .int)) {i : Nat} (hi : i < n) (hn : n < 2 ^ 31) (hdg : decode cc pc = .ok (.iaload, 1))
    (kk : W p l e R s m args below meth c H locs cells slots Q (F0 m (pc + 1) ls (.int (f i) :: rest))) : W p l e R s m args below meth c H locs cells slots Q (F0 m pc ls (.int (nI i) :: .ref a :: rest)) := by
  refine va_iald hexec hb hK hP q0 t0 ha ht (vp_in_nI hi hn) hdg ?_
  rw [nI_clamp (Nat.lt_trans hi hn)]
  exact kk
theorem kx_zld (hexec : p.tables.exec = Jvm.exec) (hb : c.code = cc) (hK : va_K D cl tys s) (hP : va_P D cl ws H) (q0 t0 : Nat) {cA : ClassId} {n : Nat} {b : Nat → Bool} (ha : ws[q0]? = some (a, .inl (cA, n, .inl (bI b)))) (ht : tys[t0]? = some (cA, .boolean)) {i : Nat} (hi : i < n) (hn : n < 2 ^ 31) (hdg : decode cc pc = .ok (.baload, 1))
    (kk : W p l e R s m args below meth c H locs cells slots Q (F0 m (pc + 1) ls (.int (bZ (b i)) :: rest))) : W p l e R s m args below meth c H locs cells slots Q (F0 m pc ls (.int (nI i) :: .ref a :: rest)) := by
  refine va_zald hexec hb hK hP q0 t0 ha ht (vp_in_nI hi hn) hdg ?_
  rw [nI_clamp (Nat.lt_trans hi hn)]
  exact kk
theorem kx_ist (hexec : p.tables.exec = Jvm.exec) (hb : c.code = cc) (hK : va_K D cl tys s) (hP : va_P D cl ws H) (hD : va_D A ws) (hS : va_S A H0 H locs) (q0 t0 : Nat) {cA : ClassId} {n : Nat} {f : Nat → Int32} (ha : ws[q0]? = some (a, .inl (cA, n, .inl f))) (ht : tys[t0]? = some (cA, .int)) {i : Nat} {x : Int32} (hi : i < n) (hn : n < 2 ^ 31) (hdg : decode cc pc = .ok (.iastore, 1))
    (kk : ∀ (H1 : Heap) (locs1 : List Loc), va_P D cl (ws.set q0 (a, .inl (cA, n, .inl (va_up f i x)))) H1 → va_D A (ws.set q0 (a, .inl (cA, n, .inl (va_up f i x)))) → va_S A H0 H1 locs1 → W p l e R s m args below meth c H1 locs1 cells slots Q (F0 m (pc + 1) ls rest)) : W p l e R s m args below meth c H locs cells slots Q (F0 m pc ls (.int x :: .int (nI i) :: .ref a :: rest)) := by
  refine va_iast hexec hb hK hP hD hS q0 t0 ha ht (vp_in_nI hi hn) hdg ?_
  rw [nI_clamp (Nat.lt_trans hi hn)]
  exact kk
theorem kx_zst (hexec : p.tables.exec = Jvm.exec) (hb : c.code = cc) (hK : va_K D cl tys s) (hP : va_P D cl ws H) (hD : va_D A ws) (hS : va_S A H0 H locs) (q0 t0 : Nat) {cA : ClassId} {n : Nat} {b : Nat → Bool} (ha : ws[q0]? = some (a, .inl (cA, n, .inl (bI b)))) (ht : tys[t0]? = some (cA, .boolean)) {i : Nat} {x : Int32} {v : Bool} (hv : x = bZ v) (hi : i < n) (hn : n < 2 ^ 31) (hdg : decode cc pc = .ok (.bastore, 1))
    (kk : ∀ (H1 : Heap) (locs1 : List Loc), va_P D cl (ws.set q0 (a, .inl (cA, n, .inl (bI (va_up b i v))))) H1 → va_D A (ws.set q0 (a, .inl (cA, n, .inl (bI (va_up b i v))))) → va_S A H0 H1 locs1 → W p l e R s m args below meth c H1 locs1 cells slots Q (F0 m (pc + 1) ls rest)) : W p l e R s m args below meth c H locs cells slots Q (F0 m pc ls (.int x :: .int (nI i) :: .ref a :: rest)) := by
  subst hv
  refine va_zast hexec hb hK hP hD hS q0 t0 ha ht (vp_in_nI hi hn) hdg ?_
  rw [nI_clamp (Nat.lt_trans hi hn), bI_up]
  exact kk
theorem kx_ge {i n : Nat} {off : Int} {tgt : Nat} (hexec : p.tables.exec = Jvm.exec) (hb : c.code = cc) (hdg : decode cc pc = .ok (.if_icmp .ge off, 3)) (ht : (pc : Int) + off = (tgt : Int)) (hi : i < 2 ^ 31) (hn : n < 2 ^ 31)
    (kt : n ≤ i → W p l e R s m args below meth c H locs cells slots Q (F0 m tgt ls rest)) (kf : i < n → W p l e R s m args below meth c H locs cells slots Q (F0 m (pc + 3) ls rest)) : W p l e R s m args below meth c H locs cells slots Q (F0 m pc ls (.int (nI n) :: .int (nI i) :: rest)) :=
  lv_icmp_ge hexec hb hdg ht (fun h => kt ((nI_leI hn hi).mp h)) (fun h => kf (Nat.not_le.mp fun q => h ((nI_leI hn hi).mpr q)))
theorem kx_ifeq {v : Bool} {off : Int} {tgt : Nat} (hexec : p.tables.exec = Jvm.exec) (hb : c.code = cc) (hdg : decode cc pc = .ok (.ifCond .eq off, 3)) (ht : (pc : Int) + off = (tgt : Int))
    (kt : v = false → W p l e R s m args below meth c H locs cells slots Q (F0 m tgt ls rest)) (kf : v = true → W p l e R s m args below meth c H locs cells slots Q (F0 m (pc + 3) ls rest)) : W p l e R s m args below meth c H locs cells slots Q (F0 m pc ls (.int (bZ v) :: rest)) := by
  cases v
  · exact lv_if_eq hexec hb hdg ht (fun _ => kt rfl) (fun h => absurd (by decide) h)
  · exact lv_if_eq hexec hb hdg ht (fun h => absurd h (by decide)) (fun _ => kf rfl)
theorem kx_ifne {v : Bool} {off : Int} {tgt : Nat} (hexec : p.tables.exec = Jvm.exec) (hb : c.code = cc) (hdg : decode cc pc = .ok (.ifCond .ne off, 3)) (ht : (pc : Int) + off = (tgt : Int))
    (kt : v = true → W p l e R s m args below meth c H locs cells slots Q (F0 m tgt ls rest)) (kf : v = false → W p l e R s m args below meth c H locs cells slots Q (F0 m (pc + 3) ls rest)) : W p l e R s m args below meth c H locs cells slots Q (F0 m pc ls (.int (bZ v) :: rest)) := by
  cases v
  · exact lv_if_ne hexec hb hdg ht (fun h => absurd (by decide) h) (fun _ => kf rfl)
  · exact lv_if_ne hexec hb hdg ht (fun _ => kt rfl) (fun h => absurd h (by decide))
theorem kx_iadd (hexec : p.tables.exec = Jvm.exec) (hb : c.code = cc) {x y v : Int32} (hdg : decode cc pc = .ok (.iadd, 1)) (hv : x + y = v)
    (k : W p l e R s m args below meth c H locs cells slots Q (F0 m (pc + 1) ls (.int v :: rest))) : W p l e R s m args below meth c H locs cells slots Q (F0 m pc ls (.int y :: .int x :: rest)) := by
  subst hv
  exact lv_iadd hexec hb hdg k
theorem kx_isub (hexec : p.tables.exec = Jvm.exec) (hb : c.code = cc) {x y v : Int32} (hdg : decode cc pc = .ok (.isub, 1)) (hv : x - y = v)
    (k : W p l e R s m args below meth c H locs cells slots Q (F0 m (pc + 1) ls (.int v :: rest))) : W p l e R s m args below meth c H locs cells slots Q (F0 m pc ls (.int y :: .int x :: rest)) := by
  subst hv
  exact lv_isub hexec hb hdg k
theorem kx_imul (hexec : p.tables.exec = Jvm.exec) (hb : c.code = cc) {x y v : Int32} (hdg : decode cc pc = .ok (.imul, 1)) (hv : x * y = v)
    (k : W p l e R s m args below meth c H locs cells slots Q (F0 m (pc + 1) ls (.int v :: rest))) : W p l e R s m args below meth c H locs cells slots Q (F0 m pc ls (.int y :: .int x :: rest)) := by
  subst hv
  exact lv_imul hexec hb hdg k
theorem kx_idiv (hexec : p.tables.exec = Jvm.exec) (hb : c.code = cc) {x y v : Int32} (hdg : decode cc pc = .ok (.idiv, 1)) (hne : ¬ y = 0) (hv : x / y = v)
    (k : W p l e R s m args below meth c H locs cells slots Q (F0 m (pc + 1) ls (.int v :: rest))) : W p l e R s m args below meth c H locs cells slots Q (F0 m pc ls (.int y :: .int x :: rest)) := by
  subst hv
  exact lv_idiv hexec hb hdg hne k
theorem kx_irem (hexec : p.tables.exec = Jvm.exec) (hb : c.code = cc) {x y v : Int32} (hdg : decode cc pc = .ok (.irem, 1)) (hne : ¬ y = 0) (hv : x - x / y * y = v)
    (k : W p l e R s m args below meth c H locs cells slots Q (F0 m (pc + 1) ls (.int v :: rest))) : W p l e R s m args below meth c H locs cells slots Q (F0 m pc ls (.int y :: .int x :: rest)) := by
  subst hv
  exact lv_irem hexec hb hdg hne k
/-- the number on top, by another name -/
theorem kx_top {x v : Int32} (hv : x = v) (k : W p l e R s m args below meth c H locs cells slots Q (F0 m pc ls (.int v :: rest))) : W p l e R s m args below meth c H locs cells slots Q (F0 m pc ls (.int x :: rest)) := by
  subst hv
  exact k
end KX
/-! contracts of one form: a world w over states of a type St, the start's state u0; at the end the answer and the new state are as 'post' says -/
def ct_i (l : Launch) (D : va_G) (tys : List (ClassId × FieldType)) (y : MethodName) (cc : ByteArray) (L : Nat) (rt : FieldType) (rm : Room) {St : Type} (w : St → va_W) (u0 : St) (sz : Nat) (av : List Value) (post : Int32 → St → Prop) : Prop :=
  Met l y (ws_ y cc L (some rt)) rm (va_Pc av (fun U => U.heap.size = sz ∧ va_P D vwCl (w u0) U.heap ∧ va_K D vwCl tys U ∧ va_D (fun _ => True) (w u0))) (va_Qi post (fun u t => va_P D vwCl (w u) t.heap ∧ va_D (va_A (w u0) sz) (w u)) (va_A (w u0) sz)) 0 0 (va_A (w u0) sz)
def ct_v (l : Launch) (D : va_G) (tys : List (ClassId × FieldType)) (y : MethodName) (cc : ByteArray) (L : Nat) (rm : Room) {St : Type} (w : St → va_W) (u0 : St) (sz : Nat) (av : List Value) (post : St → Prop) : Prop :=
  Met l y (ws_ y cc L none) rm (va_Pc av (fun U => U.heap.size = sz ∧ va_P D vwCl (w u0) U.heap ∧ va_K D vwCl tys U ∧ va_D (fun _ => True) (w u0))) (va_Qv post (fun u t => va_P D vwCl (w u) t.heap ∧ va_D (va_A (w u0) sz) (w u)) (va_A (w u0) sz)) 0 0 (va_A (w u0) sz)
/-- what holds all through a method's body -/
def cx_ (p : Program) (s : State) (m : MethodId) (ar : Array Value) (c : Code) (A : Nat → Prop) (cc : ByteArray) (L : Nat) (own : String) : Prop :=
  p.tables.exec = Jvm.exec ∧ c.code = cc ∧ c.maxLocals = L ∧ s.vm.findClass own = some m.cls ∧ (∀ w ∈ lw_all, w.before ar s = true) ∧ ∀ q : Nat, s.heap.size ≤ q → A q
theorem en_i {l : Launch} {D : va_G} {tys : List (ClassId × FieldType)} {y : MethodName} {cc : ByteArray} {L : Nat} {rt : FieldType} {rm : Room} {St : Type} {w : St → va_W} {u0 : St} {sz : Nat} {av : List Value} {post : Int32 → St → Prop} (hy : plainName y.cls = true) (hL : (lg_sl av).length ≤ L)
    (K : ∀ (p : Program) (e : Env) (s : State) (m : MethodId) (ar : Array Value) (below : List Frame) (meth : Method) (c : Code) (A : Nat → Prop) (Q : State → Prop), cx_ p s m ar c A cc L y.cls → va_K D vwCl tys s →
      (∀ (H : Heap) (locs : List Loc) (ls : Array Slot) (pc : Nat) (v : Int32) (u : St), decode cc pc = .ok (.ireturn, 1) → narrow rt (.int v) = .int v → va_P D vwCl (w u) H → va_D A (w u) → va_S A s.heap H locs → post v u → W p l e rm s m ar below meth c H locs 0 0 Q (F0 m pc ls [.int v])) →
      ∀ (H : Heap) (locs : List Loc) (ls : Array Slot), va_P D vwCl (w u0) H → va_D A (w u0) → va_S A s.heap H locs → lv_has ls L (lv_args 0 av) → W p l e rm s m ar below meth c H locs 0 0 Q (F0 m 0 ls [])) :
    ct_i l D tys y cc L rt rm w u0 sz av post := by
  refine Met.ofW (cc := cc) (maxL := L) (ret := some rt) hy rfl ?_
  intro p e s m args below meth c s₁ B hml hv
  obtain ⟨rfl, hsz, hP, hK, hD0⟩ := hv
  have hx := B.exec
  have hb := B.bytes
  have hr := B.returns
  have hts := atoms_spec (ws := ws_ y cc L (some rt)) B.pre
  have hts : ∀ w ∈ lw_all, w.before _ s = true := fun w h => hts w (List.mem_cons_of_mem _ h)
  have hown : s.vm.findClass y.cls = some m.cls := findClass_of_methodNamed B.named
  have hlocks := B.notSynchronized
  subst hsz
  have hD := hD0.self (sz := s.heap.size)
  have hA : ∀ q : Nat, s.heap.size ≤ q → va_A (w u0) s.heap.size q := fun q h => Or.inr h
  have hS : va_S (va_A (w u0) s.heap.size) s.heap s.heap [] := va_S.rf
  have hl := lv_entry av (n := L) hL
  rw [lg_entry_eq]
  exact K p e s m _ below meth c _ _ ⟨hx, hb, hml, hown, hts, hA⟩ hK (fun H locs ls pc v u hd hn hP hD hS hq => W.zret hx hb hr hn (fun t ht hW => ⟨⟨v, u, rfl, hq, by rw [ht]; exact hP, hD⟩, hS.F ht⟩) hS.2.2 hd) _ _ _ hP hD hS hl
theorem en_v {l : Launch} {D : va_G} {tys : List (ClassId × FieldType)} {y : MethodName} {cc : ByteArray} {L : Nat} {rm : Room} {St : Type} {w : St → va_W} {u0 : St} {sz : Nat} {av : List Value} {post : St → Prop} (hy : plainName y.cls = true) (hL : (lg_sl av).length ≤ L)
    (K : ∀ (p : Program) (e : Env) (s : State) (m : MethodId) (ar : Array Value) (below : List Frame) (meth : Method) (c : Code) (A : Nat → Prop) (Q : State → Prop), cx_ p s m ar c A cc L y.cls → va_K D vwCl tys s →
      (∀ (H : Heap) (locs : List Loc) (ls : Array Slot) (pc : Nat) (u : St), decode cc pc = .ok (.return_, 1) → va_P D vwCl (w u) H → va_D A (w u) → va_S A s.heap H locs → post u → W p l e rm s m ar below meth c H locs 0 0 Q (F0 m pc ls [])) →
      ∀ (H : Heap) (locs : List Loc) (ls : Array Slot), va_P D vwCl (w u0) H → va_D A (w u0) → va_S A s.heap H locs → lv_has ls L (lv_args 0 av) → W p l e rm s m ar below meth c H locs 0 0 Q (F0 m 0 ls [])) :
    ct_v l D tys y cc L rm w u0 sz av post := by
  refine Met.ofW (cc := cc) (maxL := L) (ret := none) hy rfl ?_
  intro p e s m args below meth c s₁ B hml hv
  obtain ⟨rfl, hsz, hP, hK, hD0⟩ := hv
  have hx := B.exec
  have hb := B.bytes
  have hr := B.returns
  have hts := atoms_spec (ws := ws_ y cc L none) B.pre
  have hts : ∀ w ∈ lw_all, w.before _ s = true := fun w h => hts w (List.mem_cons_of_mem _ h)
  have hown : s.vm.findClass y.cls = some m.cls := findClass_of_methodNamed B.named
  have hlocks := B.notSynchronized
  subst hsz
  have hD := hD0.self (sz := s.heap.size)
  have hA : ∀ q : Nat, s.heap.size ≤ q → va_A (w u0) s.heap.size q := fun q h => Or.inr h
  have hS : va_S (va_A (w u0) s.heap.size) s.heap s.heap [] := va_S.rf
  have hl := lv_entry av (n := L) hL
  rw [lg_entry_eq]
  exact K p e s m _ below meth c _ _ ⟨hx, hb, hml, hown, hts, hA⟩ hK (fun H locs ls pc u hd hP hD hS hq => W.vret hx hb hr (fun t ht hW => ⟨⟨u, rfl, hq, by rw [ht]; exact hP, hD⟩, hS.F ht⟩) hS.2.2 hd) _ _ _ hP hD hS hl
theorem ca_fr {A : Nat → Prop} {ws : va_W} {H0 H : Heap} {locs : List Loc} (hD : va_D A ws) (hS : va_S A H0 H locs) (hA : ∀ q, H0.size ≤ q → A q) : ∀ q, va_A ws H.size q → A q := by
  intro q h
  rcases h with ⟨k, e, h⟩ | h
  · exact hD.2 k (q, e) h
  · exact hA q (Nat.le_trans hS.1 h)
section CA
variable {p : Program} {l : Launch} {e : Env} {R : Room} {s : State} {m : MethodId} {args : Array Value} {below : List Frame} {meth : Method} {c : Code} {H : Heap} {locs : List Loc} {cells slots : Nat} {Q : State → Prop}
variable {cc bytes : ByteArray} {pc : Nat} {ls : Array Slot} {rest st0 As : List Value} {D : va_G} {A : Nat → Prop} {b : Nat} {tys : List (ClassId × FieldType)} {ws : va_W}
variable {own C : String} {index n nL L : Nat} {y : MethodName} {rt : FieldType} {rm : Room} {St : Type} {w : St → va_W} {u0 : St}
/-- a call of a method of the same object: an int or a boolean comes back -/
theorem ca_i {post : Int32 → St → Prop} (hM : ct_i l D tys y bytes L rt rm w u0 H.size (.ref b :: As) post) (S : CallFix p m c cc nL s args lw_all own) (cw : CallW R s args own C index y bytes L (some rt) (ws_ y bytes L (some rt)) rm 0 0 n)
    (hK : va_K D vwCl tys s) (hP : va_P D vwCl (w u0) H) (hD : va_D A (w u0)) (hS : va_S A s.heap H locs) (hA : ∀ q, s.heap.size ≤ q → A q) (hv : ∃ cell : Cell, H[b]? = some cell ∧ cell.vm.isStatics = false ∧ s.vm.findClass C = some cell.cls)
    (hn : As.length = n) (hsize : ls.size = nL) (hstack : st0 = As.reverse ++ .ref b :: rest) (hW : (rest.map fun v => v.category).sum ≤ 8) (hdg : decode cc pc = .ok (.invokevirtual index, 3)) (hf : cells ≤ R.cells ∧ slots ≤ R.slots)
    (kk : ∀ (r : Int32) (u : St) (H1 : Heap) (locs1 : List Loc), post r u → va_P D vwCl (w u) H1 → va_D A (w u) → va_S A s.heap H1 locs1 → W p l e R s m args below meth c H1 locs1 cells slots Q (F0 m (pc + 3) ls (.int r :: rest))) :
    W p l e R s m args below meth c H locs cells slots Q (F0 m pc ls st0) := by
  have hF := ca_fr hD hS hA
  refine va_calli (va_runV (As := As) (rest := rest) S hM cw ⟨fun a U g mk q => ?_, hv, fun U hU hW => ?_⟩ rfl hn hsize hstack (lv_room hW) hdg hf) hS (fun q _ h => hF q h) hF (fun r u t H1 locs1 ht hvm hw hB hz hk hS1 => ?_)
  · obtain ⟨q0, q1, qP, qK, qD⟩ := q
    exact ⟨q0, q1, qP, va_K.moved (u := U) (U := U.calling g mk a) (Vm.Alike.refl U.vm) qK, qD⟩
  · exact ⟨rfl, by rw [hU], by rw [hU]; exact hP, va_K.moved hW.alike hK, hD.weaken (fun _ _ _ _ => trivial)⟩
  · obtain ⟨hP1, hD1⟩ := hB
    rw [ht] at hP1
    exact kk r u H1 locs1 hw hP1 (hD1.weaken (fun _ _ _ h => hF _ h)) hS1
/-- the same, nothing comes back -/
theorem ca_v {post : St → Prop} (hM : ct_v l D tys y bytes L rm w u0 H.size (.ref b :: As) post) (S : CallFix p m c cc nL s args lw_all own) (cw : CallW R s args own C index y bytes L none (ws_ y bytes L none) rm 0 0 n)
    (hK : va_K D vwCl tys s) (hP : va_P D vwCl (w u0) H) (hD : va_D A (w u0)) (hS : va_S A s.heap H locs) (hA : ∀ q, s.heap.size ≤ q → A q) (hv : ∃ cell : Cell, H[b]? = some cell ∧ cell.vm.isStatics = false ∧ s.vm.findClass C = some cell.cls)
    (hn : As.length = n) (hsize : ls.size = nL) (hstack : st0 = As.reverse ++ .ref b :: rest) (hW : (rest.map fun v => v.category).sum ≤ 8) (hdg : decode cc pc = .ok (.invokevirtual index, 3)) (hf : cells ≤ R.cells ∧ slots ≤ R.slots)
    (kk : ∀ (u : St) (H1 : Heap) (locs1 : List Loc), post u → va_P D vwCl (w u) H1 → va_D A (w u) → va_S A s.heap H1 locs1 → W p l e R s m args below meth c H1 locs1 cells slots Q (F0 m (pc + 3) ls rest)) :
    W p l e R s m args below meth c H locs cells slots Q (F0 m pc ls st0) := by
  have hF := ca_fr hD hS hA
  refine va_callv (va_runV (As := As) (rest := rest) S hM cw ⟨fun a U g mk q => ?_, hv, fun U hU hW => ?_⟩ rfl hn hsize hstack (lv_room hW) hdg hf) hS (fun q _ h => hF q h) hF (fun u t H1 locs1 ht hvm hw hB hz hk hS1 => ?_)
  · obtain ⟨q0, q1, qP, qK, qD⟩ := q
    exact ⟨q0, q1, qP, va_K.moved (u := U) (U := U.calling g mk a) (Vm.Alike.refl U.vm) qK, qD⟩
  · exact ⟨rfl, by rw [hU], by rw [hU]; exact hP, va_K.moved hW.alike hK, hD.weaken (fun _ _ _ _ => trivial)⟩
  · obtain ⟨hP1, hD1⟩ := hB
    rw [ht] at hP1
    exact kk u H1 locs1 hw hP1 (hD1.weaken (fun _ _ _ h => hF _ h)) hS1
/-- a static call that looks at no cell -/
theorem ca_s {post : Int32 → Unit → Prop} (hM : ct_i l D [] y bytes L rt rm (fun _ : Unit => []) () H.size As post) (S : CallFix p m c cc nL s args lw_all own) (cw : CallB R s args own index y bytes L (some rt) (ws_ y bytes L (some rt)) rm 0 0 n ∧ (Cond.static y).before args s = true)
    (hK : va_K D vwCl tys s) (hP : va_P D vwCl ws H) (hS : va_S A s.heap H locs) (hA : ∀ q, s.heap.size ≤ q → A q)
    (hn : As.length = n) (hsize : ls.size = nL) (hstack : st0 = As.reverse ++ rest) (hW : (rest.map fun v => v.category).sum ≤ 8) (hdg : decode cc pc = .ok (.invokestatic index, 3)) (hf : cells ≤ R.cells ∧ slots ≤ R.slots)
    (kk : ∀ (r : Int32) (H1 : Heap) (locs1 : List Loc), post r () → va_P D vwCl ws H1 → va_S A s.heap H1 locs1 → W p l e R s m args below meth c H1 locs1 cells slots Q (F0 m (pc + 3) ls (.int r :: rest))) :
    W p l e R s m args below meth c H locs cells slots Q (F0 m pc ls st0) := by
  have hD : va_D A [] := ⟨fun i j p q h => by simp at h, fun k q h => by simp at h⟩
  have hF := ca_fr hD hS hA
  refine va_calli (va_runS (As := As) (rest := rest) S hM cw ⟨fun a U g mk q => ?_, fun U hU hW => ?_⟩ rfl hn hsize hstack (lv_room hW) hdg hf) hS (fun q _ h => hF q h) hF (fun r u t H1 locs1 ht hvm hw hB hz hk hS1 => ?_)
  · obtain ⟨q0, q1, qP, qK, qD⟩ := q
    exact ⟨q0, q1, qP, va_K.moved (u := U) (U := U.calling g mk a) (Vm.Alike.refl U.vm) qK, qD⟩
  · exact ⟨rfl, by rw [hU], fun k q h => by simp at h, va_K.moved hW.alike (hK.sub (tys' := []) [] rfl), hD.weaken (fun _ _ _ _ => trivial)⟩
  · refine kk r H1 locs1 hw (hP.kept fun k q h => hk q.1 ((hP k q h).lt) ?_) hS1
    rintro (⟨k2, e2, h2⟩ | h2)
    · simp at h2
    · exact absurd ((hP k q h).lt) (Nat.not_lt.mpr h2)
end CA
/-! the two objects' worlds -/
abbrev gx_S : Type := Nat × Nat × Nat × (Nat → Int32) × (Nat → Int32) × (Nat → Int32) × (Nat → Int32) × (Nat → Bool) × (Nat → Bool) × (Nat → Int32) × (Nat → Bool)
def gx_f (a : Nat → Nat) (tm n w : Nat) : List Value := [.int (nI tm), .int (nI n), .ref (a 1), .ref (a 2), .ref (a 3), .ref (a 4), .ref (a 5), .ref (a 6), .int (nI w), .ref (a 7), .ref (a 8)]
/-- GrantLedger at h, its arrays at a 1 .. a 8: times, count, waiting; time, giver, taker, privilege, option, falling, queue, queued -/
def gx_W (cI cZ : ClassId) (h : Nat) (a : Nat → Nat) (tm n w : Nat) (T G K P : Nat → Int32) (O F : Nat → Bool) (Qu : Nat → Int32) (U : Nat → Bool) : va_W := [(h, .inr (0, gx_f a tm n w)), (a 1, .inl (cI, 48, .inl T)), (a 2, .inl (cI, 48, .inl G)), (a 3, .inl (cI, 48, .inl K)), (a 4, .inl (cI, 48, .inl P)), (a 5, .inl (cZ, 48, .inl (bI O))), (a 6, .inl (cZ, 48, .inl (bI F))), (a 7, .inl (cI, 24, .inl Qu)), (a 8, .inl (cZ, 24, .inl (bI U)))]
def gx_w (cI cZ : ClassId) (h : Nat) (a : Nat → Nat) (u : gx_S) : va_W := gx_W cI cZ h a u.1 u.2.1 u.2.2.1 u.2.2.2.1 u.2.2.2.2.1 u.2.2.2.2.2.1 u.2.2.2.2.2.2.1 u.2.2.2.2.2.2.2.1 u.2.2.2.2.2.2.2.2.1 u.2.2.2.2.2.2.2.2.2.1 u.2.2.2.2.2.2.2.2.2.2
abbrev gm_S : Type := Nat × (Nat → Int32) × (Nat → Int32) × (Nat → Int32) × (Nat → Int32) × (Nat → Bool) × Nat × (Nat → Bool)
def gm_f (a : Nat → Nat) (n nx : Nat) : List Value := [.int (nI n), .ref (a 1), .ref (a 2), .ref (a 3), .ref (a 4), .ref (a 5), .int (nI nx), .ref (a 6)]
/-- GrantLedgerModel at h, its arrays at a 1 .. a 6 -/
def gm_W (cI cZ : ClassId) (h : Nat) (a : Nat → Nat) (n : Nat) (T G K P : Nat → Int32) (O : Nat → Bool) (nx : Nat) (kp : Nat → Bool) : va_W := [(h, .inr (1, gm_f a n nx)), (a 1, .inl (cI, 48, .inl T)), (a 2, .inl (cI, 48, .inl G)), (a 3, .inl (cI, 48, .inl K)), (a 4, .inl (cI, 48, .inl P)), (a 5, .inl (cZ, 48, .inl (bI O))), (a 6, .inl (cZ, 48, .inl (bI kp)))]
def gm_w (cI cZ : ClassId) (h : Nat) (a : Nat → Nat) (u : gm_S) : va_W := gm_W cI cZ h a u.1 u.2.1 u.2.2.1 u.2.2.2.1 u.2.2.2.2.1 u.2.2.2.2.2.1 u.2.2.2.2.2.2.1 u.2.2.2.2.2.2.2
abbrev ty_ (cI cZ : ClassId) : List (ClassId × FieldType) := [(cI, .int), (cZ, .boolean)]
section GX
variable {p : Program} {l : Launch} {e : Env} {R : Room} {s : State} {m : MethodId} {args : Array Value} {below : List Frame} {meth : Method} {c : Code} {H : Heap} {locs : List Loc} {cells slots : Nat} {Q : State → Prop}
variable {cc : ByteArray} {pc : Nat} {ls : Array Slot} {rest : List Value} {D : va_G} {A : Nat → Prop} {tys : List (ClassId × FieldType)} {H0 : Heap}
variable {cI cZ : ClassId} {h : Nat} {a : Nat → Nat} {tm n w nx : Nat} {T G K P : Nat → Int32} {O F : Nat → Bool} {Qu : Nat → Int32} {U kp : Nat → Bool}
theorem gx_get (hexec : p.tables.exec = Jvm.exec) (hb : c.code = cc) (hts : ∀ w ∈ lw_all, w.before args s = true) (hown : s.vm.findClass RX0 = some m.cls) (hK : va_K D vwCl tys s) (hP : va_P D vwCl (gx_W cI cZ h a tm n w T G K P O F Qu U) H) (k : Nat) (hk : k < 11) {index : Nat} (hq : Cond.fieldLink RX0 index RX0 (TX0 k).2.1 (TX0 k).2.2.1 ∈ lw_all) (h1 : (TX0 k).1 = RX0) {v : Value} (hv : (gx_f a tm n w)[k]? = some v) (hdg : decode cc pc = .ok (.getfield index, 3))
    (kk : W p l e R s m args below meth c H locs cells slots Q (F0 m (pc + 3) ls (v :: rest))) : W p l e R s m args below meth c H locs cells slots Q (F0 m pc ls (.ref h :: rest)) :=
  va_get (D := D) (ci := 0) (C := RX0) (T := TX0) (N := 11) hexec hb hts in_X0 hown hK hP 0 rfl rfl k hk (hts _ hq) (fun _ h9 => by rw [h1] at h9; exact h9) hv hdg kk
theorem gx_put (hexec : p.tables.exec = Jvm.exec) (hb : c.code = cc) (hts : ∀ w ∈ lw_all, w.before args s = true) (hown : s.vm.findClass RX0 = some m.cls) (hK : va_K D vwCl tys s) (hP : va_P D vwCl (gx_W cI cZ h a tm n w T G K P O F Qu U) H) (hD : va_D A (gx_W cI cZ h a tm n w T G K P O F Qu U)) (hS : va_S A H0 H locs) (k : Nat) (hk : k < 11) {index : Nat} (hq : Cond.fieldLink RX0 index RX0 (TX0 k).2.1 (TX0 k).2.2.1 ∈ lw_all) (h1 : (TX0 k).1 = RX0) (h2 : (TX0 k).2.2.2 = false) (h3 : parseFieldDescriptor (TX0 k).2.2.1 = some .int) {x : Int32} (hdg : decode cc pc = .ok (.putfield index, 3))
    (kk : ∀ (H1 : Heap) (locs1 : List Loc), va_P D vwCl ((gx_W cI cZ h a tm n w T G K P O F Qu U).set 0 (h, .inr (0, (gx_f a tm n w).set k (.int x)))) H1 → va_D A ((gx_W cI cZ h a tm n w T G K P O F Qu U).set 0 (h, .inr (0, (gx_f a tm n w).set k (.int x)))) → va_S A H0 H1 locs1 → W p l e R s m args below meth c H1 locs1 cells slots Q (F0 m (pc + 3) ls rest)) : W p l e R s m args below meth c H locs cells slots Q (F0 m pc ls (.int x :: .ref h :: rest)) :=
  va_put (D := D) (ci := 0) (C := RX0) (T := TX0) (N := 11) hexec hb hts in_X0 tyX0 tyX0_ok nmX0 hown hK hP hD hS 0 rfl rfl k hk (hts _ hq) (fun _ h9 => by rw [h1] at h9; exact h9) h2 h3 rfl rfl hk hdg kk
theorem gm_get (hexec : p.tables.exec = Jvm.exec) (hb : c.code = cc) (hts : ∀ w ∈ lw_all, w.before args s = true) (hown : s.vm.findClass RX1 = some m.cls) (hK : va_K D vwCl tys s) (hP : va_P D vwCl (gm_W cI cZ h a n T G K P O nx kp) H) (k : Nat) (hk : k < 8) {index : Nat} (hq : Cond.fieldLink RX1 index RX1 (TX1 k).2.1 (TX1 k).2.2.1 ∈ lw_all) (h1 : (TX1 k).1 = RX1) {v : Value} (hv : (gm_f a n nx)[k]? = some v) (hdg : decode cc pc = .ok (.getfield index, 3))
    (kk : W p l e R s m args below meth c H locs cells slots Q (F0 m (pc + 3) ls (v :: rest))) : W p l e R s m args below meth c H locs cells slots Q (F0 m pc ls (.ref h :: rest)) :=
  va_get (D := D) (ci := 1) (C := RX1) (T := TX1) (N := 8) hexec hb hts in_X1 hown hK hP 0 rfl rfl k hk (hts _ hq) (fun _ h9 => by rw [h1] at h9; exact h9) hv hdg kk
theorem gm_put (hexec : p.tables.exec = Jvm.exec) (hb : c.code = cc) (hts : ∀ w ∈ lw_all, w.before args s = true) (hown : s.vm.findClass RX1 = some m.cls) (hK : va_K D vwCl tys s) (hP : va_P D vwCl (gm_W cI cZ h a n T G K P O nx kp) H) (hD : va_D A (gm_W cI cZ h a n T G K P O nx kp)) (hS : va_S A H0 H locs) (k : Nat) (hk : k < 8) {index : Nat} (hq : Cond.fieldLink RX1 index RX1 (TX1 k).2.1 (TX1 k).2.2.1 ∈ lw_all) (h1 : (TX1 k).1 = RX1) (h2 : (TX1 k).2.2.2 = false) (h3 : parseFieldDescriptor (TX1 k).2.2.1 = some .int) {x : Int32} (hdg : decode cc pc = .ok (.putfield index, 3))
    (kk : ∀ (H1 : Heap) (locs1 : List Loc), va_P D vwCl ((gm_W cI cZ h a n T G K P O nx kp).set 0 (h, .inr (1, (gm_f a n nx).set k (.int x)))) H1 → va_D A ((gm_W cI cZ h a n T G K P O nx kp).set 0 (h, .inr (1, (gm_f a n nx).set k (.int x)))) → va_S A H0 H1 locs1 → W p l e R s m args below meth c H1 locs1 cells slots Q (F0 m (pc + 3) ls rest)) : W p l e R s m args below meth c H locs cells slots Q (F0 m pc ls (.int x :: .ref h :: rest)) :=
  va_put (D := D) (ci := 1) (C := RX1) (T := TX1) (N := 8) hexec hb hts in_X1 tyX1 tyX1_ok nmX1 hown hK hP hD hS 0 rfl rfl k hk (hts _ hq) (fun _ h9 => by rw [h1] at h9; exact h9) h2 h3 rfl rfl hk hdg kk
end GX
end
section
/-! the plain law: counts, searches, what is kept, what falls; no program in sight -/
set_option maxRecDepth 100000
theorem up_s {α : Type} (f : Nat → α) (k : Nat) (v : α) : va_up f k v k = v := by simp [va_up]
theorem up_n {α : Type} (f : Nat → α) {k j : Nat} (v : α) (h : j ≠ k) : va_up f k v j = f j := by simp [va_up, h]
/-! how many of the first n -/
def gl_cnt (q : Nat → Bool) : Nat → Nat
  | 0 => 0
  | j + 1 => gl_cnt q j + (if q j then 1 else 0)
theorem gl_cnt_t {q : Nat → Bool} {j : Nat} (h : q j = true) : gl_cnt q (j + 1) = gl_cnt q j + 1 := by simp [gl_cnt, h]
theorem gl_cnt_f {q : Nat → Bool} {j : Nat} (h : q j = false) : gl_cnt q (j + 1) = gl_cnt q j := by simp [gl_cnt, h]
theorem gl_cnt_le (q : Nat → Bool) : ∀ n, gl_cnt q n ≤ n
  | 0 => Nat.le_refl 0
  | n + 1 => by
    have h := gl_cnt_le q n
    simp only [gl_cnt]
    split <;> omega
theorem gl_cnt_mono (q : Nat → Bool) {i : Nat} : ∀ n, i ≤ n → gl_cnt q i ≤ gl_cnt q n := by
  intro n
  induction n with
  | zero => intro h; rw [Nat.le_zero.mp h]; exact Nat.le_refl _
  | succ n ih =>
    intro h
    rcases Nat.lt_or_ge i (n + 1) with h1 | h1
    · exact Nat.le_trans (ih (by omega)) (by simp only [gl_cnt]; omega)
    · rw [show i = n + 1 by omega]; exact Nat.le_refl _
theorem gl_cnt_congr {q r : Nat → Bool} : ∀ n, (∀ i, i < n → q i = r i) → gl_cnt q n = gl_cnt r n
  | 0, _ => rfl
  | n + 1, h => by
    simp only [gl_cnt]
    rw [gl_cnt_congr n (fun i hi => h i (by omega)), h n (by omega)]
theorem gl_cnt_not (q : Nat → Bool) : ∀ n, gl_cnt q n + gl_cnt (fun i => !q i) n = n
  | 0 => rfl
  | n + 1 => by
    have h := gl_cnt_not q n
    simp only [gl_cnt]
    by_cases hq : q n = true
    · simp [hq]; omega
    · simp [hq]; omega
theorem gl_cnt_set {q : Nat → Bool} {j : Nat} (hq : q j = false) : ∀ n, j < n → gl_cnt (va_up q j true) n = gl_cnt q n + 1
  | 0, h => absurd h (Nat.not_lt_zero _)
  | n + 1, h => by
    simp only [gl_cnt]
    rcases Nat.lt_or_ge j n with h1 | h1
    · rw [gl_cnt_set hq n h1, up_n q true (show n ≠ j by omega)]
      omega
    · have e : j = n := by omega
      subst e
      rw [gl_cnt_congr (r := q) j (fun i hi => up_n q true (by omega)), up_s, hq]
      simp
theorem gl_cnt_clr {q : Nat → Bool} {j : Nat} (hq : q j = true) : ∀ n, j < n → gl_cnt (va_up q j false) n + 1 = gl_cnt q n
  | 0, h => absurd h (Nat.not_lt_zero _)
  | n + 1, h => by
    simp only [gl_cnt]
    rcases Nat.lt_or_ge j n with h1 | h1
    · have h2 := gl_cnt_clr hq n h1
      rw [up_n q false (show n ≠ j by omega)]
      omega
    · have e : j = n := by omega
      subst e
      rw [gl_cnt_congr (r := q) j (fun i hi => up_n q false (by omega)), up_s, hq]
      simp
theorem gl_cnt_lt {q : Nat → Bool} {j n : Nat} (hj : j < n) (hq : q j = false) : gl_cnt q n < n := by
  have h1 := gl_cnt_set hq n hj
  have h2 := gl_cnt_le (va_up q j true) n
  omega
theorem gl_cnt_0 {q : Nat → Bool} {n : Nat} (h : gl_cnt q n = 0) {j : Nat} (hj : j < n) : q j = false := by
  cases hq : q j
  · rfl
  · have h1 := gl_cnt_clr hq n hj
    omega
theorem gl_cnt_all {q : Nat → Bool} : ∀ n, (∀ i, i < n → q i = false) → gl_cnt q n = 0
  | 0, _ => rfl
  | n + 1, h => by
    simp only [gl_cnt]
    rw [gl_cnt_all n (fun i hi => h i (by omega)), h n (by omega)]
    rfl
theorem gl_cnt_pos {q : Nat → Bool} {j n : Nat} (hj : j < n) (hq : q j = true) : gl_cnt q j < gl_cnt q n := by
  have h1 := gl_cnt_mono q (i := j + 1) n (by omega)
  rw [gl_cnt_t hq] at h1
  omega
theorem gl_cnt_inv {q : Nat → Bool} : ∀ n i, i < gl_cnt q n → ∃ j, j < n ∧ q j = true ∧ gl_cnt q j = i
  | 0, i, h => absurd h (Nat.not_lt_zero _)
  | n + 1, i, h => by
    cases hq : q n
    · rw [gl_cnt_f hq] at h
      obtain ⟨j, h1, h2, h3⟩ := gl_cnt_inv n i h
      exact ⟨j, by omega, h2, h3⟩
    · rw [gl_cnt_t hq] at h
      rcases Nat.lt_or_ge i (gl_cnt q n) with h1 | h1
      · obtain ⟨j, h1, h2, h3⟩ := gl_cnt_inv n i h1
        exact ⟨j, by omega, h2, h3⟩
      · exact ⟨n, by omega, hq, by omega⟩
/-! whether one of the first n -/
def gl_any (q : Nat → Bool) : Nat → Bool
  | 0 => false
  | j + 1 => gl_any q j || q j
theorem gl_any_iff {q : Nat → Bool} : ∀ {n}, gl_any q n = true ↔ ∃ j, j < n ∧ q j = true := by
  intro n
  induction n with
  | zero => simp [gl_any]
  | succ n ih =>
    simp only [gl_any, Bool.or_eq_true, ih]
    constructor
    · rintro (⟨j, h1, h2⟩ | h)
      · exact ⟨j, by omega, h2⟩
      · exact ⟨n, by omega, h⟩
    · rintro ⟨j, h1, h2⟩
      rcases Nat.lt_or_ge j n with h | h
      · exact Or.inl ⟨j, h, h2⟩
      · rw [show j = n by omega] at h2
        exact Or.inr h2
theorem gl_any_t {q : Nat → Bool} {n j : Nat} (h1 : j < n) (h2 : q j = true) : gl_any q n = true := gl_any_iff.mpr ⟨j, h1, h2⟩
theorem gl_any_f {q : Nat → Bool} {n : Nat} (h : ∀ j, j < n → q j = false) : gl_any q n = false := by
  cases hq : gl_any q n
  · rfl
  · obtain ⟨j, h1, h2⟩ := gl_any_iff.mp hq
    rw [h j h1] at h2
    cases h2
theorem gl_any_congr {q r : Nat → Bool} : ∀ n, (∀ i, i < n → q i = r i) → gl_any q n = gl_any r n
  | 0, _ => rfl
  | n + 1, h => by
    simp only [gl_any]
    rw [gl_any_congr n (fun i hi => h i (by omega)), h n (by omega)]
/-! what is kept: the model's settle -/
def gl_sup (G K P : Nat → Int32) (O f : Nat → Bool) (i e : Nat) : Bool := f e && O e && decide (K e = G i) && decide (P e = P i)
theorem gl_sup_iff {G K P : Nat → Int32} {O f : Nat → Bool} {i e : Nat} : gl_sup G K P O f i e = true ↔ f e = true ∧ O e = true ∧ K e = G i ∧ P e = P i := by
  simp [gl_sup, and_assoc]
def gl_fd (G K P : Nat → Int32) (O f : Nat → Bool) (i : Nat) : Bool := decide (G i = 0) || gl_any (gl_sup G K P O f i) i
theorem gl_fd_iff {G K P : Nat → Int32} {O f : Nat → Bool} {i : Nat} : gl_fd G K P O f i = true ↔ G i = 0 ∨ ∃ e, e < i ∧ f e = true ∧ O e = true ∧ K e = G i ∧ P e = P i := by
  simp only [gl_fd, Bool.or_eq_true, decide_eq_true_eq, gl_any_iff, gl_sup_iff]
theorem gl_fd_congr {G K P : Nat → Int32} {O f g : Nat → Bool} {i : Nat} (h : ∀ e, e < i → f e = g e) : gl_fd G K P O f i = gl_fd G K P O g i := by
  simp only [gl_fd]
  rw [gl_any_congr (r := gl_sup G K P O g i) i (fun e he => by simp only [gl_sup]; rw [h e he])]
def gl_ks (G K P : Nat → Int32) (O init : Nat → Bool) : Nat → Nat → Bool
  | 0 => init
  | j + 1 => va_up (gl_ks G K P O init j) j (gl_ks G K P O init j j && gl_fd G K P O (gl_ks G K P O init j) j)
theorem gl_ks_hi {G K P : Nat → Int32} {O init : Nat → Bool} : ∀ j i, j ≤ i → gl_ks G K P O init j i = init i
  | 0, _, _ => rfl
  | j + 1, i, h => by
    simp only [gl_ks]
    rw [up_n _ _ (by omega), gl_ks_hi j i (by omega)]
theorem gl_ks_lo {G K P : Nat → Int32} {O init : Nat → Bool} {i : Nat} : ∀ j, i < j → gl_ks G K P O init j i = gl_ks G K P O init (i + 1) i := by
  intro j
  induction j with
  | zero => intro h; exact absurd h (Nat.not_lt_zero _)
  | succ j ih =>
    intro h
    rcases Nat.lt_or_ge i j with h1 | h1
    · rw [← ih h1]
      show va_up _ _ _ _ = _
      rw [up_n _ _ (by omega)]
    · rw [show i = j by omega]
theorem gl_ks_eq {G K P : Nat → Int32} {O init : Nat → Bool} {n i : Nat} (hi : i < n) : gl_ks G K P O init n i = (init i && gl_fd G K P O (gl_ks G K P O init n) i) := by
  rw [gl_ks_lo n hi]
  show va_up _ _ _ _ = _
  rw [up_s, gl_ks_hi i i (Nat.le_refl _)]
  congr 1
  refine gl_fd_congr fun e he => ?_
  rw [gl_ks_lo i he, gl_ks_lo n (by omega)]
/-! taking out: what is kept moves down -/
def gl_ca {α : Type} (q : Nat → Bool) (f : Nat → α) : Nat → Nat → α
  | 0 => f
  | j + 1 => if q j then va_up (gl_ca q f j) (gl_cnt q j) (gl_ca q f j j) else gl_ca q f j
theorem gl_ca_t {α : Type} {q : Nat → Bool} {f : Nat → α} {j : Nat} (h : q j = true) : gl_ca q f (j + 1) = va_up (gl_ca q f j) (gl_cnt q j) (gl_ca q f j j) := by simp [gl_ca, h]
theorem gl_ca_f {α : Type} {q : Nat → Bool} {f : Nat → α} {j : Nat} (h : q j = false) : gl_ca q f (j + 1) = gl_ca q f j := by simp [gl_ca, h]
theorem gl_ca_congr {α : Type} {q r : Nat → Bool} {f : Nat → α} : ∀ n, (∀ i, i < n → q i = r i) → gl_ca q f n = gl_ca r f n
  | 0, _ => rfl
  | n + 1, h => by
    simp only [gl_ca]
    rw [gl_ca_congr n (fun i hi => h i (by omega)), h n (by omega), gl_cnt_congr n (fun i hi => h i (by omega))]
theorem gl_ca_hi {α : Type} {q : Nat → Bool} {f : Nat → α} : ∀ j i, gl_cnt q j ≤ i → gl_ca q f j i = f i
  | 0, _, _ => rfl
  | j + 1, i, h => by
    cases hq : q j
    · rw [gl_cnt_f hq] at h
      rw [gl_ca_f hq, gl_ca_hi j i h]
    · rw [gl_cnt_t hq] at h
      rw [gl_ca_t hq, up_n _ _ (by omega), gl_ca_hi j i (by omega)]
theorem gl_ca_val {α : Type} {q : Nat → Bool} {f : Nat → α} {j : Nat} (hq : q j = true) : ∀ n, j < n → gl_ca q f n (gl_cnt q j) = f j
  | 0, h => absurd h (Nat.not_lt_zero _)
  | n + 1, h => by
    rcases Nat.lt_or_ge j n with h1 | h1
    · cases hn : q n
      · rw [gl_ca_f hn]
        exact gl_ca_val hq n h1
      · have h2 := gl_cnt_pos h1 hq
        rw [gl_ca_t hn, up_n _ _ (by omega)]
        exact gl_ca_val hq n h1
    · have e : j = n := by omega
      subst e
      rw [gl_ca_t hq, up_s]
      exact gl_ca_hi j j (gl_cnt_le q j)
/-! the answers' words -/
def gl_usr (x : Int32) : Bool := decide (0 ≤ x) && decide (x ≤ 7)
def gl_prv (x : Int32) : Bool := decide (0 ≤ x) && decide (x ≤ 2)
def gl_at2 (K P : Nat → Int32) (u p : Int32) (j : Nat) : Bool := decide (K j = u) && decide (P j = p)
theorem gl_at2_iff {K P : Nat → Int32} {u p : Int32} {j : Nat} : gl_at2 K P u p j = true ↔ K j = u ∧ P j = p := by simp [gl_at2]
def gl_rt (K P : Nat → Int32) (O : Nat → Bool) (u p : Int32) (j : Nat) : Bool := decide (K j = u) && decide (P j = p) && O j
theorem gl_rt_iff {K P : Nat → Int32} {O : Nat → Bool} {u p : Int32} {j : Nat} : gl_rt K P O u p j = true ↔ K j = u ∧ P j = p ∧ O j = true := by simp [gl_rt, and_assoc]
def gl_mk (G K P : Nat → Int32) (g k p : Int32) (j : Nat) : Bool := decide (G j = g) && decide (K j = k) && decide (P j = p)
theorem gl_mk_iff {G K P : Nat → Int32} {g k p : Int32} {j : Nat} : gl_mk G K P g k p j = true ↔ G j = g ∧ K j = k ∧ P j = p := by simp [gl_mk, and_assoc]
def gl_ex (G K : Nat → Int32) (u : Int32) (j : Nat) : Bool := decide (G j = u) || decide (K j = u)
theorem gl_ex_iff {G K : Nat → Int32} {u : Int32} {j : Nat} : gl_ex G K u j = true ↔ G j = u ∨ K j = u := by simp [gl_ex]
/-! the ledger is in order -/
def gl_WF (tm n : Nat) (T G K P : Nat → Int32) (O : Nat → Bool) : Prop :=
  n ≤ 48 ∧ (∀ i, i < n → ∃ t, t < tm ∧ T i = nI t) ∧ (∀ i j, i < j → j < n → T i < T j) ∧ (∀ i, i < n → ∃ k, 1 ≤ k ∧ k ≤ 7 ∧ K i = nI k) ∧ (∀ i, i < n → ∃ p, p ≤ 2 ∧ P i = nI p) ∧ (∀ i, i < n → G i ≠ K i) ∧ (∀ i, i < n → gl_fd G K P O (fun _ => true) i = true)
theorem gl_WF.pos {tm n : Nat} {T G K P : Nat → Int32} {O : Nat → Bool} (h : gl_WF tm n T G K P O) (ht : tm < 2 ^ 31) {i : Nat} (hi : i < n) : 0 ≤ T i := by
  obtain ⟨t, h1, h2⟩ := h.2.1 i hi
  rw [h2]
  exact nI_pos' (by omega)
theorem gl_WF.le {tm n : Nat} {T G K P : Nat → Int32} {O : Nat → Bool} (h : gl_WF tm n T G K P O) {i j : Nat} (hj : j < n) (hij : i ≤ j) : T i ≤ T j := by
  rcases Nat.lt_or_ge i j with h1 | h1
  · exact Int32.le_of_lt (h.2.2.1 i j h1 hj)
  · rw [show i = j by omega]; exact Int32.le_refl _
theorem gl_WF.lt_of {tm n : Nat} {T G K P : Nat → Int32} {O : Nat → Bool} (h : gl_WF tm n T G K P O) {i j : Nat} (hi : i < n) (ht : T i < T j) : i < j := by
  rcases Nat.lt_or_ge i j with h1 | h1
  · exact h1
  · exact absurd ht (Int32.not_lt.mpr (h.le hi h1))
/-- what is taken out leaves a ledger in order, if what stays is founded in what stays -/
theorem gl_WF.take {tm n : Nat} {T G K P : Nat → Int32} {O : Nat → Bool} {q : Nat → Bool} (h : gl_WF tm n T G K P O) (hq : ∀ i, i < n → q i = true → gl_fd G K P O q i = true) : gl_WF tm (gl_cnt q n) (gl_ca q T n) (gl_ca q G n) (gl_ca q K n) (gl_ca q P n) (gl_ca q O n) := by
  obtain ⟨h1, h2, h3, h4, h5, h6, h7⟩ := h
  refine ⟨Nat.le_trans (gl_cnt_le q n) h1, fun i hi => ?_, fun i j hij hj => ?_, fun i hi => ?_, fun i hi => ?_, fun i hi => ?_, fun i hi => ?_⟩
  · obtain ⟨a, a1, a2, rfl⟩ := gl_cnt_inv n i hi
    rw [gl_ca_val a2 n a1]
    exact h2 a a1
  · obtain ⟨a, a1, a2, rfl⟩ := gl_cnt_inv (q := q) n i (by omega)
    obtain ⟨b, b1, b2, rfl⟩ := gl_cnt_inv n j hj
    rw [gl_ca_val a2 n a1, gl_ca_val b2 n b1]
    refine h3 a b ?_ b1
    rcases Nat.lt_or_ge a b with h | h
    · exact h
    · exact absurd (gl_cnt_mono q a h) (by omega)
  · obtain ⟨a, a1, a2, rfl⟩ := gl_cnt_inv n i hi
    rw [gl_ca_val a2 n a1]
    exact h4 a a1
  · obtain ⟨a, a1, a2, rfl⟩ := gl_cnt_inv n i hi
    rw [gl_ca_val a2 n a1]
    exact h5 a a1
  · obtain ⟨a, a1, a2, rfl⟩ := gl_cnt_inv n i hi
    rw [gl_ca_val a2 n a1, gl_ca_val a2 n a1]
    exact h6 a a1
  · obtain ⟨a, a1, a2, rfl⟩ := gl_cnt_inv n i hi
    refine gl_fd_iff.mpr ?_
    rcases gl_fd_iff.mp (hq a a1 a2) with h | ⟨e, e1, e2, e3, e4, e5⟩
    · exact Or.inl (by rw [gl_ca_val a2 n a1]; exact h)
    · refine Or.inr ⟨gl_cnt q e, gl_cnt_pos e1 e2, rfl, ?_⟩
      rw [gl_ca_val e2 n (by omega), gl_ca_val e2 n (by omega), gl_ca_val e2 n (by omega), gl_ca_val a2 n a1, gl_ca_val a2 n a1]
      exact ⟨e3, e4, e5⟩
/-- one more grant -/
theorem gl_WF.add {tm n : Nat} {T G K P : Nat → Int32} {O : Nat → Bool} (h : gl_WF tm n T G K P O) (hn : n < 48) (ht : tm < 2 ^ 31) {g k p : Int32} {o : Bool} (hk : ∃ x, 1 ≤ x ∧ x ≤ 7 ∧ k = nI x) (hp : ∃ x, x ≤ 2 ∧ p = nI x) (hgk : g ≠ k) (hg : g = 0 ∨ gl_any (gl_rt K P O g p) n = true) :
    gl_WF (tm + 1) (n + 1) (va_up T n (nI tm)) (va_up G n g) (va_up K n k) (va_up P n p) (va_up O n o) := by
  obtain ⟨h1, h2, h3, h4, h5, h6, h7⟩ := h
  refine ⟨by omega, fun i hi => ?_, fun i j hij hj => ?_, fun i hi => ?_, fun i hi => ?_, fun i hi => ?_, fun i hi => ?_⟩
  · rcases Nat.lt_or_ge i n with a | a
    · rw [up_n _ _ (by omega)]
      obtain ⟨t, t1, t2⟩ := h2 i a
      exact ⟨t, by omega, t2⟩
    · rw [show i = n by omega, up_s]
      exact ⟨tm, by omega, rfl⟩
  · rw [up_n _ _ (show i ≠ n by omega)]
    rcases Nat.lt_or_ge j n with a | a
    · rw [up_n _ _ (by omega)]
      exact h3 i j hij a
    · rw [show j = n by omega, up_s]
      obtain ⟨t, t1, t2⟩ := h2 i (by omega)
      rw [t2]
      exact nI_lt t1 ht
  · rcases Nat.lt_or_ge i n with a | a
    · rw [up_n _ _ (by omega)]
      exact h4 i a
    · rw [show i = n by omega, up_s]
      exact hk
  · rcases Nat.lt_or_ge i n with a | a
    · rw [up_n _ _ (by omega)]
      exact h5 i a
    · rw [show i = n by omega, up_s]
      exact hp
  · rcases Nat.lt_or_ge i n with a | a
    · rw [up_n _ _ (show i ≠ n by omega), up_n _ _ (show i ≠ n by omega)]
      exact h6 i a
    · rw [show i = n by omega, up_s, up_s]
      exact hgk
  · refine gl_fd_iff.mpr ?_
    rcases Nat.lt_or_ge i n with a | a
    · rw [up_n _ _ (show i ≠ n by omega), up_n _ _ (show i ≠ n by omega)]
      rcases gl_fd_iff.mp (h7 i a) with h | ⟨e, e1, e2, e3, e4, e5⟩
      · exact Or.inl h
      · refine Or.inr ⟨e, e1, rfl, ?_⟩
        rw [up_n _ _ (show e ≠ n by omega), up_n _ _ (show e ≠ n by omega), up_n _ _ (show e ≠ n by omega)]
        exact ⟨e3, e4, e5⟩
    · have e0 : i = n := by omega
      subst e0
      rw [up_s, up_s]
      rcases hg with h | h
      · exact Or.inl h
      · obtain ⟨e, e1, e2⟩ := gl_any_iff.mp h
        obtain ⟨r1, r2, r3⟩ := gl_rt_iff.mp e2
        refine Or.inr ⟨e, e1, rfl, ?_⟩
        rw [up_n _ _ (show e ≠ i by omega), up_n _ _ (show e ≠ i by omega), up_n _ _ (show e ≠ i by omega)]
        exact ⟨r3, r1, r2⟩
/-! what waits to be looked at -/
def gl_QS (w : Nat) (Qu : Nat → Int32) (U : Nat → Bool) : Prop :=
  w = gl_cnt U 24 ∧ (∀ i, i < w → ∃ x, 3 ≤ x ∧ x < 24 ∧ Qu i = nI x ∧ U x = true) ∧ ∀ i j, i < j → j < w → Qu i ≠ Qu j
theorem gl_QS.zero {Qu : Nat → Int32} {U : Nat → Bool} (h : ∀ x, x < 24 → U x = false) : gl_QS 0 Qu U :=
  ⟨(gl_cnt_all 24 h).symm, fun i hi => absurd hi (Nat.not_lt_zero _), fun i j _ hj => absurd hj (Nat.not_lt_zero _)⟩
theorem gl_QS.off {Qu : Nat → Int32} {U : Nat → Bool} (h : gl_QS 0 Qu U) : ∀ x, x < 24 → U x = false := fun x hx => gl_cnt_0 h.1.symm hx
theorem gl_QS.push {w : Nat} {Qu : Nat → Int32} {U : Nat → Bool} (h : gl_QS w Qu U) {x : Nat} (h3 : 3 ≤ x) (hx : x < 24) (hu : U x = false) : gl_QS (w + 1) (va_up Qu w (nI x)) (va_up U x true) := by
  obtain ⟨h1, h2, h4⟩ := h
  refine ⟨by rw [gl_cnt_set hu 24 hx, h1], fun i hi => ?_, fun i j hij hj => ?_⟩
  · rcases Nat.lt_or_ge i w with a | a
    · obtain ⟨y, y1, y2, y3, y4⟩ := h2 i a
      exact ⟨y, y1, y2, by rw [up_n _ _ (by omega)]; exact y3, by
        by_cases e : y = x
        · rw [e, up_s]
        · rw [up_n _ _ e]; exact y4⟩
    · rw [show i = w by omega]
      exact ⟨x, h3, hx, up_s _ _ _, up_s _ _ _⟩
  · rw [up_n _ _ (show i ≠ w by omega)]
    rcases Nat.lt_or_ge j w with a | a
    · rw [up_n _ _ (by omega)]
      exact h4 i j hij a
    · rw [show j = w by omega, up_s]
      obtain ⟨y, y1, y2, y3, y4⟩ := h2 i (by omega)
      rw [y3]
      intro q
      have e := (nI_eq (by omega) (by omega)).mp q
      rw [e, hu] at y4
      cases y4
theorem gl_QS.lt {w : Nat} {Qu : Nat → Int32} {U : Nat → Bool} (h : gl_QS w Qu U) {x : Nat} (hx : x < 24) (hu : U x = false) : w < 24 := by
  rw [h.1]
  exact gl_cnt_lt hx hu
theorem gl_QS.le {w : Nat} {Qu : Nat → Int32} {U : Nat → Bool} (h : gl_QS w Qu U) : w ≤ 24 := by
  rw [h.1]
  exact gl_cnt_le U 24
theorem gl_QS.pop {w : Nat} {Qu : Nat → Int32} {U : Nat → Bool} (h : gl_QS (w + 1) Qu U) {x : Nat} (hx : x < 24) (hq : Qu w = nI x) (hu : U x = true) : gl_QS w Qu (va_up U x false) := by
  obtain ⟨h1, h2, h4⟩ := h
  refine ⟨by have := gl_cnt_clr hu 24 hx; omega, fun i hi => ?_, fun i j hij hj => h4 i j hij (by omega)⟩
  obtain ⟨y, y1, y2, y3, y4⟩ := h2 i (by omega)
  refine ⟨y, y1, y2, y3, ?_⟩
  rw [up_n _ _ ?_]
  · exact y4
  · intro e
    exact h4 i w hi (by omega) (by rw [y3, e, hq])
/-! what has not fallen is founded, or its giver waits -/
def gl_B (n : Nat) (G K P : Nat → Int32) (O F U : Nat → Bool) (ex : Nat → Prop) : Prop := ∀ i, i < n → F i = false → G i = 0 ∨ (∃ e, e < i ∧ F e = false ∧ O e = true ∧ K e = G i ∧ P e = P i) ∨ (∃ a, a < 24 ∧ U a = true ∧ G i = nI (a / 3) ∧ P i = nI (a % 3)) ∨ ex i
theorem gl_B.start {tm n : Nat} {T G K P : Nat → Int32} {O F U : Nat → Bool} {ex : Nat → Prop} (h : gl_WF tm n T G K P O) (hF : ∀ i, i < n → F i = false) : gl_B n G K P O F U ex := by
  intro i hi _
  rcases gl_fd_iff.mp (h.2.2.2.2.2.2 i hi) with h | ⟨e, e1, e2, e3⟩
  · exact Or.inl h
  · exact Or.inr (Or.inl ⟨e, e1, hF e (by omega), e3⟩)
/-- what one fall leaves of the queue -/
def gl_L (O : Nat → Bool) (K P : Nat → Int32) (j : Nat) (w : Nat) (U : Nat → Bool) (w' : Nat) (Qu' : Nat → Int32) (U' : Nat → Bool) : Prop :=
  gl_QS w' Qu' U' ∧ (∀ a, U a = true → U' a = true) ∧ (O j = true → ∃ a, a < 24 ∧ U' a = true ∧ K j = nI (a / 3) ∧ P j = nI (a % 3)) ∧ w' ≤ w + 1
theorem gl_B.fall {n : Nat} {G K P : Nat → Int32} {O F U : Nat → Bool} {ex : Nat → Prop} (h : gl_B n G K P O F U ex) {j w w' : Nat} {Qu' : Nat → Int32} {U' : Nat → Bool} (hL : gl_L O K P j w U w' Qu' U') : gl_B n G K P O (va_up F j true) U' ex := by
  intro i hi hF
  have hij : i ≠ j := by
    intro e
    rw [e, up_s] at hF
    cases hF
  rw [up_n _ _ hij] at hF
  rcases h i hi hF with a | ⟨e, e1, e2, e3, e4, e5⟩ | ⟨b, b1, b2, b3⟩ | a
  · exact Or.inl a
  · by_cases ej : e = j
    · subst ej
      obtain ⟨b, b1, b2, b3, b4⟩ := hL.2.2.1 e3
      exact Or.inr (Or.inr (Or.inl ⟨b, b1, b2, e4.symm.trans b3, e5.symm.trans b4⟩))
    · exact Or.inr (Or.inl ⟨e, e1, by rw [up_n _ _ ej]; exact e2, e3, e4, e5⟩)
  · exact Or.inr (Or.inr (Or.inl ⟨b, b1, hL.2.1 b b2, b3⟩))
  · exact Or.inr (Or.inr (Or.inr a))
theorem gl_B.mono {n : Nat} {G K P : Nat → Int32} {O F U : Nat → Bool} {ex ex' : Nat → Prop} (h : gl_B n G K P O F U ex) (hx : ∀ i, i < n → F i = false → ex i → G i = 0 ∨ (∃ e, e < i ∧ F e = false ∧ O e = true ∧ K e = G i ∧ P e = P i) ∨ ex' i) : gl_B n G K P O F U ex' := by
  intro i hi hF
  rcases h i hi hF with a | a | a | a
  · exact Or.inl a
  · exact Or.inr (Or.inl a)
  · exact Or.inr (Or.inr (Or.inl a))
  · rcases hx i hi hF a with b | b | b
    · exact Or.inl b
    · exact Or.inr (Or.inl b)
    · exact Or.inr (Or.inr (Or.inr b))
/-- one is taken off the queue: its user's grants are to be looked at -/
theorem gl_B.pop {n : Nat} {G K P : Nat → Int32} {O F U : Nat → Bool} (h : gl_B n G K P O F U (fun _ => False)) (x : Nat) : gl_B n G K P O F (va_up U x false) (fun i => 0 ≤ i ∧ G i = nI (x / 3) ∧ P i = nI (x % 3)) := by
  intro i hi hF
  rcases h i hi hF with a | a | ⟨b, b1, b2, b3, b4⟩ | a
  · exact Or.inl a
  · exact Or.inr (Or.inl a)
  · by_cases e : b = x
    · subst e
      exact Or.inr (Or.inr (Or.inr ⟨Nat.zero_le _, b3, b4⟩))
    · exact Or.inr (Or.inr (Or.inl ⟨b, b1, by rw [up_n _ _ e]; exact b2, b3, b4⟩))
  · exact absurd a id
/-- the measure of a fall -/
theorem gl_ms {F : Nat → Bool} {j n w w' f : Nat} (hj : j < n) (hF : F j = false) (h : w + gl_cnt (fun i => !F i) n ≤ f) (hw : w' ≤ w + 1) : w' + gl_cnt (fun i => !(va_up F j true) i) n ≤ f := by
  have e : (fun i => !(va_up F j true) i) = va_up (fun i => !F i) j false := by
    funext i
    by_cases h : i = j
    · rw [h, up_s, up_s]; rfl
    · rw [up_n _ _ h, up_n _ _ h]
  rw [e]
  have := gl_cnt_clr (q := fun i => !F i) (j := j) (by simp [hF]) n hj
  omega
/-- when nobody waits, what has fallen is what the model does not keep -/
theorem gl_fin {n : Nat} {G K P : Nat → Int32} {O F U init : Nat → Bool} (h1 : ∀ i, i < n → gl_ks G K P O init n i = true → F i = false) (h2 : gl_B n G K P O F U (fun _ => False)) (h3 : ∀ x, x < 24 → U x = false) (h4 : ∀ i, i < n → F i = false → init i = true) : ∀ i, i < n → F i = !(gl_ks G K P O init n i) := by
  intro i
  induction i using Nat.strongRecOn with
  | _ i ih =>
    intro hi
    cases hF : F i
    · have hk : gl_ks G K P O init n i = true := by
        rw [gl_ks_eq hi, h4 i hi hF, Bool.true_and]
        refine gl_fd_iff.mpr ?_
        rcases h2 i hi hF with a | ⟨e, e1, e2, e3⟩ | ⟨b, b1, b2, b3⟩ | a
        · exact Or.inl a
        · refine Or.inr ⟨e, e1, ?_, e3⟩
          have := ih e e1 (by omega)
          rw [e2] at this
          cases hq : gl_ks G K P O init n e
          · rw [hq] at this; cases this
          · rfl
        · rw [h3 b b1] at b2; cases b2
        · exact absurd a id
      rw [hk]; rfl
    · cases hk : gl_ks G K P O init n i
      · rfl
      · rw [h1 i hi hk] at hF; cases hF
end
section
/-! words that the walks use -/
set_option maxRecDepth 100000
abbrev rm_ (k : Nat) : Room := { frames := k, cells := 0, slots := 0, locals := 25 * k }
theorem usr_neg {x : Int32} (h : x < 0) : gl_usr x = false := by simp [gl_usr, Int32.not_le.mpr h]
theorem usr_big {x : Int32} (h : 7 < x) : gl_usr x = false := by simp [gl_usr, Int32.not_le.mpr h]
theorem usr_ok {x : Int32} (h : ¬ x < 0) (h2 : ¬ 7 < x) : gl_usr x = true := by simp [gl_usr, Int32.not_lt.mp h, Int32.not_lt.mp h2]
theorem prv_neg {x : Int32} (h : x < 0) : gl_prv x = false := by simp [gl_prv, Int32.not_le.mpr h]
theorem prv_big {x : Int32} (h : 2 < x) : gl_prv x = false := by simp [gl_prv, Int32.not_le.mpr h]
theorem prv_ok {x : Int32} (h : ¬ x < 0) (h2 : ¬ 2 < x) : gl_prv x = true := by simp [gl_prv, Int32.not_lt.mp h, Int32.not_lt.mp h2]
/-- a grant with option of the user and privilege that is not falling -/
def gl_en (K P : Nat → Int32) (O F : Nat → Bool) (u p : Int32) (j : Nat) : Bool := gl_rt K P O u p j && !F j
theorem gl_en_iff {K P : Nat → Int32} {O F : Nat → Bool} {u p : Int32} {j : Nat} : gl_en K P O F u p j = true ↔ K j = u ∧ P j = p ∧ O j = true ∧ F j = false := by simp [gl_en, gl_rt, and_assoc]
theorem gl_en_1 {K P : Nat → Int32} {O F : Nat → Bool} {u p : Int32} {j : Nat} (h : ¬ K j = u) : gl_en K P O F u p j = false := by simp [gl_en, gl_rt, h]
theorem gl_en_2 {K P : Nat → Int32} {O F : Nat → Bool} {u p : Int32} {j : Nat} (h : ¬ P j = p) : gl_en K P O F u p j = false := by simp [gl_en, gl_rt, h]
theorem gl_en_3 {K P : Nat → Int32} {O F : Nat → Bool} {u p : Int32} {j : Nat} (h : O j = false) : gl_en K P O F u p j = false := by simp [gl_en, gl_rt, h]
theorem gl_en_4 {K P : Nat → Int32} {O F : Nat → Bool} {u p : Int32} {j : Nat} (h : F j = true) : gl_en K P O F u p j = false := by simp [gl_en, gl_rt, h]
/-- the answer of 'earliest' -/
def gl_E (n : Nat) (T K P : Nat → Int32) (O F : Nat → Bool) (u p r : Int32) : Prop := (∃ j, j < n ∧ gl_en K P O F u p j = true ∧ (∀ i, i < j → gl_en K P O F u p i = false) ∧ r = T j) ∨ ((∀ i, i < n → gl_en K P O F u p i = false) ∧ r = -1)
theorem nI_div3 (x : Nat) (h : x < 24) : nI x / nI 3 = nI (x / 3) := pk_div (by omega) (by decide) (by decide)
theorem nI_rem3 (x : Nat) (h : x < 24) : nI x - nI x / nI 3 * nI 3 = nI (x % 3) := pk_rem (by omega) (by decide) (by decide)
end
section
/-! GrantLedger: its leaves -/
set_option maxHeartbeats 4000000 in
set_option maxRecDepth 100000 in
theorem cX_isUser (l : Launch) (D : va_G) (sz : Nat) (x : Int32) : ct_i l D [] yX0_isUser cX0_isUser 1 .boolean (rm_ 0) (fun _ : Unit => []) () sz [.int x] (fun r _ => r = bZ (gl_usr x)) := by
  refine en_i (by decide) (Nat.le_of_ble_eq_true rfl) ?_
  intro pr e s m ar below meth c A Q C0 hK hret H locs ls hP hD hS hl
  obtain ⟨hx, hb, hml, hown, hts, hA⟩ := C0
  have hl : lv_has ls 1 [(0, .int x)] := hl
  refine lv_iload_n hx hb dX0_isUser_0 rfl (lv_at hl 0 rfl) ?_
  refine lv_if_lt (tgt := 14) hx hb dX0_isUser_1 (by decide) (fun c1 => ?_) (fun c1 => ?_)
  · refine lv_iconst (v := 0) hx hb dX0_isUser_14 (by decide) ?_
    exact hret _ _ _ _ _ () dX0_isUser_15 rfl hP hD hS (by rw [usr_neg c1]; rfl)
  · refine lv_iload_n hx hb dX0_isUser_4 rfl (lv_at hl 0 rfl) ?_
    refine lv_bipush (v := 7) hx hb dX0_isUser_5 (by decide) ?_
    refine lv_icmp_gt (tgt := 14) hx hb dX0_isUser_7 (by decide) (fun c2 => ?_) (fun c2 => ?_)
    · refine lv_iconst (v := 0) hx hb dX0_isUser_14 (by decide) ?_
      exact hret _ _ _ _ _ () dX0_isUser_15 rfl hP hD hS (by rw [usr_big c2]; rfl)
    · refine lv_iconst (v := 1) hx hb dX0_isUser_10 (by decide) ?_
      refine lv_goto (tgt := 15) hx hb dX0_isUser_11 (by decide) ?_
      exact hret _ _ _ _ _ () dX0_isUser_15 rfl hP hD hS (by rw [usr_ok c1 c2]; rfl)
set_option maxHeartbeats 4000000 in
set_option maxRecDepth 100000 in
theorem cX_isPrivilege (l : Launch) (D : va_G) (sz : Nat) (x : Int32) : ct_i l D [] yX0_isPrivilege cX0_isPrivilege 1 .boolean (rm_ 0) (fun _ : Unit => []) () sz [.int x] (fun r _ => r = bZ (gl_prv x)) := by
  refine en_i (by decide) (Nat.le_of_ble_eq_true rfl) ?_
  intro pr e s m ar below meth c A Q C0 hK hret H locs ls hP hD hS hl
  obtain ⟨hx, hb, hml, hown, hts, hA⟩ := C0
  have hl : lv_has ls 1 [(0, .int x)] := hl
  refine lv_iload_n hx hb dX0_isPrivilege_0 rfl (lv_at hl 0 rfl) ?_
  refine lv_if_lt (tgt := 13) hx hb dX0_isPrivilege_1 (by decide) (fun c1 => ?_) (fun c1 => ?_)
  · refine lv_iconst (v := 0) hx hb dX0_isPrivilege_13 (by decide) ?_
    exact hret _ _ _ _ _ () dX0_isPrivilege_14 rfl hP hD hS (by rw [prv_neg c1]; rfl)
  · refine lv_iload_n hx hb dX0_isPrivilege_4 rfl (lv_at hl 0 rfl) ?_
    refine lv_iconst (v := 2) hx hb dX0_isPrivilege_5 (by decide) ?_
    refine lv_icmp_gt (tgt := 13) hx hb dX0_isPrivilege_6 (by decide) (fun c2 => ?_) (fun c2 => ?_)
    · refine lv_iconst (v := 0) hx hb dX0_isPrivilege_13 (by decide) ?_
      exact hret _ _ _ _ _ () dX0_isPrivilege_14 rfl hP hD hS (by rw [prv_big c2]; rfl)
    · refine lv_iconst (v := 1) hx hb dX0_isPrivilege_9 (by decide) ?_
      refine lv_goto (tgt := 14) hx hb dX0_isPrivilege_10 (by decide) ?_
      exact hret _ _ _ _ _ () dX0_isPrivilege_14 rfl hP hD hS (by rw [prv_ok c1 c2]; rfl)
set_option maxHeartbeats 4000000 in
set_option maxRecDepth 100000 in
theorem cX_standing (l : Launch) (D : va_G) (cI cZ : ClassId) (h : Nat) (a : Nat → Nat) (sz tm n w : Nat) (T G K P : Nat → Int32) (O F : Nat → Bool) (Qu : Nat → Int32) (U : Nat → Bool)  : ct_i l D (ty_ cI cZ) yX0_standing cX0_standing 1 .int (rm_ 0) (gx_w cI cZ h a) (tm, n, w, T, G, K, P, O, F, Qu, U) sz [.ref h] (fun r v => v = (tm, n, w, T, G, K, P, O, F, Qu, U) ∧ r = nI n) := by
  refine en_i (by decide) (Nat.le_of_ble_eq_true rfl) ?_
  intro pr e s m ar below meth c A Q C0 hK hret H locs ls hP hD hS hl
  obtain ⟨hx, hb, hml, hown, hts, hA⟩ := C0
  have hown : s.vm.findClass RX0 = some m.cls := hown
  have hP : va_P D vwCl (gx_W cI cZ h a tm n w T G K P O F Qu U) H := hP
  have hD : va_D A (gx_W cI cZ h a tm n w T G K P O F Qu U) := hD
  have hl : lv_has ls 1 [(0, .ref h)] := hl
  refine lv_aload_n hx hb dX0_standing_0 rfl (lv_at hl 0 rfl) ?_
  refine gx_get hx hb hts hown hK hP 1 (by decide) q22 rfl rfl dX0_standing_1 ?_
  exact hret _ _ _ _ _ (tm, n, w, T, G, K, P, O, F, Qu, U) dX0_standing_4 rfl hP hD hS ⟨rfl, rfl⟩
set_option maxHeartbeats 4000000 in
set_option maxRecDepth 100000 in
theorem cX_earliest (l : Launch) (D : va_G) (cI cZ : ClassId) (h : Nat) (a : Nat → Nat) (sz tm n w : Nat) (T G K P : Nat → Int32) (O F : Nat → Bool) (Qu : Nat → Int32) (U : Nat → Bool) (u p : Int32) (hn : n ≤ 48) : ct_i l D (ty_ cI cZ) yX0_earliest cX0_earliest 4 .int (rm_ 0) (gx_w cI cZ h a) (tm, n, w, T, G, K, P, O, F, Qu, U) sz [.ref h, .int u, .int p] (fun r v => v = (tm, n, w, T, G, K, P, O, F, Qu, U) ∧ gl_E n T K P O F u p r) := by
  refine en_i (by decide) (Nat.le_of_ble_eq_true rfl) ?_
  intro pr e s m ar below meth c A Q C0 hK hret H locs ls hP hD hS hl
  obtain ⟨hx, hb, hml, hown, hts, hA⟩ := C0
  have hown : s.vm.findClass RX0 = some m.cls := hown
  have hP : va_P D vwCl (gx_W cI cZ h a tm n w T G K P O F Qu U) H := hP
  have hD : va_D A (gx_W cI cZ h a tm n w T G K P O F Qu U) := hD
  have hl : lv_has ls 4 [(0, .ref h), (1, .int u), (2, .int p)] := hl
  refine lv_iconst (v := nI 0) hx hb dX0_earliest_0 (by decide) ?_
  refine lv_istore_n (lv' := [(3, .int (nI 0)), (0, .ref h), (1, .int u), (2, .int p)]) hx hb dX0_earliest_1 rfl hl (by decide) rfl (fun ls hl => ?_)
  have loop : ∀ (N i : Nat) (H : Heap) (locs : List Loc) (ls : Array Slot), i ≤ n → n < i + N → va_P D vwCl (gx_W cI cZ h a tm n w T G K P O F Qu U) H → va_D A (gx_W cI cZ h a tm n w T G K P O F Qu U) → va_S A s.heap H locs → lv_has ls 4 [(0, .ref h), (1, .int u), (2, .int p), (3, .int (nI i))] → (∀ j, j < i → gl_en K P O F u p j = false) → W pr l e (rm_ 0) s m ar below meth c H locs 0 0 Q (F0 m 2 ls []) := by
    intro N
    induction N with
    | zero =>
      intro i  H locs ls h1 h2
      exact absurd h2 (by omega)
    | succ N ih =>
      intro i  H locs ls hi hN hP hD hS hl hv
      refine lv_iload_n hx hb dX0_earliest_2 rfl (lv_at hl 3 rfl) ?_
      refine lv_aload_n hx hb dX0_earliest_3 rfl (lv_at hl 0 rfl) ?_
      refine gx_get hx hb hts hown hK hP 1 (by decide) q22 rfl rfl dX0_earliest_4 ?_
      refine kx_ge (tgt := 61) hx hb dX0_earliest_7 (by decide) (by omega) (by omega) (fun c0 => ?_) (fun c0 => ?_)
      · refine lv_iconst (v := (-1)) hx hb dX0_earliest_61 (by decide) ?_
        exact hret _ _ _ _ _ (tm, n, w, T, G, K, P, O, F, Qu, U) dX0_earliest_62 rfl hP hD hS ⟨rfl, Or.inr ⟨fun j hj => hv j (by omega), rfl⟩⟩
      · refine lv_aload_n hx hb dX0_earliest_10 rfl (lv_at hl 0 rfl) ?_
        refine gx_get hx hb hts hown hK hP 4 (by decide) q25 rfl rfl dX0_earliest_11 ?_
        refine lv_iload_n hx hb dX0_earliest_14 rfl (lv_at hl 3 rfl) ?_
        refine kx_ild hx hb hK hP 3 0 rfl rfl (by omega) (by decide) dX0_earliest_15 ?_
        refine lv_iload_n hx hb dX0_earliest_16 rfl (lv_at hl 1 rfl) ?_
        refine lv_icmp_ne (tgt := 55) hx hb dX0_earliest_17 (by decide) (fun c1 => ?_) (fun c1 => ?_)
        · refine lv_iinc (v := nI (i + 1)) (lv' := [(3, .int (nI (i + 1))), (0, .ref h), (1, .int u), (2, .int p)]) hx hb dX0_earliest_55 hl (k := 3) rfl (kx_inc _) (by decide) rfl (fun ls hl => ?_)
          refine lv_goto (tgt := 2) hx hb dX0_earliest_58 (by decide) ?_
          exact ih (i + 1) H locs ls (by omega) (by omega) hP hD hS (lv_sub hl [1, 2, 3, 0] rfl) (lt_s hv (gl_en_1 c1))
        · refine lv_aload_n hx hb dX0_earliest_20 rfl (lv_at hl 0 rfl) ?_
          refine gx_get hx hb hts hown hK hP 5 (by decide) q26 rfl rfl dX0_earliest_21 ?_
          refine lv_iload_n hx hb dX0_earliest_24 rfl (lv_at hl 3 rfl) ?_
          refine kx_ild hx hb hK hP 4 0 rfl rfl (by omega) (by decide) dX0_earliest_25 ?_
          refine lv_iload_n hx hb dX0_earliest_26 rfl (lv_at hl 2 rfl) ?_
          refine lv_icmp_ne (tgt := 55) hx hb dX0_earliest_27 (by decide) (fun c2 => ?_) (fun c2 => ?_)
          · refine lv_iinc (v := nI (i + 1)) (lv' := [(3, .int (nI (i + 1))), (0, .ref h), (1, .int u), (2, .int p)]) hx hb dX0_earliest_55 hl (k := 3) rfl (kx_inc _) (by decide) rfl (fun ls hl => ?_)
            refine lv_goto (tgt := 2) hx hb dX0_earliest_58 (by decide) ?_
            exact ih (i + 1) H locs ls (by omega) (by omega) hP hD hS (lv_sub hl [1, 2, 3, 0] rfl) (lt_s hv (gl_en_2 c2))
          · refine lv_aload_n hx hb dX0_earliest_30 rfl (lv_at hl 0 rfl) ?_
            refine gx_get hx hb hts hown hK hP 6 (by decide) q27 rfl rfl dX0_earliest_31 ?_
            refine lv_iload_n hx hb dX0_earliest_34 rfl (lv_at hl 3 rfl) ?_
            refine kx_zld hx hb hK hP 5 1 rfl rfl (by omega) (by decide) dX0_earliest_35 ?_
            refine kx_ifeq (tgt := 55) hx hb dX0_earliest_36 (by decide) (fun c3 => ?_) (fun c3 => ?_)
            · refine lv_iinc (v := nI (i + 1)) (lv' := [(3, .int (nI (i + 1))), (0, .ref h), (1, .int u), (2, .int p)]) hx hb dX0_earliest_55 hl (k := 3) rfl (kx_inc _) (by decide) rfl (fun ls hl => ?_)
              refine lv_goto (tgt := 2) hx hb dX0_earliest_58 (by decide) ?_
              exact ih (i + 1) H locs ls (by omega) (by omega) hP hD hS (lv_sub hl [1, 2, 3, 0] rfl) (lt_s hv (gl_en_3 c3))
            · refine lv_aload_n hx hb dX0_earliest_39 rfl (lv_at hl 0 rfl) ?_
              refine gx_get hx hb hts hown hK hP 7 (by decide) q28 rfl rfl dX0_earliest_40 ?_
              refine lv_iload_n hx hb dX0_earliest_43 rfl (lv_at hl 3 rfl) ?_
              refine kx_zld hx hb hK hP 6 1 rfl rfl (by omega) (by decide) dX0_earliest_44 ?_
              refine kx_ifne (tgt := 55) hx hb dX0_earliest_45 (by decide) (fun c4 => ?_) (fun c4 => ?_)
              · refine lv_iinc (v := nI (i + 1)) (lv' := [(3, .int (nI (i + 1))), (0, .ref h), (1, .int u), (2, .int p)]) hx hb dX0_earliest_55 hl (k := 3) rfl (kx_inc _) (by decide) rfl (fun ls hl => ?_)
                refine lv_goto (tgt := 2) hx hb dX0_earliest_58 (by decide) ?_
                exact ih (i + 1) H locs ls (by omega) (by omega) hP hD hS (lv_sub hl [1, 2, 3, 0] rfl) (lt_s hv (gl_en_4 c4))
              · refine lv_aload_n hx hb dX0_earliest_48 rfl (lv_at hl 0 rfl) ?_
                refine gx_get hx hb hts hown hK hP 2 (by decide) q23 rfl rfl dX0_earliest_49 ?_
                refine lv_iload_n hx hb dX0_earliest_52 rfl (lv_at hl 3 rfl) ?_
                refine kx_ild hx hb hK hP 1 0 rfl rfl (by omega) (by decide) dX0_earliest_53 ?_
                exact hret _ _ _ _ _ (tm, n, w, T, G, K, P, O, F, Qu, U) dX0_earliest_54 rfl hP hD hS ⟨rfl, Or.inl ⟨i, c0, gl_en_iff.mpr ⟨c1, c2, c3, c4⟩, hv, rfl⟩⟩
  exact loop (n + 1) 0 H locs ls (by omega) (by omega) hP hD hS (lv_sub hl [1, 2, 3, 0] rfl) lt_0
set_option maxHeartbeats 4000000 in
set_option maxRecDepth 100000 in
theorem cX_clearMarks (l : Launch) (D : va_G) (cI cZ : ClassId) (h : Nat) (a : Nat → Nat) (sz tm n w : Nat) (T G K P : Nat → Int32) (O F : Nat → Bool) (Qu : Nat → Int32) (U : Nat → Bool) (hn : n ≤ 48) : ct_v l D (ty_ cI cZ) yX0_clearMarks cX0_clearMarks 2 (rm_ 0) (gx_w cI cZ h a) (tm, n, w, T, G, K, P, O, F, Qu, U) sz [.ref h] (fun v => ∃ F' : Nat → Bool, v = (tm, n, w, T, G, K, P, O, F', Qu, U) ∧ ∀ j, j < n → F' j = false) := by
  refine en_v (by decide) (Nat.le_of_ble_eq_true rfl) ?_
  intro pr e s m ar below meth c A Q C0 hK hret H locs ls hP hD hS hl
  obtain ⟨hx, hb, hml, hown, hts, hA⟩ := C0
  have hown : s.vm.findClass RX0 = some m.cls := hown
  have hP : va_P D vwCl (gx_W cI cZ h a tm n w T G K P O F Qu U) H := hP
  have hD : va_D A (gx_W cI cZ h a tm n w T G K P O F Qu U) := hD
  have hl : lv_has ls 2 [(0, .ref h)] := hl
  refine lv_iconst (v := nI 0) hx hb dX0_clearMarks_0 (by decide) ?_
  refine lv_istore_n (lv' := [(1, .int (nI 0)), (0, .ref h)]) hx hb dX0_clearMarks_1 rfl hl (by decide) rfl (fun ls hl => ?_)
  have loop : ∀ (N i : Nat) (F : Nat → Bool) (H : Heap) (locs : List Loc) (ls : Array Slot), i ≤ n → n < i + N → va_P D vwCl (gx_W cI cZ h a tm n w T G K P O F Qu U) H → va_D A (gx_W cI cZ h a tm n w T G K P O F Qu U) → va_S A s.heap H locs → lv_has ls 2 [(0, .ref h), (1, .int (nI i))] → (∀ j, j < i → F j = false) → W pr l e (rm_ 0) s m ar below meth c H locs 0 0 Q (F0 m 2 ls []) := by
    intro N
    induction N with
    | zero =>
      intro i F H locs ls h1 h2
      exact absurd h2 (by omega)
    | succ N ih =>
      intro i F H locs ls hi hN hP hD hS hl hv
      refine lv_iload_n hx hb dX0_clearMarks_2 rfl (lv_at hl 1 rfl) ?_
      refine lv_aload_n hx hb dX0_clearMarks_3 rfl (lv_at hl 0 rfl) ?_
      refine gx_get hx hb hts hown hK hP 1 (by decide) q22 rfl rfl dX0_clearMarks_4 ?_
      refine kx_ge (tgt := 23) hx hb dX0_clearMarks_7 (by decide) (by omega) (by omega) (fun c0 => ?_) (fun c0 => ?_)
      · exact hret _ _ _ _ (tm, n, w, T, G, K, P, O, F, Qu, U) dX0_clearMarks_23 hP hD hS ⟨F, rfl, fun j hj => hv j (by omega)⟩
      · refine lv_aload_n hx hb dX0_clearMarks_10 rfl (lv_at hl 0 rfl) ?_
        refine gx_get hx hb hts hown hK hP 7 (by decide) q28 rfl rfl dX0_clearMarks_11 ?_
        refine lv_iload_n hx hb dX0_clearMarks_14 rfl (lv_at hl 1 rfl) ?_
        refine lv_iconst (v := nI 0) hx hb dX0_clearMarks_15 (by decide) ?_
        refine kx_zst (v := false) hx hb hK hP hD hS 6 1 rfl rfl rfl (by omega) (by decide) dX0_clearMarks_16 (fun H locs hP hD hS => ?_)
        have hP : va_P D vwCl (gx_W cI cZ h a tm n w T G K P O (va_up F i false) Qu U) H := hP
        have hD : va_D A (gx_W cI cZ h a tm n w T G K P O (va_up F i false) Qu U) := hD
        refine lv_iinc (v := nI (i + 1)) (lv' := [(1, .int (nI (i + 1))), (0, .ref h)]) hx hb dX0_clearMarks_17 hl (k := 1) rfl (kx_inc _) (by decide) rfl (fun ls hl => ?_)
        refine lv_goto (tgt := 2) hx hb dX0_clearMarks_20 (by decide) ?_
        exact ih (i + 1) _ H locs ls (by omega) (by omega) hP hD hS (lv_sub hl [1, 0] rfl) (fun j hj => by
          by_cases e : j = i
          · rw [e, up_s]
          · rw [up_n _ _ e]; exact hv j (by omega))
  exact loop (n + 1) 0 F H locs ls (by omega) (by omega) hP hD hS (lv_sub hl [1, 0] rfl) lt_0
set_option maxHeartbeats 4000000 in
set_option maxRecDepth 100000 in
theorem cX_letFall (l : Launch) (D : va_G) (cI cZ : ClassId) (h : Nat) (a : Nat → Nat) (sz tm n w : Nat) (T G K P : Nat → Int32) (O F : Nat → Bool) (Qu : Nat → Int32) (U : Nat → Bool) (j : Nat) (hn : n ≤ 48) (hj : j < n) (hQ : gl_QS w Qu U) (hKj : ∃ k, 1 ≤ k ∧ k ≤ 7 ∧ K j = nI k) (hPj : ∃ p, p ≤ 2 ∧ P j = nI p) : ct_v l D (ty_ cI cZ) yX0_letFall cX0_letFall 3 (rm_ 0) (gx_w cI cZ h a) (tm, n, w, T, G, K, P, O, F, Qu, U) sz [.ref h, .int (nI j)] (fun v => ∃ (w' : Nat) (Qu' : Nat → Int32) (U' : Nat → Bool), v = (tm, n, w', T, G, K, P, O, va_up F j true, Qu', U') ∧ gl_L O K P j w U w' Qu' U') := by
  refine en_v (by decide) (Nat.le_of_ble_eq_true rfl) ?_
  intro pr e s m ar below meth c A Q C0 hK hret H locs ls hP hD hS hl
  obtain ⟨hx, hb, hml, hown, hts, hA⟩ := C0
  have hown : s.vm.findClass RX0 = some m.cls := hown
  have hP : va_P D vwCl (gx_W cI cZ h a tm n w T G K P O F Qu U) H := hP
  have hD : va_D A (gx_W cI cZ h a tm n w T G K P O F Qu U) := hD
  have hl : lv_has ls 3 [(0, .ref h), (1, .int (nI j))] := hl
  obtain ⟨k, hk1, hk2, hKj⟩ := hKj
  obtain ⟨q, hq1, hPj⟩ := hPj
  refine lv_aload_n hx hb dX0_letFall_0 rfl (lv_at hl 0 rfl) ?_
  refine gx_get hx hb hts hown hK hP 7 (by decide) q28 rfl rfl dX0_letFall_1 ?_
  refine lv_iload_n hx hb dX0_letFall_4 rfl (lv_at hl 1 rfl) ?_
  refine lv_iconst (v := nI 1) hx hb dX0_letFall_5 (by decide) ?_
  refine kx_zst (v := true) hx hb hK hP hD hS 6 1 rfl rfl rfl (by omega) (by decide) dX0_letFall_6 (fun H locs hP hD hS => ?_)
  have hP : va_P D vwCl (gx_W cI cZ h a tm n w T G K P O (va_up F j true) Qu U) H := hP
  have hD : va_D A (gx_W cI cZ h a tm n w T G K P O (va_up F j true) Qu U) := hD
  refine lv_iconst (v := nI 3) hx hb dX0_letFall_7 (by decide) ?_
  refine lv_aload_n hx hb dX0_letFall_8 rfl (lv_at hl 0 rfl) ?_
  refine gx_get hx hb hts hown hK hP 4 (by decide) q25 rfl rfl dX0_letFall_9 ?_
  refine lv_iload_n hx hb dX0_letFall_12 rfl (lv_at hl 1 rfl) ?_
  refine kx_ild hx hb hK hP 3 0 rfl rfl (by omega) (by decide) dX0_letFall_13 ?_
  refine kx_imul (v := nI (3 * k)) hx hb dX0_letFall_14 (by rw [hKj]; exact pk_mul 3 k) ?_
  refine lv_aload_n hx hb dX0_letFall_15 rfl (lv_at hl 0 rfl) ?_
  refine gx_get hx hb hts hown hK hP 5 (by decide) q26 rfl rfl dX0_letFall_16 ?_
  refine lv_iload_n hx hb dX0_letFall_19 rfl (lv_at hl 1 rfl) ?_
  refine kx_ild hx hb hK hP 4 0 rfl rfl (by omega) (by decide) dX0_letFall_20 ?_
  refine kx_iadd (v := nI (3 * k + q)) hx hb dX0_letFall_21 (by rw [hPj]; exact nI_add _ _) ?_
  refine lv_istore_n (lv' := [(2, .int (nI (3 * k + q))), (0, .ref h), (1, .int (nI j))]) hx hb dX0_letFall_22 rfl hl (by decide) rfl (fun ls hl => ?_)
  refine lv_aload_n hx hb dX0_letFall_23 rfl (lv_at hl 1 rfl) ?_
  refine gx_get hx hb hts hown hK hP 6 (by decide) q27 rfl rfl dX0_letFall_24 ?_
  refine lv_iload_n hx hb dX0_letFall_27 rfl (lv_at hl 2 rfl) ?_
  refine kx_zld hx hb hK hP 5 1 rfl rfl (by omega) (by decide) dX0_letFall_28 ?_
  have hA3 : K j = nI ((3 * k + q) / 3) := by rw [hKj, show (3 * k + q) / 3 = k by omega]
  have hA4 : P j = nI ((3 * k + q) % 3) := by rw [hPj, show (3 * k + q) % 3 = q by omega]
  refine kx_ifeq (tgt := 68) hx hb dX0_letFall_29 (by decide) (fun c1 => ?_) (fun c1 => ?_)
  · exact hret _ _ _ _ (tm, n, w, T, G, K, P, O, va_up F j true, Qu, U) dX0_letFall_68 hP hD hS ⟨w, Qu, U, rfl, hQ, fun _ h => h, fun h => (by rw [c1] at h; cases h), by omega⟩
  · refine lv_aload_n hx hb dX0_letFall_32 rfl (lv_at hl 1 rfl) ?_
    refine gx_get hx hb hts hown hK hP 10 (by decide) q31 rfl rfl dX0_letFall_33 ?_
    refine lv_iload_n hx hb dX0_letFall_36 rfl (lv_at hl 0 rfl) ?_
    refine kx_zld hx hb hK hP 8 1 rfl rfl (by omega) (by decide) dX0_letFall_37 ?_
    refine kx_ifne (tgt := 68) hx hb dX0_letFall_38 (by decide) (fun c2 => ?_) (fun c2 => ?_)
    · exact hret _ _ _ _ (tm, n, w, T, G, K, P, O, va_up F j true, Qu, U) dX0_letFall_68 hP hD hS ⟨w, Qu, U, rfl, hQ, fun _ h => h, fun _ => ⟨3 * k + q, by omega, c2, hA3, hA4⟩, by omega⟩
    · have hw := hQ.lt (x := 3 * k + q) (by omega) c2
      refine lv_aload_n hx hb dX0_letFall_41 rfl (lv_at hl 1 rfl) ?_
      refine gx_get hx hb hts hown hK hP 10 (by decide) q31 rfl rfl dX0_letFall_42 ?_
      refine lv_iload_n hx hb dX0_letFall_45 rfl (lv_at hl 0 rfl) ?_
      refine lv_iconst (v := nI 1) hx hb dX0_letFall_46 (by decide) ?_
      refine kx_zst (v := true) hx hb hK hP hD hS 8 1 rfl rfl rfl (by omega) (by decide) dX0_letFall_47 (fun H locs hP hD hS => ?_)
      have hP : va_P D vwCl (gx_W cI cZ h a tm n w T G K P O (va_up F j true) Qu (va_up U (3 * k + q) true)) H := hP
      have hD : va_D A (gx_W cI cZ h a tm n w T G K P O (va_up F j true) Qu (va_up U (3 * k + q) true)) := hD
      refine lv_aload_n hx hb dX0_letFall_48 rfl (lv_at hl 1 rfl) ?_
      refine gx_get hx hb hts hown hK hP 9 (by decide) q30 rfl rfl dX0_letFall_49 ?_
      refine lv_aload_n hx hb dX0_letFall_52 rfl (lv_at hl 1 rfl) ?_
      refine gx_get hx hb hts hown hK hP 8 (by decide) q29 rfl rfl dX0_letFall_53 ?_
      refine lv_iload_n hx hb dX0_letFall_56 rfl (lv_at hl 0 rfl) ?_
      refine kx_ist hx hb hK hP hD hS 7 0 rfl rfl (by omega) (by decide) dX0_letFall_57 (fun H locs hP hD hS => ?_)
      have hP : va_P D vwCl (gx_W cI cZ h a tm n w T G K P O (va_up F j true) (va_up Qu w (nI (3 * k + q))) (va_up U (3 * k + q) true)) H := hP
      have hD : va_D A (gx_W cI cZ h a tm n w T G K P O (va_up F j true) (va_up Qu w (nI (3 * k + q))) (va_up U (3 * k + q) true)) := hD
      refine lv_aload_n hx hb dX0_letFall_58 rfl (lv_at hl 1 rfl) ?_
      refine lv_dup hx hb dX0_letFall_59 rfl ?_
      refine gx_get hx hb hts hown hK hP 8 (by decide) q29 rfl rfl dX0_letFall_60 ?_
      refine lv_iconst (v := nI 1) hx hb dX0_letFall_63 (by decide) ?_
      refine kx_iadd (v := nI (w + 1)) hx hb dX0_letFall_64 (nI_1 w) ?_
      refine gx_put hx hb hts hown hK hP hD hS 8 (by decide) q29 rfl rfl (by decide +kernel) dX0_letFall_65 (fun H locs hP hD hS => ?_)
      have hP : va_P D vwCl (gx_W cI cZ h a tm n (w + 1) T G K P O (va_up F j true) (va_up Qu w (nI (3 * k + q))) (va_up U (3 * k + q) true)) H := hP
      have hD : va_D A (gx_W cI cZ h a tm n (w + 1) T G K P O (va_up F j true) (va_up Qu w (nI (3 * k + q))) (va_up U (3 * k + q) true)) := hD
      exact hret _ _ _ _ (tm, n, w + 1, T, G, K, P, O, va_up F j true, va_up Qu w (nI (3 * k + q)), va_up U (3 * k + q) true) dX0_letFall_68 hP hD hS ⟨w + 1, _, _, rfl, hQ.push (by omega) (by omega) c2, fun b hb => by
        by_cases e : b = 3 * k + q
        · rw [e, up_s]
        · rw [up_n _ _ e]; exact hb, fun _ => ⟨3 * k + q, by omega, up_s _ _ _, hA3, hA4⟩, by omega⟩
end
section
/-! the plain law behind review, spread, mark, sweep -/
set_option maxRecDepth 100000
def gl_I (n : Nat) (G K P : Nat → Int32) (O init F : Nat → Bool) (w : Nat) (Qu : Nat → Int32) (U : Nat → Bool) (f : Nat) (ex : Nat → Prop) : Prop :=
  gl_QS w Qu U ∧ (∀ i, i < n → gl_ks G K P O init n i = true → F i = false) ∧ gl_B n G K P O F U ex ∧ (∀ i, i < n → F i = false → init i = true) ∧ w + gl_cnt (fun i => !F i) n ≤ f
theorem gl_I.skip {n : Nat} {G K P : Nat → Int32} {O init F : Nat → Bool} {w : Nat} {Qu : Nat → Int32} {U : Nat → Bool} {f i : Nat} {u p : Int32} (h : gl_I n G K P O init F w Qu U f (fun k => i ≤ k ∧ G k = u ∧ P k = p)) (hx : G i = u → P i = p → F i = false → ∃ e, e < i ∧ F e = false ∧ O e = true ∧ K e = G i ∧ P e = P i) : gl_I n G K P O init F w Qu U f (fun k => i + 1 ≤ k ∧ G k = u ∧ P k = p) := by
  obtain ⟨h1, h2, h3, h4, h5⟩ := h
  refine ⟨h1, h2, h3.mono (fun k hk hF ⟨a1, a2, a3⟩ => ?_), h4, h5⟩
  rcases Nat.lt_or_ge i k with a | a
  · exact Or.inr (Or.inr ⟨a, a2, a3⟩)
  · have e : k = i := by omega
    subst e
    exact Or.inr (Or.inl (hx a2 a3 hF))
theorem gl_I.found {tm n : Nat} {T G K P : Nat → Int32} {O F : Nat → Bool} (hW : gl_WF tm n T G K P O) {i : Nat} (hi : i < n) {u p r : Int32} (hE : gl_E n T K P O F u p r) (hr : ¬ r < 0) (ht : ¬ T i < r) : G i = u → P i = p → F i = false → ∃ e, e < i ∧ F e = false ∧ O e = true ∧ K e = G i ∧ P e = P i := by
  intro h1 h2 _
  rcases hE with ⟨j, j1, j2, j3, rfl⟩ | ⟨-, rfl⟩
  · obtain ⟨e1, e2, e3, e4⟩ := gl_en_iff.mp j2
    refine ⟨j, ?_, e4, e3, e1.trans h1.symm, e2.trans h2.symm⟩
    rcases Nat.lt_or_ge j i with a | a
    · exact a
    · rcases Nat.lt_or_ge i j with b | b
      · exact absurd (hW.2.2.1 i j b j1) ht
      · have e : j = i := by omega
        subst e
        exact absurd (h1.trans e1.symm) (hW.2.2.2.2.2.1 j hi)
  · exact absurd (by decide) hr
theorem gl_E.fall {tm n : Nat} {T G K P : Nat → Int32} {O F : Nat → Bool} (hW : gl_WF tm n T G K P O) {i : Nat} (hi : i < n) {u p r : Int32} (hE : gl_E n T K P O F u p r) (hG : G i = u) : gl_E n T K P O (va_up F i true) u p r := by
  have e : ∀ k, gl_en K P O (va_up F i true) u p k = gl_en K P O F u p k := by
    intro k
    by_cases h : k = i
    · subst h
      have hk : ¬ K k = u := fun q => hW.2.2.2.2.2.1 k hi (hG.trans q.symm)
      rw [gl_en_1 hk, gl_en_1 hk]
    · simp only [gl_en]
      rw [up_n _ _ h]
  rcases hE with ⟨j, j1, j2, j3, j4⟩ | ⟨h1, h2⟩
  · exact Or.inl ⟨j, j1, by rw [e]; exact j2, fun k hk => by rw [e]; exact j3 k hk, j4⟩
  · exact Or.inr ⟨fun k hk => by rw [e]; exact h1 k hk, h2⟩
theorem gl_I.fall {tm n : Nat} {T G K P : Nat → Int32} {O init F : Nat → Bool} {w : Nat} {Qu : Nat → Int32} {U : Nat → Bool} {f i : Nat} {u p r : Int32} (hW : gl_WF tm n T G K P O) (ht : tm < 2 ^ 31) (h : gl_I n G K P O init F w Qu U f (fun k => i ≤ k ∧ G k = u ∧ P k = p)) (hi : i < n) (hu : u ≠ 0) (hE : gl_E n T K P O F u p r) (hG : G i = u) (hP : P i = p) (hF : F i = false) (hr : r < 0 ∨ T i < r) {w' : Nat} {Qu' : Nat → Int32} {U' : Nat → Bool} (hL : gl_L O K P i w U w' Qu' U') :
    gl_I n G K P O init (va_up F i true) w' Qu' U' f (fun k => i + 1 ≤ k ∧ G k = u ∧ P k = p) := by
  obtain ⟨h1, h2, h3, h4, h5⟩ := h
  refine ⟨hL.1, fun k hk hks => ?_, (h3.fall hL).mono (fun k hk hF' ⟨a1, a2, a3⟩ => ?_), fun k hk hF' => ?_, gl_ms hi hF h5 hL.2.2.2⟩
  · by_cases e : k = i
    · subst e
      exfalso
      rw [gl_ks_eq hk, Bool.and_eq_true] at hks
      rcases gl_fd_iff.mp hks.2 with a | ⟨e, e1, e2, e3, e4, e5⟩
      · exact hu (hG.symm.trans a)
      · have hen : gl_en K P O F u p e = true := gl_en_iff.mpr ⟨e4.trans hG, e5.trans hP, e3, h2 e (by omega) e2⟩
        rcases hE with ⟨j, j1, j2, j3, rfl⟩ | ⟨q, -⟩
        · have hje : j ≤ e := by
            rcases Nat.lt_or_ge e j with b | b
            · rw [j3 e b] at hen; cases hen
            · exact b
          rcases hr with b | b
          · exact absurd (hW.pos ht j1) (Int32.not_le.mpr b)
          · exact absurd (hW.lt_of hk b) (by omega)
        · rw [q e (by omega)] at hen; cases hen
    · rw [up_n _ _ e]
      exact h2 k hk hks
  · rcases Nat.lt_or_ge i k with b | b
    · exact Or.inr (Or.inr ⟨b, a2, a3⟩)
    · have e : k = i := by omega
      rw [e, up_s] at hF'
      cases hF'
  · by_cases e : k = i
    · rw [e, up_s] at hF'
      cases hF'
    · rw [up_n _ _ e] at hF'
      exact h4 k hk hF'
theorem gl_I.exit {n : Nat} {G K P : Nat → Int32} {O init F : Nat → Bool} {w : Nat} {Qu : Nat → Int32} {U : Nat → Bool} {f i : Nat} {u p : Int32} (h : gl_I n G K P O init F w Qu U f (fun k => i ≤ k ∧ G k = u ∧ P k = p)) (hi : n ≤ i) : gl_I n G K P O init F w Qu U f (fun _ => False) := by
  obtain ⟨h1, h2, h3, h4, h5⟩ := h
  exact ⟨h1, h2, h3.mono (fun k hk hF ⟨a1, a2, a3⟩ => absurd hk (by omega)), h4, h5⟩
theorem gl_I.pop {n : Nat} {G K P : Nat → Int32} {O init F : Nat → Bool} {w : Nat} {Qu : Nat → Int32} {U : Nat → Bool} {f : Nat} (h : gl_I n G K P O init F (w + 1) Qu U f (fun _ => False)) {x : Nat} (hx : x < 24) (hq : Qu w = nI x) (hu : U x = true) : gl_I n G K P O init F w Qu (va_up U x false) (f - 1) (fun k => 0 ≤ k ∧ G k = nI (x / 3) ∧ P k = nI (x % 3)) := by
  obtain ⟨h1, h2, h3, h4, h5⟩ := h
  exact ⟨h1.pop hx hq hu, h2, h3.pop x, h4, by omega⟩
theorem nI3 {x : Nat} (h3 : 3 ≤ x) (h : x < 24) : nI (x / 3) ≠ 0 := nI_ne0 (by omega) (by omega)
theorem pf_skip {q F : Nat → Bool} {i n : Nat} (h : ∀ j, j < n → F j = (decide (j < i) && q j)) (hq : q i = false) : ∀ j, j < n → F j = (decide (j < i + 1) && q j) := by
  intro j hj
  rw [h j hj]
  by_cases e : j = i
  · rw [e, hq]; simp
  · congr 1
    exact decide_eq_decide.mpr ⟨fun h => by omega, fun h => by omega⟩
theorem pf_fall {q F : Nat → Bool} {i n : Nat} (h : ∀ j, j < n → F j = (decide (j < i) && q j)) (hq : q i = true) : ∀ j, j < n → va_up F i true j = (decide (j < i + 1) && q j) := by
  intro j hj
  by_cases e : j = i
  · rw [e, hq, up_s]; simp
  · rw [up_n _ _ e, h j hj]
    congr 1
    exact decide_eq_decide.mpr ⟨fun h => by omega, fun h => by omega⟩
theorem pf_at {q F : Nat → Bool} {i n : Nat} (h : ∀ j, j < n → F j = (decide (j < i) && q j)) (hi : i < n) : F i = false := by rw [h i hi]; simp
theorem pf_end {q F : Nat → Bool} {i n : Nat} (h : ∀ j, j < n → F j = (decide (j < i) && q j)) (hi : n ≤ i) : ∀ j, j < n → F j = q j := by
  intro j hj
  rw [h j hj, decide_eq_true (show j < i by omega)]; rfl
/-- what 'mark' leaves, and what 'expel' leaves ahead of 'spread' -/
def gl_M (n : Nat) (G K P : Nat → Int32) (O q F : Nat → Bool) (w : Nat) (Qu : Nat → Int32) (U : Nat → Bool) (f : Nat) : Prop :=
  gl_QS w Qu U ∧ (∀ i, i < n → F i = q i) ∧ gl_B n G K P O F U (fun _ => False) ∧ w + gl_cnt (fun i => !F i) n ≤ f
theorem gl_M.I {n : Nat} {G K P : Nat → Int32} {O q F : Nat → Bool} {w : Nat} {Qu : Nat → Int32} {U : Nat → Bool} {f : Nat} (h : gl_M n G K P O q F w Qu U f) : gl_I n G K P O (fun i => !q i) F w Qu U f (fun _ => False) := by
  obtain ⟨h1, h2, h3, h4⟩ := h
  refine ⟨h1, fun i hi hk => ?_, h3, fun i hi hF => ?_, h4⟩
  · rw [gl_ks_eq hi, Bool.and_eq_true] at hk
    rw [h2 i hi]
    have := hk.1
    cases hq : q i
    · rfl
    · rw [hq] at this; cases this
  · rw [h2 i hi] at hF
    show (!q i) = true
    rw [hF]; rfl
def gl_J (n i : Nat) (G K P : Nat → Int32) (O q F : Nat → Bool) (w : Nat) (Qu : Nat → Int32) (U : Nat → Bool) (f : Nat) : Prop :=
  gl_QS w Qu U ∧ (∀ j, j < n → F j = (decide (j < i) && q j)) ∧ gl_B n G K P O F U (fun _ => False) ∧ w + gl_cnt (fun i => !F i) n ≤ f
theorem gl_J.start {tm n : Nat} {T G K P : Nat → Int32} {O q F : Nat → Bool} {w : Nat} {Qu : Nat → Int32} {U : Nat → Bool} (hW : gl_WF tm n T G K P O) (hQ : gl_QS w Qu U) (hF : ∀ i, i < n → F i = false) : gl_J n 0 G K P O q F w Qu U (w + n) :=
  ⟨hQ, fun j hj => by rw [hF j hj]; simp, gl_B.start hW hF, Nat.add_le_add_left (gl_cnt_le _ _) _⟩
theorem gl_J.skip {n i : Nat} {G K P : Nat → Int32} {O q F : Nat → Bool} {w : Nat} {Qu : Nat → Int32} {U : Nat → Bool} {f : Nat} (h : gl_J n i G K P O q F w Qu U f) (hq : q i = false) : gl_J n (i + 1) G K P O q F w Qu U f := ⟨h.1, pf_skip h.2.1 hq, h.2.2.1, h.2.2.2⟩
theorem gl_J.fall {n i : Nat} {G K P : Nat → Int32} {O q F : Nat → Bool} {w : Nat} {Qu : Nat → Int32} {U : Nat → Bool} {f : Nat} (h : gl_J n i G K P O q F w Qu U f) (hi : i < n) (hq : q i = true) {w' : Nat} {Qu' : Nat → Int32} {U' : Nat → Bool} (hL : gl_L O K P i w U w' Qu' U') : gl_J n (i + 1) G K P O q (va_up F i true) w' Qu' U' f :=
  ⟨hL.1, pf_fall h.2.1 hq, h.2.2.1.fall hL, gl_ms hi (pf_at h.2.1 hi) h.2.2.2 hL.2.2.2⟩
theorem gl_J.M {n i : Nat} {G K P : Nat → Int32} {O q F : Nat → Bool} {w : Nat} {Qu : Nat → Int32} {U : Nat → Bool} {f : Nat} (h : gl_J n i G K P O q F w Qu U f) (hi : n ≤ i) : gl_M n G K P O q F w Qu U f := ⟨h.1, pf_end h.2.1 hi, h.2.2.1, h.2.2.2⟩
/-- the sign of the answer of 'earliest', when nothing is falling -/
theorem gl_E.any {n : Nat} {T K P : Nat → Int32} {O F : Nat → Bool} {u p r : Int32} (hE : gl_E n T K P O F u p r) (hF : ∀ j, j < n → F j = false) (hT : ∀ j, j < n → 0 ≤ T j) : r < 0 ↔ gl_any (gl_rt K P O u p) n = false := by
  rcases hE with ⟨j, j1, j2, j3, rfl⟩ | ⟨h1, rfl⟩
  · obtain ⟨e1, e2, e3, e4⟩ := gl_en_iff.mp j2
    constructor
    · intro h
      exact absurd (hT j j1) (Int32.not_le.mpr h)
    · intro h
      rw [gl_any_t j1 (gl_rt_iff.mpr ⟨e1, e2, e3⟩)] at h
      cases h
  · refine ⟨fun _ => gl_any_f fun j hj => ?_, fun _ => by decide⟩
    have h := h1 j hj
    simp only [gl_en, hF j hj, Bool.not_false, Bool.and_true] at h
    exact h
/-! the answers -/
def gl_rc (n : Nat) (K P : Nat → Int32) (u p : Int32) : Int32 := if gl_usr u && gl_prv p then nI (gl_cnt (gl_at2 K P u p) n) else -1
def gl_hd (n : Nat) (K P : Nat → Int32) (u p : Int32) : Int32 := if gl_usr u && gl_prv p then (if u = 0 ∨ 0 < gl_cnt (gl_at2 K P u p) n then 1 else 0) else -1
def gl_my (n : Nat) (K P : Nat → Int32) (O : Nat → Bool) (u p : Int32) : Int32 := if gl_usr u && gl_prv p then (if u = 0 ∨ gl_any (gl_rt K P O u p) n = true then 1 else 0) else -1
def gl_st (n : Nat) (T : Nat → Int32) (t : Int32) : Int32 := if gl_any (fun j => decide (T j = t)) n then 1 else 0
/-- 0: not a grant that can be given; 1: the giver has no right; 2: given -/
def gl_gc (n : Nat) (K P : Nat → Int32) (O : Nat → Bool) (g k p : Int32) : Nat := if gl_usr g && gl_usr k && !decide (g = k) && !decide (k = 0) && gl_prv p && decide (n < 48) then (if g = 0 ∨ gl_any (gl_rt K P O g p) n = true then 2 else 1) else 0
theorem usr_nat {x : Int32} (h : gl_usr x = true) : ∃ k, k ≤ 7 ∧ x = nI k := by
  simp [gl_usr] at h
  obtain ⟨j, h1, h2⟩ := nI_of2 (M := 7) (n := 7) (by decide) (Int32.not_lt.mpr h.1) h.2
  exact ⟨j, h1, h2⟩
theorem prv_nat {x : Int32} (h : gl_prv x = true) : ∃ k, k ≤ 2 ∧ x = nI k := by
  simp [gl_prv] at h
  obtain ⟨j, h1, h2⟩ := nI_of2 (M := 2) (n := 2) (by decide) (Int32.not_lt.mpr h.1) h.2
  exact ⟨j, h1, h2⟩
theorem gl_WF.grant {tm n : Nat} {T G K P : Nat → Int32} {O : Nat → Bool} (h : gl_WF tm n T G K P O) (ht : tm < 2 ^ 31) {g k p : Int32} {o : Bool} (hc : gl_gc n K P O g k p = 2) : gl_WF (tm + 1) (n + 1) (va_up T n (nI tm)) (va_up G n g) (va_up K n k) (va_up P n p) (va_up O n o) := by
  unfold gl_gc at hc
  split at hc
  · rename_i h1
    split at hc
    · rename_i h2
      simp only [Bool.and_eq_true, Bool.not_eq_true', decide_eq_false_iff_not, decide_eq_true_eq] at h1
      obtain ⟨⟨⟨⟨⟨a1, a2⟩, a3⟩, a4⟩, a5⟩, a6⟩ := h1
      refine h.add a6 ht ?_ (prv_nat a5) a3 h2
      obtain ⟨x, x1, x2⟩ := usr_nat a2
      refine ⟨x, ?_, x1, x2⟩
      rcases Nat.eq_zero_or_pos x with e | e
      · subst e
        exact absurd (x2.trans nI_0) a4
      · exact e
    · cases hc
  · cases hc
end
section
/-! GrantLedger: review, spread, mark, sweep -/
set_option maxHeartbeats 4000000 in
set_option maxRecDepth 100000 in
theorem cX_review (l : Launch) (D : va_G) (cI cZ : ClassId) (h : Nat) (a : Nat → Nat) (sz tm n w : Nat) (T G K P : Nat → Int32) (O F : Nat → Bool) (Qu : Nat → Int32) (U : Nat → Bool) (x f : Nat) (init : Nat → Bool) (hW : gl_WF tm n T G K P O) (ht : tm < 2 ^ 31) (hx3 : 3 ≤ x) (hx24 : x < 24) (hI : gl_I n G K P O init F w Qu U f (fun k => 0 ≤ k ∧ G k = nI (x / 3) ∧ P k = nI (x % 3))) : ct_v l D (ty_ cI cZ) yX0_review cX0_review 6 (rm_ 1) (gx_w cI cZ h a) (tm, n, w, T, G, K, P, O, F, Qu, U) sz [.ref h, .int (nI (x / 3)), .int (nI (x % 3))] (fun v => ∃ (w' : Nat) (F' : Nat → Bool) (Qu' : Nat → Int32) (U' : Nat → Bool), v = (tm, n, w', T, G, K, P, O, F', Qu', U') ∧ gl_I n G K P O init F' w' Qu' U' f (fun _ => False)) := by
  refine en_v (by decide) (Nat.le_of_ble_eq_true rfl) ?_
  intro pr e s m ar below meth c A Q C0 hK hret H locs ls hP hD hS hl
  obtain ⟨hx, hb, hml, hown, hts, hA⟩ := C0
  have hown : s.vm.findClass RX0 = some m.cls := hown
  have hP : va_P D vwCl (gx_W cI cZ h a tm n w T G K P O F Qu U) H := hP
  have hD : va_D A (gx_W cI cZ h a tm n w T G K P O F Qu U) := hD
  have hl : lv_has ls 6 [(0, .ref h), (1, .int (nI (x / 3))), (2, .int (nI (x % 3)))] := hl
  have hn : n ≤ 48 := hW.1
  have hu := nI3 hx3 hx24
  refine lv_aload_n hx hb dX0_review_0 rfl (lv_at hl 0 rfl) ?_
  refine lv_iload_n hx hb dX0_review_1 rfl (lv_at hl 1 rfl) ?_
  refine lv_iload_n hx hb dX0_review_2 rfl (lv_at hl 2 rfl) ?_
  refine ca_i (cX_earliest l D cI cZ h a _ tm n w T G K P O F Qu U (nI (x / 3)) (nI (x % 3)) hn) ⟨hx, hb, hml, hown, hts⟩ (cwV 2 hts (lw_V q67 q69 qs0 q11 q70) rfl rfl rfl (by decide +kernel) ⟨by decide, by decide⟩) hK hP hD hS hA (va_recv hK hP (ci := 0) (q0 := 0) rfl rfl) rfl hl.1 rfl (Nat.le_of_ble_eq_true rfl) dX0_review_3 ⟨Nat.zero_le _, Nat.zero_le _⟩ (fun r v H locs hq hP hD hS => ?_)
  obtain ⟨rfl, hE⟩ := hq
  have hP : va_P D vwCl (gx_W cI cZ h a tm n w T G K P O F Qu U) H := hP
  have hD : va_D A (gx_W cI cZ h a tm n w T G K P O F Qu U) := hD
  refine lv_istore_n (lv' := [(3, .int r), (0, .ref h), (1, .int (nI (x / 3))), (2, .int (nI (x % 3)))]) hx hb dX0_review_6 rfl hl (by decide) rfl (fun ls hl => ?_)
  refine lv_iconst (v := nI 0) hx hb dX0_review_7 (by decide) ?_
  refine lv_istore (lv' := [(4, .int (nI 0)), (3, .int r), (0, .ref h), (1, .int (nI (x / 3))), (2, .int (nI (x % 3)))]) hx hb dX0_review_8 hl (by decide) rfl (fun ls hl => ?_)
  have loop : ∀ (N i : Nat) (w : Nat) (F : Nat → Bool) (Qu : Nat → Int32) (U : Nat → Bool) (H : Heap) (locs : List Loc) (ls : Array Slot), i ≤ n → n < i + N → va_P D vwCl (gx_W cI cZ h a tm n w T G K P O F Qu U) H → va_D A (gx_W cI cZ h a tm n w T G K P O F Qu U) → va_S A s.heap H locs → lv_has ls 6 [(0, .ref h), (1, .int (nI (x / 3))), (2, .int (nI (x % 3))), (3, .int r), (4, .int (nI i))] → gl_I n G K P O init F w Qu U f (fun k => i ≤ k ∧ G k = nI (x / 3) ∧ P k = nI (x % 3)) → gl_E n T K P O F (nI (x / 3)) (nI (x % 3)) r → W pr l e (rm_ 1) s m ar below meth c H locs 0 0 Q (F0 m 10 ls []) := by
    intro N
    induction N with
    | zero =>
      intro i w F Qu U H locs ls h1 h2
      exact absurd h2 (by omega)
    | succ N ih =>
      intro i w F Qu U H locs ls hi hN hP hD hS hl hI hE
      refine lv_iload hx hb dX0_review_10 (lv_at hl 4 rfl) ?_
      refine lv_aload_n hx hb dX0_review_12 rfl (lv_at hl 0 rfl) ?_
      refine gx_get hx hb hts hown hK hP 1 (by decide) q22 rfl rfl dX0_review_13 ?_
      refine kx_ge (tgt := 90) hx hb dX0_review_16 (by decide) (by omega) (by omega) (fun c0 => ?_) (fun c0 => ?_)
      · exact hret _ _ _ _ (tm, n, w, T, G, K, P, O, F, Qu, U) dX0_review_90 hP hD hS ⟨w, F, Qu, U, rfl, hI.exit c0⟩
      · refine lv_aload_n hx hb dX0_review_19 rfl (lv_at hl 0 rfl) ?_
        refine gx_get hx hb hts hown hK hP 3 (by decide) q24 rfl rfl dX0_review_20 ?_
        refine lv_iload hx hb dX0_review_23 (lv_at hl 4 rfl) ?_
        refine kx_ild hx hb hK hP 2 0 rfl rfl (by omega) (by decide) dX0_review_25 ?_
        refine lv_iload_n hx hb dX0_review_26 rfl (lv_at hl 1 rfl) ?_
        refine lv_icmp_ne (tgt := 55) hx hb dX0_review_27 (by decide) (fun c1 => ?_) (fun c1 => ?_)
        · refine lv_iconst (v := nI 0) hx hb dX0_review_55 (by decide) ?_
          refine lv_istore (lv' := [(5, .int (nI 0)), (0, .ref h), (1, .int (nI (x / 3))), (2, .int (nI (x % 3))), (3, .int r), (4, .int (nI i))]) hx hb dX0_review_56 hl (by decide) rfl (fun ls hl => ?_)
          refine lv_iload hx hb dX0_review_58 (lv_at hl 0 rfl) ?_
          refine lv_if_eq (tgt := 84) hx hb dX0_review_60 (by decide) (fun c9 => ?_) (fun c9 => ?_)
          · refine lv_iinc (v := nI (i + 1)) (lv' := [(4, .int (nI (i + 1))), (5, .int (nI 0)), (0, .ref h), (1, .int (nI (x / 3))), (2, .int (nI (x % 3))), (3, .int r)]) hx hb dX0_review_84 hl (k := 5) rfl (kx_inc _) (by decide) rfl (fun ls hl => ?_)
            refine lv_goto (tgt := 10) hx hb dX0_review_87 (by decide) ?_
            exact ih (i + 1) w F Qu U H locs ls (by omega) (by omega) hP hD hS (lv_sub hl [2, 3, 4, 5, 0] rfl) (hI.skip (fun q => absurd q c1)) (hE)
          · exact absurd (by decide) c9
        · refine lv_aload_n hx hb dX0_review_30 rfl (lv_at hl 0 rfl) ?_
          refine gx_get hx hb hts hown hK hP 5 (by decide) q26 rfl rfl dX0_review_31 ?_
          refine lv_iload hx hb dX0_review_34 (lv_at hl 4 rfl) ?_
          refine kx_ild hx hb hK hP 4 0 rfl rfl (by omega) (by decide) dX0_review_36 ?_
          refine lv_iload_n hx hb dX0_review_37 rfl (lv_at hl 2 rfl) ?_
          refine lv_icmp_ne (tgt := 55) hx hb dX0_review_38 (by decide) (fun c2 => ?_) (fun c2 => ?_)
          · refine lv_iconst (v := nI 0) hx hb dX0_review_55 (by decide) ?_
            refine lv_istore (lv' := [(5, .int (nI 0)), (0, .ref h), (1, .int (nI (x / 3))), (2, .int (nI (x % 3))), (3, .int r), (4, .int (nI i))]) hx hb dX0_review_56 hl (by decide) rfl (fun ls hl => ?_)
            refine lv_iload hx hb dX0_review_58 (lv_at hl 0 rfl) ?_
            refine lv_if_eq (tgt := 84) hx hb dX0_review_60 (by decide) (fun c9 => ?_) (fun c9 => ?_)
            · refine lv_iinc (v := nI (i + 1)) (lv' := [(4, .int (nI (i + 1))), (5, .int (nI 0)), (0, .ref h), (1, .int (nI (x / 3))), (2, .int (nI (x % 3))), (3, .int r)]) hx hb dX0_review_84 hl (k := 5) rfl (kx_inc _) (by decide) rfl (fun ls hl => ?_)
              refine lv_goto (tgt := 10) hx hb dX0_review_87 (by decide) ?_
              exact ih (i + 1) w F Qu U H locs ls (by omega) (by omega) hP hD hS (lv_sub hl [2, 3, 4, 5, 0] rfl) (hI.skip (fun _ q => absurd q c2)) (hE)
            · exact absurd (by decide) c9
          · refine lv_aload_n hx hb dX0_review_41 rfl (lv_at hl 0 rfl) ?_
            refine gx_get hx hb hts hown hK hP 7 (by decide) q28 rfl rfl dX0_review_42 ?_
            refine lv_iload hx hb dX0_review_45 (lv_at hl 4 rfl) ?_
            refine kx_zld hx hb hK hP 6 1 rfl rfl (by omega) (by decide) dX0_review_47 ?_
            refine kx_ifne (tgt := 55) hx hb dX0_review_48 (by decide) (fun c3 => ?_) (fun c3 => ?_)
            · refine lv_iconst (v := nI 0) hx hb dX0_review_55 (by decide) ?_
              refine lv_istore (lv' := [(5, .int (nI 0)), (0, .ref h), (1, .int (nI (x / 3))), (2, .int (nI (x % 3))), (3, .int r), (4, .int (nI i))]) hx hb dX0_review_56 hl (by decide) rfl (fun ls hl => ?_)
              refine lv_iload hx hb dX0_review_58 (lv_at hl 0 rfl) ?_
              refine lv_if_eq (tgt := 84) hx hb dX0_review_60 (by decide) (fun c9 => ?_) (fun c9 => ?_)
              · refine lv_iinc (v := nI (i + 1)) (lv' := [(4, .int (nI (i + 1))), (5, .int (nI 0)), (0, .ref h), (1, .int (nI (x / 3))), (2, .int (nI (x % 3))), (3, .int r)]) hx hb dX0_review_84 hl (k := 5) rfl (kx_inc _) (by decide) rfl (fun ls hl => ?_)
                refine lv_goto (tgt := 10) hx hb dX0_review_87 (by decide) ?_
                exact ih (i + 1) w F Qu U H locs ls (by omega) (by omega) hP hD hS (lv_sub hl [2, 3, 4, 5, 0] rfl) (hI.skip (fun _ _ q => by rw [c3] at q; cases q)) (hE)
              · exact absurd (by decide) c9
            · refine lv_iconst (v := nI 1) hx hb dX0_review_51 (by decide) ?_
              refine lv_goto (tgt := 56) hx hb dX0_review_52 (by decide) ?_
              refine lv_istore (lv' := [(5, .int (nI 1)), (0, .ref h), (1, .int (nI (x / 3))), (2, .int (nI (x % 3))), (3, .int r), (4, .int (nI i))]) hx hb dX0_review_56 hl (by decide) rfl (fun ls hl => ?_)
              refine lv_iload hx hb dX0_review_58 (lv_at hl 0 rfl) ?_
              refine lv_if_eq (tgt := 84) hx hb dX0_review_60 (by decide) (fun c9 => ?_) (fun c9 => ?_)
              · exact absurd c9 (by decide)
              · refine lv_iload_n hx hb dX0_review_63 rfl (lv_at hl 4 rfl) ?_
                refine lv_if_lt (tgt := 78) hx hb dX0_review_64 (by decide) (fun c4 => ?_) (fun c4 => ?_)
                · refine lv_aload_n hx hb dX0_review_78 rfl (lv_at hl 1 rfl) ?_
                  refine lv_iload hx hb dX0_review_79 (lv_at hl 5 rfl) ?_
                  refine ca_v (cX_letFall l D cI cZ h a _ tm n w T G K P O F Qu U i hn c0 hI.1 (hW.2.2.2.1 i c0) (hW.2.2.2.2.1 i c0)) ⟨hx, hb, hml, hown, hts⟩ (cwV 1 hts (lw_V q83 q85 qs3 q11 q86) rfl rfl rfl (by decide +kernel) ⟨by decide, by decide⟩) hK hP hD hS hA (va_recv hK hP (ci := 0) (q0 := 0) rfl rfl) rfl hl.1 rfl (Nat.le_of_ble_eq_true rfl) dX0_review_81 ⟨Nat.zero_le _, Nat.zero_le _⟩ (fun v H locs hq hP hD hS => ?_)
                  obtain ⟨w', Qu', U', rfl, hL⟩ := hq
                  have hP : va_P D vwCl (gx_W cI cZ h a tm n (w') T G K P O (va_up F i true) (Qu') (U')) H := hP
                  have hD : va_D A (gx_W cI cZ h a tm n (w') T G K P O (va_up F i true) (Qu') (U')) := hD
                  refine lv_iinc (v := nI (i + 1)) (lv' := [(4, .int (nI (i + 1))), (5, .int (nI 1)), (0, .ref h), (1, .int (nI (x / 3))), (2, .int (nI (x % 3))), (3, .int r)]) hx hb dX0_review_84 hl (k := 5) rfl (kx_inc _) (by decide) rfl (fun ls hl => ?_)
                  refine lv_goto (tgt := 10) hx hb dX0_review_87 (by decide) ?_
                  exact ih (i + 1) (w') (va_up F i true) (Qu') (U') H locs ls (by omega) (by omega) hP hD hS (lv_sub hl [2, 3, 4, 5, 0] rfl) (gl_I.fall hW ht hI c0 hu hE c1 c2 c3 (Or.inl c4) hL) (hE.fall hW c0 c1)
                · refine lv_aload_n hx hb dX0_review_67 rfl (lv_at hl 1 rfl) ?_
                  refine gx_get hx hb hts hown hK hP 2 (by decide) q23 rfl rfl dX0_review_68 ?_
                  refine lv_iload hx hb dX0_review_71 (lv_at hl 5 rfl) ?_
                  refine kx_ild hx hb hK hP 1 0 rfl rfl (by omega) (by decide) dX0_review_73 ?_
                  refine lv_iload_n hx hb dX0_review_74 rfl (lv_at hl 4 rfl) ?_
                  refine lv_icmp_ge (tgt := 84) hx hb dX0_review_75 (by decide) (fun c5 => ?_) (fun c5 => ?_)
                  · refine lv_iinc (v := nI (i + 1)) (lv' := [(4, .int (nI (i + 1))), (5, .int (nI 1)), (0, .ref h), (1, .int (nI (x / 3))), (2, .int (nI (x % 3))), (3, .int r)]) hx hb dX0_review_84 hl (k := 5) rfl (kx_inc _) (by decide) rfl (fun ls hl => ?_)
                    refine lv_goto (tgt := 10) hx hb dX0_review_87 (by decide) ?_
                    exact ih (i + 1) w F Qu U H locs ls (by omega) (by omega) hP hD hS (lv_sub hl [2, 3, 4, 5, 0] rfl) (hI.skip (gl_I.found hW c0 hE c4 (Int32.not_lt.mpr c5))) (hE)
                  · refine lv_aload_n hx hb dX0_review_78 rfl (lv_at hl 1 rfl) ?_
                    refine lv_iload hx hb dX0_review_79 (lv_at hl 5 rfl) ?_
                    refine ca_v (cX_letFall l D cI cZ h a _ tm n w T G K P O F Qu U i hn c0 hI.1 (hW.2.2.2.1 i c0) (hW.2.2.2.2.1 i c0)) ⟨hx, hb, hml, hown, hts⟩ (cwV 1 hts (lw_V q83 q85 qs3 q11 q86) rfl rfl rfl (by decide +kernel) ⟨by decide, by decide⟩) hK hP hD hS hA (va_recv hK hP (ci := 0) (q0 := 0) rfl rfl) rfl hl.1 rfl (Nat.le_of_ble_eq_true rfl) dX0_review_81 ⟨Nat.zero_le _, Nat.zero_le _⟩ (fun v H locs hq hP hD hS => ?_)
                    obtain ⟨w', Qu', U', rfl, hL⟩ := hq
                    have hP : va_P D vwCl (gx_W cI cZ h a tm n (w') T G K P O (va_up F i true) (Qu') (U')) H := hP
                    have hD : va_D A (gx_W cI cZ h a tm n (w') T G K P O (va_up F i true) (Qu') (U')) := hD
                    refine lv_iinc (v := nI (i + 1)) (lv' := [(4, .int (nI (i + 1))), (5, .int (nI 1)), (0, .ref h), (1, .int (nI (x / 3))), (2, .int (nI (x % 3))), (3, .int r)]) hx hb dX0_review_84 hl (k := 5) rfl (kx_inc _) (by decide) rfl (fun ls hl => ?_)
                    refine lv_goto (tgt := 10) hx hb dX0_review_87 (by decide) ?_
                    exact ih (i + 1) (w') (va_up F i true) (Qu') (U') H locs ls (by omega) (by omega) hP hD hS (lv_sub hl [2, 3, 4, 5, 0] rfl) (gl_I.fall hW ht hI c0 hu hE c1 c2 c3 (Or.inr (Int32.not_le.mp c5)) hL) (hE.fall hW c0 c1)
  exact loop (n + 1) 0 w F Qu U H locs ls (by omega) (by omega) hP hD hS (lv_sub hl [2, 3, 4, 1, 0] rfl) hI hE
set_option maxHeartbeats 4000000 in
set_option maxRecDepth 100000 in
theorem cX_spread (l : Launch) (D : va_G) (cI cZ : ClassId) (h : Nat) (a : Nat → Nat) (sz tm n w : Nat) (T G K P : Nat → Int32) (O F : Nat → Bool) (Qu : Nat → Int32) (U : Nat → Bool) (f : Nat) (init : Nat → Bool) (hW : gl_WF tm n T G K P O) (ht : tm < 2 ^ 31) (hf : f ≤ 72) (hI : gl_I n G K P O init F w Qu U f (fun _ => False)) : ct_v l D (ty_ cI cZ) yX0_spread cX0_spread 3 (rm_ 2) (gx_w cI cZ h a) (tm, n, w, T, G, K, P, O, F, Qu, U) sz [.ref h] (fun v => ∃ (F' : Nat → Bool) (Qu' : Nat → Int32) (U' : Nat → Bool), v = (tm, n, 0, T, G, K, P, O, F', Qu', U') ∧ (∀ x, x < 24 → U' x = false) ∧ ∀ i, i < n → F' i = !(gl_ks G K P O init n i)) := by
  refine en_v (by decide) (Nat.le_of_ble_eq_true rfl) ?_
  intro pr e s m ar below meth c A Q C0 hK hret H locs ls hP hD hS hl
  obtain ⟨hx, hb, hml, hown, hts, hA⟩ := C0
  have hown : s.vm.findClass RX0 = some m.cls := hown
  have hP : va_P D vwCl (gx_W cI cZ h a tm n w T G K P O F Qu U) H := hP
  have hD : va_D A (gx_W cI cZ h a tm n w T G K P O F Qu U) := hD
  have hl : lv_has ls 3 [(0, .ref h)] := hl
  refine lv_iconst (v := nI 0) hx hb dX0_spread_0 (by decide) ?_
  refine lv_istore_n (lv' := [(1, .int (nI 0)), (0, .ref h)]) hx hb dX0_spread_1 rfl hl (by decide) rfl (fun ls hl => ?_)
  have loop : ∀ (N i : Nat) (w : Nat) (F : Nat → Bool) (Qu : Nat → Int32) (U : Nat → Bool) (f : Nat) (H : Heap) (locs : List Loc) (ls : Array Slot), i ≤ 100 → 100 < i + N → va_P D vwCl (gx_W cI cZ h a tm n w T G K P O F Qu U) H → va_D A (gx_W cI cZ h a tm n w T G K P O F Qu U) → va_S A s.heap H locs → lv_has ls 3 [(0, .ref h), (1, .int (nI i))] → i + f ≤ 72 → gl_I n G K P O init F w Qu U f (fun _ => False) → W pr l e (rm_ 2) s m ar below meth c H locs 0 0 Q (F0 m 2 ls []) := by
    intro N
    induction N with
    | zero =>
      intro i w F Qu U f H locs ls h1 h2
      exact absurd h2 (by omega)
    | succ N ih =>
      intro i w F Qu U f H locs ls hi hN hP hD hS hl hf hI
      refine lv_iload_n hx hb dX0_spread_2 rfl (lv_at hl 1 rfl) ?_
      refine lv_bipush (v := nI 100) hx hb dX0_spread_3 (by decide) ?_
      have hi72 : i ≤ 72 := by omega
      refine kx_ge (tgt := 58) hx hb dX0_spread_5 (by decide) (by omega) (by omega) (fun c0 => ?_) (fun c0 => ?_)
      · exact absurd c0 (by omega)
      · refine lv_aload_n hx hb dX0_spread_8 rfl (lv_at hl 0 rfl) ?_
        refine gx_get hx hb hts hown hK hP 8 (by decide) q29 rfl rfl dX0_spread_9 ?_
        refine lv_if_le (tgt := 58) hx hb dX0_spread_12 (by decide) (fun c1 => ?_) (fun c1 => ?_)
        · have hw0 : w = 0 := by
            rcases Nat.eq_zero_or_pos w with e | e
            · exact e
            · exact absurd c1 (nI_nle e (by have := hI.1.le; omega))
          subst hw0
          exact hret _ _ _ _ (tm, n, 0, T, G, K, P, O, F, Qu, U) dX0_spread_58 hP hD hS ⟨F, Qu, U, rfl, hI.1.off, gl_fin hI.2.1 hI.2.2.1 hI.1.off hI.2.2.2.1⟩
        · obtain ⟨w', rfl⟩ : ∃ w', w = w' + 1 := by
            rcases Nat.eq_zero_or_pos w with e | e
            · subst e; exact absurd (by decide) c1
            · exact ⟨w - 1, by omega⟩
          obtain ⟨x, hx3, hx24, hqx, hux⟩ := hI.1.2.1 w' (by omega)
          have hw24 : w' + 1 ≤ 24 := hI.1.le
          refine lv_aload_n hx hb dX0_spread_15 rfl (lv_at hl 0 rfl) ?_
          refine lv_dup hx hb dX0_spread_16 rfl ?_
          refine gx_get hx hb hts hown hK hP 8 (by decide) q29 rfl rfl dX0_spread_17 ?_
          refine lv_iconst (v := nI 1) hx hb dX0_spread_20 (by decide) ?_
          refine kx_isub (v := nI w') hx hb dX0_spread_21 (nI_pred _) ?_
          refine gx_put hx hb hts hown hK hP hD hS 8 (by decide) q29 rfl rfl (by decide +kernel) dX0_spread_22 (fun H locs hP hD hS => ?_)
          have hP : va_P D vwCl (gx_W cI cZ h a tm n (w') T G K P O F Qu U) H := hP
          have hD : va_D A (gx_W cI cZ h a tm n (w') T G K P O F Qu U) := hD
          refine lv_aload_n hx hb dX0_spread_25 rfl (lv_at hl 0 rfl) ?_
          refine gx_get hx hb hts hown hK hP 9 (by decide) q30 rfl rfl dX0_spread_26 ?_
          refine lv_aload_n hx hb dX0_spread_29 rfl (lv_at hl 0 rfl) ?_
          refine gx_get hx hb hts hown hK hP 8 (by decide) q29 rfl rfl dX0_spread_30 ?_
          refine kx_ild hx hb hK hP 7 0 rfl rfl (by omega) (by decide) dX0_spread_33 ?_
          refine kx_top hqx ?_
          refine lv_istore_n (lv' := [(2, .int (nI x)), (0, .ref h), (1, .int (nI i))]) hx hb dX0_spread_34 rfl hl (by decide) rfl (fun ls hl => ?_)
          refine lv_aload_n hx hb dX0_spread_35 rfl (lv_at hl 1 rfl) ?_
          refine gx_get hx hb hts hown hK hP 10 (by decide) q31 rfl rfl dX0_spread_36 ?_
          refine lv_iload_n hx hb dX0_spread_39 rfl (lv_at hl 0 rfl) ?_
          refine lv_iconst (v := nI 0) hx hb dX0_spread_40 (by decide) ?_
          refine kx_zst (v := false) hx hb hK hP hD hS 8 1 rfl rfl rfl (by omega) (by decide) dX0_spread_41 (fun H locs hP hD hS => ?_)
          have hP : va_P D vwCl (gx_W cI cZ h a tm n (w') T G K P O F Qu (va_up U x false)) H := hP
          have hD : va_D A (gx_W cI cZ h a tm n (w') T G K P O F Qu (va_up U x false)) := hD
          refine lv_aload_n hx hb dX0_spread_42 rfl (lv_at hl 1 rfl) ?_
          refine lv_iload_n hx hb dX0_spread_43 rfl (lv_at hl 0 rfl) ?_
          refine lv_iconst (v := nI 3) hx hb dX0_spread_44 (by decide) ?_
          refine kx_idiv (v := nI (x / 3)) hx hb dX0_spread_45 (by decide) (nI_div3 x hx24) ?_
          refine lv_iload_n hx hb dX0_spread_46 rfl (lv_at hl 0 rfl) ?_
          refine lv_iconst (v := nI 3) hx hb dX0_spread_47 (by decide) ?_
          refine kx_irem (v := nI (x % 3)) hx hb dX0_spread_48 (by decide) (nI_rem3 x hx24) ?_
          refine ca_v (cX_review l D cI cZ h a _ tm n (w') T G K P O F Qu (va_up U x false) x (f - 1) init hW ht hx3 hx24 (hI.pop hx24 hqx hux)) ⟨hx, hb, hml, hown, hts⟩ (cwV 2 hts (lw_V q91 q93 qs5 q11 q94) rfl rfl rfl (by decide +kernel) ⟨by decide, by decide⟩) hK hP hD hS hA (va_recv hK hP (ci := 0) (q0 := 0) rfl rfl) rfl hl.1 rfl (Nat.le_of_ble_eq_true rfl) dX0_spread_49 ⟨Nat.zero_le _, Nat.zero_le _⟩ (fun v H locs hq hP hD hS => ?_)
          obtain ⟨w2, F2, Qu2, U2, rfl, hI2⟩ := hq
          have hP : va_P D vwCl (gx_W cI cZ h a tm n w2 T G K P O F2 Qu2 U2) H := hP
          have hD : va_D A (gx_W cI cZ h a tm n w2 T G K P O F2 Qu2 U2) := hD
          refine lv_iinc (v := nI (i + 1)) (lv' := [(1, .int (nI (i + 1))), (2, .int (nI x)), (0, .ref h)]) hx hb dX0_spread_52 hl (k := 2) rfl (kx_inc _) (by decide) rfl (fun ls hl => ?_)
          refine lv_goto (tgt := 2) hx hb dX0_spread_55 (by decide) ?_
          have hf1 : 1 ≤ f := by have := hI.2.2.2.2; omega
          exact ih (i + 1) w2 F2 Qu2 U2 (f - 1) H locs ls (by omega) (by omega) hP hD hS (lv_sub hl [2, 0] rfl) (by omega) hI2
  exact loop 101 0 w F Qu U f H locs ls (by omega) (by omega) hP hD hS (lv_sub hl [1, 0] rfl) (by omega) hI
set_option maxHeartbeats 4000000 in
set_option maxRecDepth 100000 in
theorem cX_mark (l : Launch) (D : va_G) (cI cZ : ClassId) (h : Nat) (a : Nat → Nat) (sz tm n w : Nat) (T G K P : Nat → Int32) (O F : Nat → Bool) (Qu : Nat → Int32) (U : Nat → Bool) (f : Nat) (g k p : Int32) (hW : gl_WF tm n T G K P O) (hQ : gl_QS w Qu U) (hf : w + n = f) : ct_v l D (ty_ cI cZ) yX0_mark cX0_mark 5 (rm_ 1) (gx_w cI cZ h a) (tm, n, w, T, G, K, P, O, F, Qu, U) sz [.ref h, .int g, .int k, .int p] (fun v => ∃ (w' : Nat) (F' : Nat → Bool) (Qu' : Nat → Int32) (U' : Nat → Bool), v = (tm, n, w', T, G, K, P, O, F', Qu', U') ∧ gl_M n G K P O (gl_mk G K P g k p) F' w' Qu' U' f) := by
  refine en_v (by decide) (Nat.le_of_ble_eq_true rfl) ?_
  intro pr e s m ar below meth c A Q C0 hK hret H locs ls hP hD hS hl
  obtain ⟨hx, hb, hml, hown, hts, hA⟩ := C0
  have hown : s.vm.findClass RX0 = some m.cls := hown
  have hP : va_P D vwCl (gx_W cI cZ h a tm n w T G K P O F Qu U) H := hP
  have hD : va_D A (gx_W cI cZ h a tm n w T G K P O F Qu U) := hD
  have hl : lv_has ls 5 [(0, .ref h), (1, .int g), (2, .int k), (3, .int p)] := hl
  have hn : n ≤ 48 := hW.1
  refine lv_aload_n hx hb dX0_mark_0 rfl (lv_at hl 0 rfl) ?_
  refine ca_v (cX_clearMarks l D cI cZ h a _ tm n w T G K P O F Qu U hn) ⟨hx, hb, hml, hown, hts⟩ (cwV 0 hts (lw_V q79 q81 qs2 q11 q82) rfl rfl rfl (by decide +kernel) ⟨by decide, by decide⟩) hK hP hD hS hA (va_recv hK hP (ci := 0) (q0 := 0) rfl rfl) rfl hl.1 rfl (Nat.le_of_ble_eq_true rfl) dX0_mark_1 ⟨Nat.zero_le _, Nat.zero_le _⟩ (fun v H locs hq hP hD hS => ?_)
  obtain ⟨Fc, rfl, hF0⟩ := hq
  have hP : va_P D vwCl (gx_W cI cZ h a tm n w T G K P O Fc Qu U) H := hP
  have hD : va_D A (gx_W cI cZ h a tm n w T G K P O Fc Qu U) := hD
  refine lv_iconst (v := nI 0) hx hb dX0_mark_4 (by decide) ?_
  refine lv_istore (lv' := [(4, .int (nI 0)), (0, .ref h), (1, .int g), (2, .int k), (3, .int p)]) hx hb dX0_mark_5 hl (by decide) rfl (fun ls hl => ?_)
  have loop : ∀ (N i : Nat) (w : Nat) (F : Nat → Bool) (Qu : Nat → Int32) (U : Nat → Bool) (H : Heap) (locs : List Loc) (ls : Array Slot), i ≤ n → n < i + N → va_P D vwCl (gx_W cI cZ h a tm n w T G K P O F Qu U) H → va_D A (gx_W cI cZ h a tm n w T G K P O F Qu U) → va_S A s.heap H locs → lv_has ls 5 [(0, .ref h), (1, .int g), (2, .int k), (3, .int p), (4, .int (nI i))] → gl_J n i G K P O (gl_mk G K P g k p) F w Qu U f → W pr l e (rm_ 1) s m ar below meth c H locs 0 0 Q (F0 m 7 ls []) := by
    intro N
    induction N with
    | zero =>
      intro i w F Qu U H locs ls h1 h2
      exact absurd h2 (by omega)
    | succ N ih =>
      intro i w F Qu U H locs ls hi hN hP hD hS hl hJ
      refine lv_iload hx hb dX0_mark_7 (lv_at hl 4 rfl) ?_
      refine lv_aload_n hx hb dX0_mark_9 rfl (lv_at hl 0 rfl) ?_
      refine gx_get hx hb hts hown hK hP 1 (by decide) q22 rfl rfl dX0_mark_10 ?_
      refine kx_ge (tgt := 61) hx hb dX0_mark_13 (by decide) (by omega) (by omega) (fun c0 => ?_) (fun c0 => ?_)
      · exact hret _ _ _ _ (tm, n, w, T, G, K, P, O, F, Qu, U) dX0_mark_61 hP hD hS ⟨w, F, Qu, U, rfl, hJ.M c0⟩
      · refine lv_aload_n hx hb dX0_mark_16 rfl (lv_at hl 0 rfl) ?_
        refine gx_get hx hb hts hown hK hP 3 (by decide) q24 rfl rfl dX0_mark_17 ?_
        refine lv_iload hx hb dX0_mark_20 (lv_at hl 4 rfl) ?_
        refine kx_ild hx hb hK hP 2 0 rfl rfl (by omega) (by decide) dX0_mark_22 ?_
        refine lv_iload_n hx hb dX0_mark_23 rfl (lv_at hl 1 rfl) ?_
        refine lv_icmp_ne (tgt := 55) hx hb dX0_mark_24 (by decide) (fun c1 => ?_) (fun c1 => ?_)
        · refine lv_iinc (v := nI (i + 1)) (lv' := [(4, .int (nI (i + 1))), (0, .ref h), (1, .int g), (2, .int k), (3, .int p)]) hx hb dX0_mark_55 hl (k := 4) rfl (kx_inc _) (by decide) rfl (fun ls hl => ?_)
          refine lv_goto (tgt := 7) hx hb dX0_mark_58 (by decide) ?_
          exact ih (i + 1) w F Qu U H locs ls (by omega) (by omega) hP hD hS (lv_sub hl [1, 2, 3, 4, 0] rfl) (hJ.skip (by simp [gl_mk, c1]))
        · refine lv_aload_n hx hb dX0_mark_27 rfl (lv_at hl 0 rfl) ?_
          refine gx_get hx hb hts hown hK hP 4 (by decide) q25 rfl rfl dX0_mark_28 ?_
          refine lv_iload hx hb dX0_mark_31 (lv_at hl 4 rfl) ?_
          refine kx_ild hx hb hK hP 3 0 rfl rfl (by omega) (by decide) dX0_mark_33 ?_
          refine lv_iload_n hx hb dX0_mark_34 rfl (lv_at hl 2 rfl) ?_
          refine lv_icmp_ne (tgt := 55) hx hb dX0_mark_35 (by decide) (fun c2 => ?_) (fun c2 => ?_)
          · refine lv_iinc (v := nI (i + 1)) (lv' := [(4, .int (nI (i + 1))), (0, .ref h), (1, .int g), (2, .int k), (3, .int p)]) hx hb dX0_mark_55 hl (k := 4) rfl (kx_inc _) (by decide) rfl (fun ls hl => ?_)
            refine lv_goto (tgt := 7) hx hb dX0_mark_58 (by decide) ?_
            exact ih (i + 1) w F Qu U H locs ls (by omega) (by omega) hP hD hS (lv_sub hl [1, 2, 3, 4, 0] rfl) (hJ.skip (by simp [gl_mk, c2]))
          · refine lv_aload_n hx hb dX0_mark_38 rfl (lv_at hl 0 rfl) ?_
            refine gx_get hx hb hts hown hK hP 5 (by decide) q26 rfl rfl dX0_mark_39 ?_
            refine lv_iload hx hb dX0_mark_42 (lv_at hl 4 rfl) ?_
            refine kx_ild hx hb hK hP 4 0 rfl rfl (by omega) (by decide) dX0_mark_44 ?_
            refine lv_iload_n hx hb dX0_mark_45 rfl (lv_at hl 3 rfl) ?_
            refine lv_icmp_ne (tgt := 55) hx hb dX0_mark_46 (by decide) (fun c3 => ?_) (fun c3 => ?_)
            · refine lv_iinc (v := nI (i + 1)) (lv' := [(4, .int (nI (i + 1))), (0, .ref h), (1, .int g), (2, .int k), (3, .int p)]) hx hb dX0_mark_55 hl (k := 4) rfl (kx_inc _) (by decide) rfl (fun ls hl => ?_)
              refine lv_goto (tgt := 7) hx hb dX0_mark_58 (by decide) ?_
              exact ih (i + 1) w F Qu U H locs ls (by omega) (by omega) hP hD hS (lv_sub hl [1, 2, 3, 4, 0] rfl) (hJ.skip (by simp [gl_mk, c3]))
            · refine lv_aload_n hx hb dX0_mark_49 rfl (lv_at hl 0 rfl) ?_
              refine lv_iload hx hb dX0_mark_50 (lv_at hl 4 rfl) ?_
              refine ca_v (cX_letFall l D cI cZ h a _ tm n w T G K P O F Qu U i hn c0 hJ.1 (hW.2.2.2.1 i c0) (hW.2.2.2.2.1 i c0)) ⟨hx, hb, hml, hown, hts⟩ (cwV 1 hts (lw_V q83 q85 qs3 q11 q86) rfl rfl rfl (by decide +kernel) ⟨by decide, by decide⟩) hK hP hD hS hA (va_recv hK hP (ci := 0) (q0 := 0) rfl rfl) rfl hl.1 rfl (Nat.le_of_ble_eq_true rfl) dX0_mark_52 ⟨Nat.zero_le _, Nat.zero_le _⟩ (fun v H locs hq hP hD hS => ?_)
              obtain ⟨w', Qu', U', rfl, hL⟩ := hq
              have hP : va_P D vwCl (gx_W cI cZ h a tm n (w') T G K P O (va_up F i true) (Qu') (U')) H := hP
              have hD : va_D A (gx_W cI cZ h a tm n (w') T G K P O (va_up F i true) (Qu') (U')) := hD
              refine lv_iinc (v := nI (i + 1)) (lv' := [(4, .int (nI (i + 1))), (0, .ref h), (1, .int g), (2, .int k), (3, .int p)]) hx hb dX0_mark_55 hl (k := 4) rfl (kx_inc _) (by decide) rfl (fun ls hl => ?_)
              refine lv_goto (tgt := 7) hx hb dX0_mark_58 (by decide) ?_
              exact ih (i + 1) (w') (va_up F i true) (Qu') (U') H locs ls (by omega) (by omega) hP hD hS (lv_sub hl [1, 2, 3, 4, 0] rfl) (hJ.fall c0 (gl_mk_iff.mpr ⟨c1, c2, c3⟩) hL)
  exact loop (n + 1) 0 w Fc Qu U H locs ls (by omega) (by omega) hP hD hS (lv_sub hl [1, 2, 3, 4, 0] rfl) (hf ▸ gl_J.start hW hQ hF0)
set_option maxHeartbeats 4000000 in
set_option maxRecDepth 100000 in
theorem cX_sweep (l : Launch) (D : va_G) (cI cZ : ClassId) (h : Nat) (a : Nat → Nat) (sz tm n w : Nat) (T G K P : Nat → Int32) (O F : Nat → Bool) (Qu : Nat → Int32) (U : Nat → Bool) (q : Nat → Bool) (hn : n ≤ 48) (hq : ∀ j, j < n → q j = !F j) : ct_i l D (ty_ cI cZ) yX0_sweep cX0_sweep 3 .int (rm_ 1) (gx_w cI cZ h a) (tm, n, w, T, G, K, P, O, F, Qu, U) sz [.ref h] (fun r v => r = nI (n - gl_cnt q n) ∧ ∃ F' : Nat → Bool, v = (tm, gl_cnt q n, w, gl_ca q T n, gl_ca q G n, gl_ca q K n, gl_ca q P n, gl_ca q O n, F', Qu, U) ∧ ∀ j, j < gl_cnt q n → F' j = false) := by
  refine en_i (by decide) (Nat.le_of_ble_eq_true rfl) ?_
  intro pr e s m ar below meth c A Q C0 hK hret H locs ls hP hD hS hl
  obtain ⟨hx, hb, hml, hown, hts, hA⟩ := C0
  have hown : s.vm.findClass RX0 = some m.cls := hown
  have hP : va_P D vwCl (gx_W cI cZ h a tm n w T G K P O F Qu U) H := hP
  have hD : va_D A (gx_W cI cZ h a tm n w T G K P O F Qu U) := hD
  have hl : lv_has ls 3 [(0, .ref h)] := hl
  refine lv_iconst (v := nI 0) hx hb dX0_sweep_0 (by decide) ?_
  refine lv_istore_n (lv' := [(1, .int (nI 0)), (0, .ref h)]) hx hb dX0_sweep_1 rfl hl (by decide) rfl (fun ls hl => ?_)
  refine lv_iconst (v := nI 0) hx hb dX0_sweep_2 (by decide) ?_
  refine lv_istore_n (lv' := [(2, .int (nI 0)), (1, .int (nI 0)), (0, .ref h)]) hx hb dX0_sweep_3 rfl hl (by decide) rfl (fun ls hl => ?_)
  have loop : ∀ (N i : Nat) (F1 : Nat → Bool) (H : Heap) (locs : List Loc) (ls : Array Slot), i ≤ n → n < i + N → va_P D vwCl (gx_W cI cZ h a tm n w (gl_ca q T i) (gl_ca q G i) (gl_ca q K i) (gl_ca q P i) (gl_ca q O i) F1 Qu U) H → va_D A (gx_W cI cZ h a tm n w (gl_ca q T i) (gl_ca q G i) (gl_ca q K i) (gl_ca q P i) (gl_ca q O i) F1 Qu U) → va_S A s.heap H locs → lv_has ls 3 [(0, .ref h), (1, .int (nI (gl_cnt q i))), (2, .int (nI i))] → (∀ j, j < gl_cnt q i → F1 j = false) → (∀ j, i ≤ j → F1 j = F j) → W pr l e (rm_ 1) s m ar below meth c H locs 0 0 Q (F0 m 4 ls []) := by
    intro N
    induction N with
    | zero =>
      intro i F1 H locs ls h1 h2
      exact absurd h2 (by omega)
    | succ N ih =>
      intro i F1 H locs ls hi hN hP hD hS hl hF1 hF2
      refine lv_iload_n hx hb dX0_sweep_4 rfl (lv_at hl 2 rfl) ?_
      refine lv_aload_n hx hb dX0_sweep_5 rfl (lv_at hl 0 rfl) ?_
      refine gx_get hx hb hts hown hK hP 1 (by decide) q22 rfl rfl dX0_sweep_6 ?_
      have hci := gl_cnt_le q i
      refine kx_ge (tgt := 97) hx hb dX0_sweep_9 (by decide) (by omega) (by omega) (fun c0 => ?_) (fun c0 => ?_)
      · obtain rfl : n = i := by omega
        refine lv_aload_n hx hb dX0_sweep_97 rfl (lv_at hl 0 rfl) ?_
        refine gx_get hx hb hts hown hK hP 1 (by decide) q22 rfl rfl dX0_sweep_98 ?_
        refine lv_iload_n hx hb dX0_sweep_101 rfl (lv_at hl 1 rfl) ?_
        refine kx_isub (v := nI (n - gl_cnt q n)) hx hb dX0_sweep_102 (pk_sub (gl_cnt_le q _)) ?_
        refine lv_istore_n (lv' := [(2, .int (nI (n - gl_cnt q n))), (0, .ref h), (1, .int (nI (gl_cnt q n)))]) hx hb dX0_sweep_103 rfl hl (by decide) rfl (fun ls hl => ?_)
        refine lv_aload_n hx hb dX0_sweep_104 rfl (lv_at hl 1 rfl) ?_
        refine lv_iload_n hx hb dX0_sweep_105 rfl (lv_at hl 2 rfl) ?_
        refine gx_put hx hb hts hown hK hP hD hS 1 (by decide) q22 rfl rfl (by decide +kernel) dX0_sweep_106 (fun H locs hP hD hS => ?_)
        have hP : va_P D vwCl (gx_W cI cZ h a tm (gl_cnt q n) w (gl_ca q T n) (gl_ca q G n) (gl_ca q K n) (gl_ca q P n) (gl_ca q O n) F1 Qu U) H := hP
        have hD : va_D A (gx_W cI cZ h a tm (gl_cnt q n) w (gl_ca q T n) (gl_ca q G n) (gl_ca q K n) (gl_ca q P n) (gl_ca q O n) F1 Qu U) := hD
        refine lv_aload_n hx hb dX0_sweep_109 rfl (lv_at hl 1 rfl) ?_
        refine ca_v (cX_clearMarks l D cI cZ h a _ tm (gl_cnt q n) w (gl_ca q T n) (gl_ca q G n) (gl_ca q K n) (gl_ca q P n) (gl_ca q O n) F1 Qu U (by omega)) ⟨hx, hb, hml, hown, hts⟩ (cwV 0 hts (lw_V q79 q81 qs2 q11 q82) rfl rfl rfl (by decide +kernel) ⟨by decide, by decide⟩) hK hP hD hS hA (va_recv hK hP (ci := 0) (q0 := 0) rfl rfl) rfl hl.1 rfl (Nat.le_of_ble_eq_true rfl) dX0_sweep_110 ⟨Nat.zero_le _, Nat.zero_le _⟩ (fun v H locs hq hP hD hS => ?_)
        obtain ⟨F2, rfl, hF0⟩ := hq
        have hP : va_P D vwCl (gx_W cI cZ h a tm (gl_cnt q n) w (gl_ca q T n) (gl_ca q G n) (gl_ca q K n) (gl_ca q P n) (gl_ca q O n) F2 Qu U) H := hP
        have hD : va_D A (gx_W cI cZ h a tm (gl_cnt q n) w (gl_ca q T n) (gl_ca q G n) (gl_ca q K n) (gl_ca q P n) (gl_ca q O n) F2 Qu U) := hD
        refine lv_iload_n hx hb dX0_sweep_113 rfl (lv_at hl 0 rfl) ?_
        exact hret _ _ _ _ _ (tm, gl_cnt q n, w, gl_ca q T n, gl_ca q G n, gl_ca q K n, gl_ca q P n, gl_ca q O n, F2, Qu, U) dX0_sweep_114 rfl hP hD hS ⟨rfl, F2, rfl, hF0⟩
      · refine lv_aload_n hx hb dX0_sweep_12 rfl (lv_at hl 0 rfl) ?_
        refine gx_get hx hb hts hown hK hP 7 (by decide) q28 rfl rfl dX0_sweep_13 ?_
        refine lv_iload_n hx hb dX0_sweep_16 rfl (lv_at hl 2 rfl) ?_
        refine kx_zld hx hb hK hP 6 1 rfl rfl (by omega) (by decide) dX0_sweep_17 ?_
        refine kx_ifne (tgt := 91) hx hb dX0_sweep_18 (by decide) (fun c1 => ?_) (fun c1 => ?_)
        · have hqi : q i = false := by rw [hq i c0, ← hF2 i (Nat.le_refl _), c1]; rfl
          refine lv_iinc (v := nI (i + 1)) (lv' := [(2, .int (nI (i + 1))), (0, .ref h), (1, .int (nI (gl_cnt q i)))]) hx hb dX0_sweep_91 hl (k := 2) rfl (kx_inc _) (by decide) rfl (fun ls hl => ?_)
          refine lv_goto (tgt := 4) hx hb dX0_sweep_94 (by decide) ?_
          exact ih (i + 1) F1 H locs ls (by omega) (by omega) (by simp only [gl_ca_f hqi]; exact hP) (by simp only [gl_ca_f hqi]; exact hD) hS (by rw [gl_cnt_f hqi]; exact lv_sub hl [1, 2, 0] rfl) (by rw [gl_cnt_f hqi]; exact hF1) (fun j hj => hF2 j (by omega))
        · have hqi : q i = true := by rw [hq i c0, ← hF2 i (Nat.le_refl _), c1]; rfl
          refine lv_aload_n hx hb dX0_sweep_21 rfl (lv_at hl 0 rfl) ?_
          refine gx_get hx hb hts hown hK hP 2 (by decide) q23 rfl rfl dX0_sweep_22 ?_
          refine lv_iload_n hx hb dX0_sweep_25 rfl (lv_at hl 1 rfl) ?_
          refine lv_aload_n hx hb dX0_sweep_26 rfl (lv_at hl 0 rfl) ?_
          refine gx_get hx hb hts hown hK hP 2 (by decide) q23 rfl rfl dX0_sweep_27 ?_
          refine lv_iload_n hx hb dX0_sweep_30 rfl (lv_at hl 2 rfl) ?_
          refine kx_ild hx hb hK hP 1 0 rfl rfl (by omega) (by decide) dX0_sweep_31 ?_
          refine kx_ist hx hb hK hP hD hS 1 0 rfl rfl (by omega) (by decide) dX0_sweep_32 (fun H locs hP hD hS => ?_)
          have hP : va_P D vwCl (gx_W cI cZ h a tm n w (va_up (gl_ca q T i) (gl_cnt q i) ((gl_ca q T i) i)) (gl_ca q G i) (gl_ca q K i) (gl_ca q P i) (gl_ca q O i) F1 Qu U) H := hP
          have hD : va_D A (gx_W cI cZ h a tm n w (va_up (gl_ca q T i) (gl_cnt q i) ((gl_ca q T i) i)) (gl_ca q G i) (gl_ca q K i) (gl_ca q P i) (gl_ca q O i) F1 Qu U) := hD
          refine lv_aload_n hx hb dX0_sweep_33 rfl (lv_at hl 0 rfl) ?_
          refine gx_get hx hb hts hown hK hP 3 (by decide) q24 rfl rfl dX0_sweep_34 ?_
          refine lv_iload_n hx hb dX0_sweep_37 rfl (lv_at hl 1 rfl) ?_
          refine lv_aload_n hx hb dX0_sweep_38 rfl (lv_at hl 0 rfl) ?_
          refine gx_get hx hb hts hown hK hP 3 (by decide) q24 rfl rfl dX0_sweep_39 ?_
          refine lv_iload_n hx hb dX0_sweep_42 rfl (lv_at hl 2 rfl) ?_
          refine kx_ild hx hb hK hP 2 0 rfl rfl (by omega) (by decide) dX0_sweep_43 ?_
          refine kx_ist hx hb hK hP hD hS 2 0 rfl rfl (by omega) (by decide) dX0_sweep_44 (fun H locs hP hD hS => ?_)
          have hP : va_P D vwCl (gx_W cI cZ h a tm n w (va_up (gl_ca q T i) (gl_cnt q i) ((gl_ca q T i) i)) (va_up (gl_ca q G i) (gl_cnt q i) ((gl_ca q G i) i)) (gl_ca q K i) (gl_ca q P i) (gl_ca q O i) F1 Qu U) H := hP
          have hD : va_D A (gx_W cI cZ h a tm n w (va_up (gl_ca q T i) (gl_cnt q i) ((gl_ca q T i) i)) (va_up (gl_ca q G i) (gl_cnt q i) ((gl_ca q G i) i)) (gl_ca q K i) (gl_ca q P i) (gl_ca q O i) F1 Qu U) := hD
          refine lv_aload_n hx hb dX0_sweep_45 rfl (lv_at hl 0 rfl) ?_
          refine gx_get hx hb hts hown hK hP 4 (by decide) q25 rfl rfl dX0_sweep_46 ?_
          refine lv_iload_n hx hb dX0_sweep_49 rfl (lv_at hl 1 rfl) ?_
          refine lv_aload_n hx hb dX0_sweep_50 rfl (lv_at hl 0 rfl) ?_
          refine gx_get hx hb hts hown hK hP 4 (by decide) q25 rfl rfl dX0_sweep_51 ?_
          refine lv_iload_n hx hb dX0_sweep_54 rfl (lv_at hl 2 rfl) ?_
          refine kx_ild hx hb hK hP 3 0 rfl rfl (by omega) (by decide) dX0_sweep_55 ?_
          refine kx_ist hx hb hK hP hD hS 3 0 rfl rfl (by omega) (by decide) dX0_sweep_56 (fun H locs hP hD hS => ?_)
          have hP : va_P D vwCl (gx_W cI cZ h a tm n w (va_up (gl_ca q T i) (gl_cnt q i) ((gl_ca q T i) i)) (va_up (gl_ca q G i) (gl_cnt q i) ((gl_ca q G i) i)) (va_up (gl_ca q K i) (gl_cnt q i) ((gl_ca q K i) i)) (gl_ca q P i) (gl_ca q O i) F1 Qu U) H := hP
          have hD : va_D A (gx_W cI cZ h a tm n w (va_up (gl_ca q T i) (gl_cnt q i) ((gl_ca q T i) i)) (va_up (gl_ca q G i) (gl_cnt q i) ((gl_ca q G i) i)) (va_up (gl_ca q K i) (gl_cnt q i) ((gl_ca q K i) i)) (gl_ca q P i) (gl_ca q O i) F1 Qu U) := hD
          refine lv_aload_n hx hb dX0_sweep_57 rfl (lv_at hl 0 rfl) ?_
          refine gx_get hx hb hts hown hK hP 5 (by decide) q26 rfl rfl dX0_sweep_58 ?_
          refine lv_iload_n hx hb dX0_sweep_61 rfl (lv_at hl 1 rfl) ?_
          refine lv_aload_n hx hb dX0_sweep_62 rfl (lv_at hl 0 rfl) ?_
          refine gx_get hx hb hts hown hK hP 5 (by decide) q26 rfl rfl dX0_sweep_63 ?_
          refine lv_iload_n hx hb dX0_sweep_66 rfl (lv_at hl 2 rfl) ?_
          refine kx_ild hx hb hK hP 4 0 rfl rfl (by omega) (by decide) dX0_sweep_67 ?_
          refine kx_ist hx hb hK hP hD hS 4 0 rfl rfl (by omega) (by decide) dX0_sweep_68 (fun H locs hP hD hS => ?_)
          have hP : va_P D vwCl (gx_W cI cZ h a tm n w (va_up (gl_ca q T i) (gl_cnt q i) ((gl_ca q T i) i)) (va_up (gl_ca q G i) (gl_cnt q i) ((gl_ca q G i) i)) (va_up (gl_ca q K i) (gl_cnt q i) ((gl_ca q K i) i)) (va_up (gl_ca q P i) (gl_cnt q i) ((gl_ca q P i) i)) (gl_ca q O i) F1 Qu U) H := hP
          have hD : va_D A (gx_W cI cZ h a tm n w (va_up (gl_ca q T i) (gl_cnt q i) ((gl_ca q T i) i)) (va_up (gl_ca q G i) (gl_cnt q i) ((gl_ca q G i) i)) (va_up (gl_ca q K i) (gl_cnt q i) ((gl_ca q K i) i)) (va_up (gl_ca q P i) (gl_cnt q i) ((gl_ca q P i) i)) (gl_ca q O i) F1 Qu U) := hD
          refine lv_aload_n hx hb dX0_sweep_69 rfl (lv_at hl 0 rfl) ?_
          refine gx_get hx hb hts hown hK hP 6 (by decide) q27 rfl rfl dX0_sweep_70 ?_
          refine lv_iload_n hx hb dX0_sweep_73 rfl (lv_at hl 1 rfl) ?_
          refine lv_aload_n hx hb dX0_sweep_74 rfl (lv_at hl 0 rfl) ?_
          refine gx_get hx hb hts hown hK hP 6 (by decide) q27 rfl rfl dX0_sweep_75 ?_
          refine lv_iload_n hx hb dX0_sweep_78 rfl (lv_at hl 2 rfl) ?_
          refine kx_zld hx hb hK hP 5 1 rfl rfl (by omega) (by decide) dX0_sweep_79 ?_
          refine kx_zst (v := ((gl_ca q O i) i)) hx hb hK hP hD hS 5 1 rfl rfl rfl (by omega) (by decide) dX0_sweep_80 (fun H locs hP hD hS => ?_)
          have hP : va_P D vwCl (gx_W cI cZ h a tm n w (va_up (gl_ca q T i) (gl_cnt q i) ((gl_ca q T i) i)) (va_up (gl_ca q G i) (gl_cnt q i) ((gl_ca q G i) i)) (va_up (gl_ca q K i) (gl_cnt q i) ((gl_ca q K i) i)) (va_up (gl_ca q P i) (gl_cnt q i) ((gl_ca q P i) i)) (va_up (gl_ca q O i) (gl_cnt q i) (((gl_ca q O i) i))) F1 Qu U) H := hP
          have hD : va_D A (gx_W cI cZ h a tm n w (va_up (gl_ca q T i) (gl_cnt q i) ((gl_ca q T i) i)) (va_up (gl_ca q G i) (gl_cnt q i) ((gl_ca q G i) i)) (va_up (gl_ca q K i) (gl_cnt q i) ((gl_ca q K i) i)) (va_up (gl_ca q P i) (gl_cnt q i) ((gl_ca q P i) i)) (va_up (gl_ca q O i) (gl_cnt q i) (((gl_ca q O i) i))) F1 Qu U) := hD
          refine lv_aload_n hx hb dX0_sweep_81 rfl (lv_at hl 0 rfl) ?_
          refine gx_get hx hb hts hown hK hP 7 (by decide) q28 rfl rfl dX0_sweep_82 ?_
          refine lv_iload_n hx hb dX0_sweep_85 rfl (lv_at hl 1 rfl) ?_
          refine lv_iconst (v := nI 0) hx hb dX0_sweep_86 (by decide) ?_
          refine kx_zst (v := false) hx hb hK hP hD hS 6 1 rfl rfl rfl (by omega) (by decide) dX0_sweep_87 (fun H locs hP hD hS => ?_)
          have hP : va_P D vwCl (gx_W cI cZ h a tm n w (va_up (gl_ca q T i) (gl_cnt q i) ((gl_ca q T i) i)) (va_up (gl_ca q G i) (gl_cnt q i) ((gl_ca q G i) i)) (va_up (gl_ca q K i) (gl_cnt q i) ((gl_ca q K i) i)) (va_up (gl_ca q P i) (gl_cnt q i) ((gl_ca q P i) i)) (va_up (gl_ca q O i) (gl_cnt q i) (((gl_ca q O i) i))) (va_up F1 (gl_cnt q i) false) Qu U) H := hP
          have hD : va_D A (gx_W cI cZ h a tm n w (va_up (gl_ca q T i) (gl_cnt q i) ((gl_ca q T i) i)) (va_up (gl_ca q G i) (gl_cnt q i) ((gl_ca q G i) i)) (va_up (gl_ca q K i) (gl_cnt q i) ((gl_ca q K i) i)) (va_up (gl_ca q P i) (gl_cnt q i) ((gl_ca q P i) i)) (va_up (gl_ca q O i) (gl_cnt q i) (((gl_ca q O i) i))) (va_up F1 (gl_cnt q i) false) Qu U) := hD
          refine lv_iinc (v := nI (gl_cnt q i + 1)) (lv' := [(1, .int (nI (gl_cnt q i + 1))), (0, .ref h), (2, .int (nI i))]) hx hb dX0_sweep_88 hl (k := 1) rfl (kx_inc _) (by decide) rfl (fun ls hl => ?_)
          refine lv_iinc (v := nI (i + 1)) (lv' := [(2, .int (nI (i + 1))), (1, .int (nI (gl_cnt q i + 1))), (0, .ref h)]) hx hb dX0_sweep_91 hl (k := 2) rfl (kx_inc _) (by decide) rfl (fun ls hl => ?_)
          refine lv_goto (tgt := 4) hx hb dX0_sweep_94 (by decide) ?_
          exact ih (i + 1) (va_up F1 (gl_cnt q i) false) H locs ls (by omega) (by omega) (by simp only [gl_ca_t hqi]; exact hP) (by simp only [gl_ca_t hqi]; exact hD) hS (by rw [gl_cnt_t hqi]; exact lv_sub hl [2, 1, 0] rfl) (by
            rw [gl_cnt_t hqi]
            intro j hj
            by_cases e : j = gl_cnt q i
            · rw [e, up_s]
            · rw [up_n _ _ e]; exact hF1 j (by omega)) (fun j hj => by rw [up_n _ _ (by omega)]; exact hF2 j (by omega))
  exact loop (n + 1) 0 F H locs ls (by omega) (by omega) hP hD hS (lv_sub hl [2, 1, 0] rfl) (fun j hj => absurd hj (Nat.not_lt_zero _)) (fun _ _ => rfl)
end
section
/-! the plain law behind the public methods -/
set_option maxRecDepth 100000
theorem gl_st_0 {n : Nat} {T : Nat → Int32} {t : Int32} (h : ∀ j, j < n → ¬ T j = t) : gl_st n T t = 0 := by
  unfold gl_st
  rw [gl_any_f (fun j hj => decide_eq_false (h j hj))]
  rfl
theorem gl_st_1 {n : Nat} {T : Nat → Int32} {t : Int32} {j : Nat} (hj : j < n) (h : T j = t) : gl_st n T t = 1 := by
  unfold gl_st
  rw [gl_any_t hj (decide_eq_true h)]
  rfl
theorem gl_st_a {n lo : Nat} {T : Nat → Int32} {t : Int32} (h1 : ∀ j, j < lo → T j < t) (h : n ≤ lo) : gl_st n T t = 0 :=
  gl_st_0 fun j hj e => absurd (h1 j (by omega)) (by rw [e]; exact Int32.lt_irrefl)
theorem gl_st_b {tm n lo : Nat} {T G K P : Nat → Int32} {O : Nat → Bool} {t : Int32} (hW : gl_WF tm n T G K P O) (h1 : ∀ j, j < lo → T j < t) (h2 : ∀ j, lo ≤ j → j < n → t ≤ T j) (hl : lo < n) (h : ¬ T lo = t) : gl_st n T t = 0 := by
  refine gl_st_0 fun j hj e => ?_
  rcases Nat.lt_or_ge j lo with a | a
  · exact absurd (h1 j a) (by rw [e]; exact Int32.lt_irrefl)
  · rcases Nat.lt_or_ge lo j with b | b
    · have h3 := hW.2.2.1 lo j b hj
      rw [e] at h3
      exact absurd (h2 lo (Nat.le_refl _) hl) (Int32.not_le.mpr h3)
    · rw [show j = lo by omega] at e
      exact h e
theorem gl_half {i lo hi : Nat} (hi7 : i < 7) (h : hi - lo < 2 ^ (7 - i)) (hlh : lo < hi) : (lo + hi) / 2 - lo < 2 ^ (7 - (i + 1)) ∧ hi - ((lo + hi) / 2 + 1) < 2 ^ (7 - (i + 1)) := by
  have e : 2 ^ (7 - i) = 2 * 2 ^ (7 - (i + 1)) := by
    rw [show 7 - i = (7 - (i + 1)) + 1 by omega, Nat.pow_succ, Nat.mul_comm]
  rw [e] at h
  generalize 2 ^ (7 - (i + 1)) = d at h ⊢
  omega
theorem gl_half0 {i lo hi : Nat} (h7 : 7 ≤ i) (h : hi - lo < 2 ^ (7 - i)) : hi ≤ lo := by
  rw [show 7 - i = 0 by omega] at h
  omega
theorem gl_at2_1 {K P : Nat → Int32} {u p : Int32} {j : Nat} (h : ¬ K j = u) : gl_at2 K P u p j = false := by simp [gl_at2, h]
theorem gl_at2_2 {K P : Nat → Int32} {u p : Int32} {j : Nat} (h : ¬ P j = p) : gl_at2 K P u p j = false := by simp [gl_at2, h]
theorem nI_cf {q : Nat → Bool} {i : Nat} (h : q i = false) : nI (gl_cnt q i) + nI 0 = nI (gl_cnt q (i + 1)) := by
  rw [gl_cnt_f h, nI_add, Nat.add_zero]
theorem nI_ct {q : Nat → Bool} {i : Nat} (h : q i = true) : nI (gl_cnt q i) + nI 1 = nI (gl_cnt q (i + 1)) := by
  rw [gl_cnt_t h, nI_add]
def gl_ok3 (g k p : Int32) : Bool := gl_usr g && gl_usr k && gl_prv p
def gl_xu (u : Int32) : Bool := decide (1 ≤ u) && decide (u ≤ 7)
theorem rc_no {n : Nat} {K P : Nat → Int32} {u p : Int32} (h : gl_usr u = false ∨ gl_prv p = false) : gl_rc n K P u p = -1 := by
  unfold gl_rc
  rcases h with h | h <;> simp [h]
theorem rc_ok {n : Nat} {K P : Nat → Int32} {u p : Int32} (h : gl_usr u = true) (h2 : gl_prv p = true) : gl_rc n K P u p = nI (gl_cnt (gl_at2 K P u p) n) := by simp [gl_rc, h, h2]
theorem hd_no {n : Nat} {K P : Nat → Int32} {u p : Int32} (h : gl_usr u = false ∨ gl_prv p = false) : gl_hd n K P u p = -1 := by
  unfold gl_hd
  rcases h with h | h <;> simp [h]
theorem hd_own {n : Nat} {K P : Nat → Int32} {u p : Int32} (h : gl_usr u = true) (h2 : gl_prv p = true) (h3 : u = 0) : gl_hd n K P u p = 1 := by
  unfold gl_hd
  rw [h, h2]
  simp [h3]
theorem hd_0 {n : Nat} {K P : Nat → Int32} {u p : Int32} (hn : n ≤ 48) (h : gl_usr u = true) (h2 : gl_prv p = true) (h3 : ¬ u = 0) (h4 : gl_rc n K P u p ≤ 0) : gl_hd n K P u p = 0 := by
  rw [rc_ok h h2] at h4
  have h5 : ¬ 0 < gl_cnt (gl_at2 K P u p) n := fun q => nI_nle q (by have := gl_cnt_le (gl_at2 K P u p) n; omega) h4
  simp [gl_hd, h, h2, h3, h5]
theorem hd_1 {n : Nat} {K P : Nat → Int32} {u p : Int32} (h : gl_usr u = true) (h2 : gl_prv p = true) (h4 : ¬ gl_rc n K P u p ≤ 0) : gl_hd n K P u p = 1 := by
  rw [rc_ok h h2] at h4
  have h5 : 0 < gl_cnt (gl_at2 K P u p) n := by
    rcases Nat.eq_zero_or_pos (gl_cnt (gl_at2 K P u p) n) with e | e
    · rw [e] at h4
      exact absurd (by decide) h4
    · exact e
  simp [gl_hd, h, h2, h5]
theorem my_no {n : Nat} {K P : Nat → Int32} {O : Nat → Bool} {u p : Int32} (h : gl_usr u = false ∨ gl_prv p = false) : gl_my n K P O u p = -1 := by
  unfold gl_my
  rcases h with h | h <;> simp [h]
theorem my_1 {n : Nat} {K P : Nat → Int32} {O : Nat → Bool} {u p : Int32} (h : gl_usr u = true) (h2 : gl_prv p = true) (h3 : u = 0 ∨ gl_any (gl_rt K P O u p) n = true) : gl_my n K P O u p = 1 := by simp only [gl_my, h, h2, Bool.and_self, if_true, if_pos h3]
theorem my_0 {n : Nat} {K P : Nat → Int32} {O : Nat → Bool} {u p : Int32} (h : gl_usr u = true) (h2 : gl_prv p = true) (h3 : ¬ u = 0) (h4 : gl_any (gl_rt K P O u p) n = false) : gl_my n K P O u p = 0 := by simp [gl_my, h, h2, h3, h4]
theorem ok3_t {g k p : Int32} (h1 : gl_usr g = true) (h2 : gl_usr k = true) (h3 : gl_prv p = true) : gl_ok3 g k p = true := by simp [gl_ok3, h1, h2, h3]
theorem ok3_f {g k p : Int32} (h : gl_usr g = false ∨ gl_usr k = false ∨ gl_prv p = false) : gl_ok3 g k p = false := by
  unfold gl_ok3
  rcases h with h | h | h <;> simp [h]
theorem xu_lo {u : Int32} (h : u < 1) : gl_xu u = false := by simp [gl_xu, Int32.not_le.mpr h]
theorem xu_hi {u : Int32} (h : ¬ u ≤ 7) : gl_xu u = false := by simp [gl_xu, h]
theorem xu_ok {u : Int32} (h : ¬ u < 1) (h2 : u ≤ 7) : gl_xu u = true := by simp [gl_xu, Int32.not_lt.mp h, h2]
end
section
/-! GrantLedger: received, given, holds, may, stands -/
set_option maxHeartbeats 4000000 in
set_option maxRecDepth 100000 in
theorem cX_received (l : Launch) (D : va_G) (cI cZ : ClassId) (h : Nat) (a : Nat → Nat) (sz tm n w : Nat) (T G K P : Nat → Int32) (O F : Nat → Bool) (Qu : Nat → Int32) (U : Nat → Bool) (u p : Int32) (hn : n ≤ 48) : ct_i l D (ty_ cI cZ) yX0_received cX0_received 5 .int (rm_ 1) (gx_w cI cZ h a) (tm, n, w, T, G, K, P, O, F, Qu, U) sz [.ref h, .int u, .int p] (fun r v => v = (tm, n, w, T, G, K, P, O, F, Qu, U) ∧ r = gl_rc n K P u p) := by
  refine en_i (by decide) (Nat.le_of_ble_eq_true rfl) ?_
  intro pr e s m ar below meth c A Q C0 hK hret H locs ls hP hD hS hl
  obtain ⟨hx, hb, hml, hown, hts, hA⟩ := C0
  have hown : s.vm.findClass RX0 = some m.cls := hown
  have hP : va_P D vwCl (gx_W cI cZ h a tm n w T G K P O F Qu U) H := hP
  have hD : va_D A (gx_W cI cZ h a tm n w T G K P O F Qu U) := hD
  have hl : lv_has ls 5 [(0, .ref h), (1, .int u), (2, .int p)] := hl
  refine lv_iload_n hx hb dX0_received_0 rfl (lv_at hl 1 rfl) ?_
  refine ca_s (cX_isUser l D _ u) ⟨hx, hb, hml, hown, hts⟩ (va_cwS 1 hts (lw_S q61 q62 q11 q63) rfl rfl rfl (by decide +kernel) ⟨by decide, by decide⟩) hK hP hS hA rfl hl.1 rfl (Nat.le_of_ble_eq_true rfl) dX0_received_1 ⟨Nat.zero_le _, Nat.zero_le _⟩ (fun r H locs hq hP hS => ?_)
  subst hq
  refine kx_ifeq (tgt := 14) hx hb dX0_received_4 (by decide) (fun c1 => ?_) (fun c1 => ?_)
  · refine lv_iconst (v := (-1)) hx hb dX0_received_14 (by decide) ?_
    exact hret _ _ _ _ _ (tm, n, w, T, G, K, P, O, F, Qu, U) dX0_received_15 rfl hP hD hS ⟨rfl, (rc_no (Or.inl c1)).symm⟩
  · refine lv_iload_n hx hb dX0_received_7 rfl (lv_at hl 2 rfl) ?_
    refine ca_s (cX_isPrivilege l D _ p) ⟨hx, hb, hml, hown, hts⟩ (va_cwS 1 hts (lw_S q64 q65 q11 q66) rfl rfl rfl (by decide +kernel) ⟨by decide, by decide⟩) hK hP hS hA rfl hl.1 rfl (Nat.le_of_ble_eq_true rfl) dX0_received_8 ⟨Nat.zero_le _, Nat.zero_le _⟩ (fun r H locs hq hP hS => ?_)
    subst hq
    refine kx_ifne (tgt := 16) hx hb dX0_received_11 (by decide) (fun c2 => ?_) (fun c2 => ?_)
    · refine lv_iconst (v := nI 0) hx hb dX0_received_16 (by decide) ?_
      refine lv_istore_n (lv' := [(3, .int (nI 0)), (0, .ref h), (1, .int u), (2, .int p)]) hx hb dX0_received_17 rfl hl (by decide) rfl (fun ls hl => ?_)
      refine lv_iconst (v := nI 0) hx hb dX0_received_18 (by decide) ?_
      refine lv_istore (lv' := [(4, .int (nI 0)), (3, .int (nI 0)), (0, .ref h), (1, .int u), (2, .int p)]) hx hb dX0_received_19 hl (by decide) rfl (fun ls hl => ?_)
      have loop : ∀ (N i : Nat) (H : Heap) (locs : List Loc) (ls : Array Slot), i ≤ n → n < i + N → va_P D vwCl (gx_W cI cZ h a tm n w T G K P O F Qu U) H → va_D A (gx_W cI cZ h a tm n w T G K P O F Qu U) → va_S A s.heap H locs → lv_has ls 5 [(0, .ref h), (1, .int u), (2, .int p), (3, .int (nI (gl_cnt (gl_at2 K P u p) i))), (4, .int (nI i))] → W pr l e (rm_ 1) s m ar below meth c H locs 0 0 Q (F0 m 21 ls []) := by
        intro N
        induction N with
        | zero =>
          intro i  H locs ls h1 h2
          exact absurd h2 (by omega)
        | succ N ih =>
          intro i  H locs ls hi hN hP hD hS hl 
          refine lv_iload hx hb dX0_received_21 (lv_at hl 4 rfl) ?_
          refine lv_aload_n hx hb dX0_received_23 rfl (lv_at hl 0 rfl) ?_
          refine gx_get hx hb hts hown hK hP 1 (by decide) q22 rfl rfl dX0_received_24 ?_
          refine kx_ge (tgt := 66) hx hb dX0_received_27 (by decide) (by omega) (by omega) (fun c0 => ?_) (fun c0 => ?_)
          · obtain rfl : n = i := by omega
            refine lv_iload_n hx hb dX0_received_66 rfl (lv_at hl 3 rfl) ?_
            exact hret _ _ _ _ _ (tm, n, w, T, G, K, P, O, F, Qu, U) dX0_received_67 rfl hP hD hS ⟨rfl, (rc_ok c1 c2).symm⟩
          · refine lv_iload_n hx hb dX0_received_30 rfl (lv_at hl 3 rfl) ?_
            refine lv_aload_n hx hb dX0_received_31 rfl (lv_at hl 0 rfl) ?_
            refine gx_get hx hb hts hown hK hP 4 (by decide) q25 rfl rfl dX0_received_32 ?_
            refine lv_iload hx hb dX0_received_35 (lv_at hl 4 rfl) ?_
            refine kx_ild hx hb hK hP 3 0 rfl rfl (by omega) (by decide) dX0_received_37 ?_
            refine lv_iload_n hx hb dX0_received_38 rfl (lv_at hl 1 rfl) ?_
            refine lv_icmp_ne (tgt := 57) hx hb dX0_received_39 (by decide) (fun c3 => ?_) (fun c3 => ?_)
            · refine lv_iconst (v := nI 0) hx hb dX0_received_57 (by decide) ?_
              refine kx_iadd (v := nI (gl_cnt (gl_at2 K P u p) (i + 1))) hx hb dX0_received_58 (nI_cf (gl_at2_1 c3)) ?_
              refine lv_istore_n (lv' := [(3, .int (nI (gl_cnt (gl_at2 K P u p) (i + 1)))), (0, .ref h), (1, .int u), (2, .int p), (4, .int (nI i))]) hx hb dX0_received_59 rfl hl (by decide) rfl (fun ls hl => ?_)
              refine lv_iinc (v := nI (i + 1)) (lv' := [(4, .int (nI (i + 1))), (3, .int (nI (gl_cnt (gl_at2 K P u p) (i + 1)))), (0, .ref h), (1, .int u), (2, .int p)]) hx hb dX0_received_60 hl (k := 4) rfl (kx_inc _) (by decide) rfl (fun ls hl => ?_)
              refine lv_goto (tgt := 21) hx hb dX0_received_63 (by decide) ?_
              exact ih (i + 1) H locs ls (by omega) (by omega) hP hD hS (lv_sub hl [2, 3, 4, 1, 0] rfl)
            · refine lv_aload_n hx hb dX0_received_42 rfl (lv_at hl 0 rfl) ?_
              refine gx_get hx hb hts hown hK hP 5 (by decide) q26 rfl rfl dX0_received_43 ?_
              refine lv_iload hx hb dX0_received_46 (lv_at hl 4 rfl) ?_
              refine kx_ild hx hb hK hP 4 0 rfl rfl (by omega) (by decide) dX0_received_48 ?_
              refine lv_iload_n hx hb dX0_received_49 rfl (lv_at hl 2 rfl) ?_
              refine lv_icmp_ne (tgt := 57) hx hb dX0_received_50 (by decide) (fun c4 => ?_) (fun c4 => ?_)
              · refine lv_iconst (v := nI 0) hx hb dX0_received_57 (by decide) ?_
                refine kx_iadd (v := nI (gl_cnt (gl_at2 K P u p) (i + 1))) hx hb dX0_received_58 (nI_cf (gl_at2_2 c4)) ?_
                refine lv_istore_n (lv' := [(3, .int (nI (gl_cnt (gl_at2 K P u p) (i + 1)))), (0, .ref h), (1, .int u), (2, .int p), (4, .int (nI i))]) hx hb dX0_received_59 rfl hl (by decide) rfl (fun ls hl => ?_)
                refine lv_iinc (v := nI (i + 1)) (lv' := [(4, .int (nI (i + 1))), (3, .int (nI (gl_cnt (gl_at2 K P u p) (i + 1)))), (0, .ref h), (1, .int u), (2, .int p)]) hx hb dX0_received_60 hl (k := 4) rfl (kx_inc _) (by decide) rfl (fun ls hl => ?_)
                refine lv_goto (tgt := 21) hx hb dX0_received_63 (by decide) ?_
                exact ih (i + 1) H locs ls (by omega) (by omega) hP hD hS (lv_sub hl [2, 3, 4, 1, 0] rfl)
              · refine lv_iconst (v := nI 1) hx hb dX0_received_53 (by decide) ?_
                refine lv_goto (tgt := 58) hx hb dX0_received_54 (by decide) ?_
                refine kx_iadd (v := nI (gl_cnt (gl_at2 K P u p) (i + 1))) hx hb dX0_received_58 (nI_ct (gl_at2_iff.mpr ⟨c3, c4⟩)) ?_
                refine lv_istore_n (lv' := [(3, .int (nI (gl_cnt (gl_at2 K P u p) (i + 1)))), (0, .ref h), (1, .int u), (2, .int p), (4, .int (nI i))]) hx hb dX0_received_59 rfl hl (by decide) rfl (fun ls hl => ?_)
                refine lv_iinc (v := nI (i + 1)) (lv' := [(4, .int (nI (i + 1))), (3, .int (nI (gl_cnt (gl_at2 K P u p) (i + 1)))), (0, .ref h), (1, .int u), (2, .int p)]) hx hb dX0_received_60 hl (k := 4) rfl (kx_inc _) (by decide) rfl (fun ls hl => ?_)
                refine lv_goto (tgt := 21) hx hb dX0_received_63 (by decide) ?_
                exact ih (i + 1) H locs ls (by omega) (by omega) hP hD hS (lv_sub hl [2, 3, 4, 1, 0] rfl)
      exact loop (n + 1) 0 H locs ls (by omega) (by omega) hP hD hS (lv_sub hl [2, 3, 4, 1, 0] rfl)
    · refine lv_iconst (v := (-1)) hx hb dX0_received_14 (by decide) ?_
      exact hret _ _ _ _ _ (tm, n, w, T, G, K, P, O, F, Qu, U) dX0_received_15 rfl hP hD hS ⟨rfl, (rc_no (Or.inr c2)).symm⟩
set_option maxHeartbeats 4000000 in
set_option maxRecDepth 100000 in
theorem cX_given (l : Launch) (D : va_G) (cI cZ : ClassId) (h : Nat) (a : Nat → Nat) (sz tm n w : Nat) (T G K P : Nat → Int32) (O F : Nat → Bool) (Qu : Nat → Int32) (U : Nat → Bool) (u p : Int32) (hn : n ≤ 48) : ct_i l D (ty_ cI cZ) yX0_given cX0_given 5 .int (rm_ 1) (gx_w cI cZ h a) (tm, n, w, T, G, K, P, O, F, Qu, U) sz [.ref h, .int u, .int p] (fun r v => v = (tm, n, w, T, G, K, P, O, F, Qu, U) ∧ r = gl_rc n G P u p) := by
  refine en_i (by decide) (Nat.le_of_ble_eq_true rfl) ?_
  intro pr e s m ar below meth c A Q C0 hK hret H locs ls hP hD hS hl
  obtain ⟨hx, hb, hml, hown, hts, hA⟩ := C0
  have hown : s.vm.findClass RX0 = some m.cls := hown
  have hP : va_P D vwCl (gx_W cI cZ h a tm n w T G K P O F Qu U) H := hP
  have hD : va_D A (gx_W cI cZ h a tm n w T G K P O F Qu U) := hD
  have hl : lv_has ls 5 [(0, .ref h), (1, .int u), (2, .int p)] := hl
  refine lv_iload_n hx hb dX0_given_0 rfl (lv_at hl 1 rfl) ?_
  refine ca_s (cX_isUser l D _ u) ⟨hx, hb, hml, hown, hts⟩ (va_cwS 1 hts (lw_S q61 q62 q11 q63) rfl rfl rfl (by decide +kernel) ⟨by decide, by decide⟩) hK hP hS hA rfl hl.1 rfl (Nat.le_of_ble_eq_true rfl) dX0_given_1 ⟨Nat.zero_le _, Nat.zero_le _⟩ (fun r H locs hq hP hS => ?_)
  subst hq
  refine kx_ifeq (tgt := 14) hx hb dX0_given_4 (by decide) (fun c1 => ?_) (fun c1 => ?_)
  · refine lv_iconst (v := (-1)) hx hb dX0_given_14 (by decide) ?_
    exact hret _ _ _ _ _ (tm, n, w, T, G, K, P, O, F, Qu, U) dX0_given_15 rfl hP hD hS ⟨rfl, (rc_no (Or.inl c1)).symm⟩
  · refine lv_iload_n hx hb dX0_given_7 rfl (lv_at hl 2 rfl) ?_
    refine ca_s (cX_isPrivilege l D _ p) ⟨hx, hb, hml, hown, hts⟩ (va_cwS 1 hts (lw_S q64 q65 q11 q66) rfl rfl rfl (by decide +kernel) ⟨by decide, by decide⟩) hK hP hS hA rfl hl.1 rfl (Nat.le_of_ble_eq_true rfl) dX0_given_8 ⟨Nat.zero_le _, Nat.zero_le _⟩ (fun r H locs hq hP hS => ?_)
    subst hq
    refine kx_ifne (tgt := 16) hx hb dX0_given_11 (by decide) (fun c2 => ?_) (fun c2 => ?_)
    · refine lv_iconst (v := nI 0) hx hb dX0_given_16 (by decide) ?_
      refine lv_istore_n (lv' := [(3, .int (nI 0)), (0, .ref h), (1, .int u), (2, .int p)]) hx hb dX0_given_17 rfl hl (by decide) rfl (fun ls hl => ?_)
      refine lv_iconst (v := nI 0) hx hb dX0_given_18 (by decide) ?_
      refine lv_istore (lv' := [(4, .int (nI 0)), (3, .int (nI 0)), (0, .ref h), (1, .int u), (2, .int p)]) hx hb dX0_given_19 hl (by decide) rfl (fun ls hl => ?_)
      have loop : ∀ (N i : Nat) (H : Heap) (locs : List Loc) (ls : Array Slot), i ≤ n → n < i + N → va_P D vwCl (gx_W cI cZ h a tm n w T G K P O F Qu U) H → va_D A (gx_W cI cZ h a tm n w T G K P O F Qu U) → va_S A s.heap H locs → lv_has ls 5 [(0, .ref h), (1, .int u), (2, .int p), (3, .int (nI (gl_cnt (gl_at2 G P u p) i))), (4, .int (nI i))] → W pr l e (rm_ 1) s m ar below meth c H locs 0 0 Q (F0 m 21 ls []) := by
        intro N
        induction N with
        | zero =>
          intro i  H locs ls h1 h2
          exact absurd h2 (by omega)
        | succ N ih =>
          intro i  H locs ls hi hN hP hD hS hl 
          refine lv_iload hx hb dX0_given_21 (lv_at hl 4 rfl) ?_
          refine lv_aload_n hx hb dX0_given_23 rfl (lv_at hl 0 rfl) ?_
          refine gx_get hx hb hts hown hK hP 1 (by decide) q22 rfl rfl dX0_given_24 ?_
          refine kx_ge (tgt := 66) hx hb dX0_given_27 (by decide) (by omega) (by omega) (fun c0 => ?_) (fun c0 => ?_)
          · obtain rfl : n = i := by omega
            refine lv_iload_n hx hb dX0_given_66 rfl (lv_at hl 3 rfl) ?_
            exact hret _ _ _ _ _ (tm, n, w, T, G, K, P, O, F, Qu, U) dX0_given_67 rfl hP hD hS ⟨rfl, (rc_ok c1 c2).symm⟩
          · refine lv_iload_n hx hb dX0_given_30 rfl (lv_at hl 3 rfl) ?_
            refine lv_aload_n hx hb dX0_given_31 rfl (lv_at hl 0 rfl) ?_
            refine gx_get hx hb hts hown hK hP 3 (by decide) q24 rfl rfl dX0_given_32 ?_
            refine lv_iload hx hb dX0_given_35 (lv_at hl 4 rfl) ?_
            refine kx_ild hx hb hK hP 2 0 rfl rfl (by omega) (by decide) dX0_given_37 ?_
            refine lv_iload_n hx hb dX0_given_38 rfl (lv_at hl 1 rfl) ?_
            refine lv_icmp_ne (tgt := 57) hx hb dX0_given_39 (by decide) (fun c3 => ?_) (fun c3 => ?_)
            · refine lv_iconst (v := nI 0) hx hb dX0_given_57 (by decide) ?_
              refine kx_iadd (v := nI (gl_cnt (gl_at2 G P u p) (i + 1))) hx hb dX0_given_58 (nI_cf (gl_at2_1 c3)) ?_
              refine lv_istore_n (lv' := [(3, .int (nI (gl_cnt (gl_at2 G P u p) (i + 1)))), (0, .ref h), (1, .int u), (2, .int p), (4, .int (nI i))]) hx hb dX0_given_59 rfl hl (by decide) rfl (fun ls hl => ?_)
              refine lv_iinc (v := nI (i + 1)) (lv' := [(4, .int (nI (i + 1))), (3, .int (nI (gl_cnt (gl_at2 G P u p) (i + 1)))), (0, .ref h), (1, .int u), (2, .int p)]) hx hb dX0_given_60 hl (k := 4) rfl (kx_inc _) (by decide) rfl (fun ls hl => ?_)
              refine lv_goto (tgt := 21) hx hb dX0_given_63 (by decide) ?_
              exact ih (i + 1) H locs ls (by omega) (by omega) hP hD hS (lv_sub hl [2, 3, 4, 1, 0] rfl)
            · refine lv_aload_n hx hb dX0_given_42 rfl (lv_at hl 0 rfl) ?_
              refine gx_get hx hb hts hown hK hP 5 (by decide) q26 rfl rfl dX0_given_43 ?_
              refine lv_iload hx hb dX0_given_46 (lv_at hl 4 rfl) ?_
              refine kx_ild hx hb hK hP 4 0 rfl rfl (by omega) (by decide) dX0_given_48 ?_
              refine lv_iload_n hx hb dX0_given_49 rfl (lv_at hl 2 rfl) ?_
              refine lv_icmp_ne (tgt := 57) hx hb dX0_given_50 (by decide) (fun c4 => ?_) (fun c4 => ?_)
              · refine lv_iconst (v := nI 0) hx hb dX0_given_57 (by decide) ?_
                refine kx_iadd (v := nI (gl_cnt (gl_at2 G P u p) (i + 1))) hx hb dX0_given_58 (nI_cf (gl_at2_2 c4)) ?_
                refine lv_istore_n (lv' := [(3, .int (nI (gl_cnt (gl_at2 G P u p) (i + 1)))), (0, .ref h), (1, .int u), (2, .int p), (4, .int (nI i))]) hx hb dX0_given_59 rfl hl (by decide) rfl (fun ls hl => ?_)
                refine lv_iinc (v := nI (i + 1)) (lv' := [(4, .int (nI (i + 1))), (3, .int (nI (gl_cnt (gl_at2 G P u p) (i + 1)))), (0, .ref h), (1, .int u), (2, .int p)]) hx hb dX0_given_60 hl (k := 4) rfl (kx_inc _) (by decide) rfl (fun ls hl => ?_)
                refine lv_goto (tgt := 21) hx hb dX0_given_63 (by decide) ?_
                exact ih (i + 1) H locs ls (by omega) (by omega) hP hD hS (lv_sub hl [2, 3, 4, 1, 0] rfl)
              · refine lv_iconst (v := nI 1) hx hb dX0_given_53 (by decide) ?_
                refine lv_goto (tgt := 58) hx hb dX0_given_54 (by decide) ?_
                refine kx_iadd (v := nI (gl_cnt (gl_at2 G P u p) (i + 1))) hx hb dX0_given_58 (nI_ct (gl_at2_iff.mpr ⟨c3, c4⟩)) ?_
                refine lv_istore_n (lv' := [(3, .int (nI (gl_cnt (gl_at2 G P u p) (i + 1)))), (0, .ref h), (1, .int u), (2, .int p), (4, .int (nI i))]) hx hb dX0_given_59 rfl hl (by decide) rfl (fun ls hl => ?_)
                refine lv_iinc (v := nI (i + 1)) (lv' := [(4, .int (nI (i + 1))), (3, .int (nI (gl_cnt (gl_at2 G P u p) (i + 1)))), (0, .ref h), (1, .int u), (2, .int p)]) hx hb dX0_given_60 hl (k := 4) rfl (kx_inc _) (by decide) rfl (fun ls hl => ?_)
                refine lv_goto (tgt := 21) hx hb dX0_given_63 (by decide) ?_
                exact ih (i + 1) H locs ls (by omega) (by omega) hP hD hS (lv_sub hl [2, 3, 4, 1, 0] rfl)
      exact loop (n + 1) 0 H locs ls (by omega) (by omega) hP hD hS (lv_sub hl [2, 3, 4, 1, 0] rfl)
    · refine lv_iconst (v := (-1)) hx hb dX0_given_14 (by decide) ?_
      exact hret _ _ _ _ _ (tm, n, w, T, G, K, P, O, F, Qu, U) dX0_given_15 rfl hP hD hS ⟨rfl, (rc_no (Or.inr c2)).symm⟩
set_option maxHeartbeats 4000000 in
set_option maxRecDepth 100000 in
theorem cX_holds (l : Launch) (D : va_G) (cI cZ : ClassId) (h : Nat) (a : Nat → Nat) (sz tm n w : Nat) (T G K P : Nat → Int32) (O F : Nat → Bool) (Qu : Nat → Int32) (U : Nat → Bool) (u p : Int32) (hn : n ≤ 48) : ct_i l D (ty_ cI cZ) yX0_holds cX0_holds 3 .int (rm_ 2) (gx_w cI cZ h a) (tm, n, w, T, G, K, P, O, F, Qu, U) sz [.ref h, .int u, .int p] (fun r v => v = (tm, n, w, T, G, K, P, O, F, Qu, U) ∧ r = gl_hd n K P u p) := by
  refine en_i (by decide) (Nat.le_of_ble_eq_true rfl) ?_
  intro pr e s m ar below meth c A Q C0 hK hret H locs ls hP hD hS hl
  obtain ⟨hx, hb, hml, hown, hts, hA⟩ := C0
  have hown : s.vm.findClass RX0 = some m.cls := hown
  have hP : va_P D vwCl (gx_W cI cZ h a tm n w T G K P O F Qu U) H := hP
  have hD : va_D A (gx_W cI cZ h a tm n w T G K P O F Qu U) := hD
  have hl : lv_has ls 3 [(0, .ref h), (1, .int u), (2, .int p)] := hl
  refine lv_iload_n hx hb dX0_holds_0 rfl (lv_at hl 1 rfl) ?_
  refine ca_s (cX_isUser l D _ u) ⟨hx, hb, hml, hown, hts⟩ (va_cwS 1 hts (lw_S q61 q62 q11 q63) rfl rfl rfl (by decide +kernel) ⟨by decide, by decide⟩) hK hP hS hA rfl hl.1 rfl (Nat.le_of_ble_eq_true rfl) dX0_holds_1 ⟨Nat.zero_le _, Nat.zero_le _⟩ (fun r H locs hq hP hS => ?_)
  subst hq
  refine kx_ifeq (tgt := 14) hx hb dX0_holds_4 (by decide) (fun c1 => ?_) (fun c1 => ?_)
  · refine lv_iconst (v := (-1)) hx hb dX0_holds_14 (by decide) ?_
    exact hret _ _ _ _ _ (tm, n, w, T, G, K, P, O, F, Qu, U) dX0_holds_15 rfl hP hD hS ⟨rfl, (hd_no (Or.inl c1)).symm⟩
  · refine lv_iload_n hx hb dX0_holds_7 rfl (lv_at hl 2 rfl) ?_
    refine ca_s (cX_isPrivilege l D _ p) ⟨hx, hb, hml, hown, hts⟩ (va_cwS 1 hts (lw_S q64 q65 q11 q66) rfl rfl rfl (by decide +kernel) ⟨by decide, by decide⟩) hK hP hS hA rfl hl.1 rfl (Nat.le_of_ble_eq_true rfl) dX0_holds_8 ⟨Nat.zero_le _, Nat.zero_le _⟩ (fun r H locs hq hP hS => ?_)
    subst hq
    refine kx_ifne (tgt := 16) hx hb dX0_holds_11 (by decide) (fun c2 => ?_) (fun c2 => ?_)
    · refine lv_iload_n hx hb dX0_holds_16 rfl (lv_at hl 1 rfl) ?_
      refine lv_if_eq (tgt := 29) hx hb dX0_holds_17 (by decide) (fun c3 => ?_) (fun c3 => ?_)
      · refine lv_iconst (v := nI 1) hx hb dX0_holds_29 (by decide) ?_
        refine lv_goto (tgt := 34) hx hb dX0_holds_30 (by decide) ?_
        exact hret _ _ _ _ _ (tm, n, w, T, G, K, P, O, F, Qu, U) dX0_holds_34 rfl hP hD hS ⟨rfl, (hd_own c1 c2 c3).symm⟩
      · refine lv_aload_n hx hb dX0_holds_20 rfl (lv_at hl 0 rfl) ?_
        refine lv_iload_n hx hb dX0_holds_21 rfl (lv_at hl 1 rfl) ?_
        refine lv_iload_n hx hb dX0_holds_22 rfl (lv_at hl 2 rfl) ?_
        refine ca_i (cX_received l D cI cZ h a _ tm n w T G K P O F Qu U u p hn) ⟨hx, hb, hml, hown, hts⟩ (cwV 2 hts (lw_V q107 q108 q109 q11 q110) rfl rfl rfl (by decide +kernel) ⟨by decide, by decide⟩) hK hP hD hS hA (va_recv hK hP (ci := 0) (q0 := 0) rfl rfl) rfl hl.1 rfl (Nat.le_of_ble_eq_true rfl) dX0_holds_23 ⟨Nat.zero_le _, Nat.zero_le _⟩ (fun r v H locs hq hP hD hS => ?_)
        obtain ⟨rfl, rfl⟩ := hq
        have hP : va_P D vwCl (gx_W cI cZ h a tm n w T G K P O F Qu U) H := hP
        have hD : va_D A (gx_W cI cZ h a tm n w T G K P O F Qu U) := hD
        refine lv_if_le (tgt := 33) hx hb dX0_holds_26 (by decide) (fun c4 => ?_) (fun c4 => ?_)
        · refine lv_iconst (v := nI 0) hx hb dX0_holds_33 (by decide) ?_
          exact hret _ _ _ _ _ (tm, n, w, T, G, K, P, O, F, Qu, U) dX0_holds_34 rfl hP hD hS ⟨rfl, (hd_0 hn c1 c2 c3 c4).symm⟩
        · refine lv_iconst (v := nI 1) hx hb dX0_holds_29 (by decide) ?_
          refine lv_goto (tgt := 34) hx hb dX0_holds_30 (by decide) ?_
          exact hret _ _ _ _ _ (tm, n, w, T, G, K, P, O, F, Qu, U) dX0_holds_34 rfl hP hD hS ⟨rfl, (hd_1 c1 c2 c4).symm⟩
    · refine lv_iconst (v := (-1)) hx hb dX0_holds_14 (by decide) ?_
      exact hret _ _ _ _ _ (tm, n, w, T, G, K, P, O, F, Qu, U) dX0_holds_15 rfl hP hD hS ⟨rfl, (hd_no (Or.inr c2)).symm⟩
set_option maxHeartbeats 4000000 in
set_option maxRecDepth 100000 in
theorem cX_may (l : Launch) (D : va_G) (cI cZ : ClassId) (h : Nat) (a : Nat → Nat) (sz tm n w : Nat) (T G K P : Nat → Int32) (O F : Nat → Bool) (Qu : Nat → Int32) (U : Nat → Bool) (u p : Int32) (hn : n ≤ 48) (hF : ∀ j, j < n → F j = false) (hT : ∀ j, j < n → 0 ≤ T j) : ct_i l D (ty_ cI cZ) yX0_may cX0_may 3 .int (rm_ 1) (gx_w cI cZ h a) (tm, n, w, T, G, K, P, O, F, Qu, U) sz [.ref h, .int u, .int p] (fun r v => ∃ F' : Nat → Bool, v = (tm, n, w, T, G, K, P, O, F', Qu, U) ∧ (∀ j, j < n → F' j = false) ∧ r = gl_my n K P O u p) := by
  refine en_i (by decide) (Nat.le_of_ble_eq_true rfl) ?_
  intro pr e s m ar below meth c A Q C0 hK hret H locs ls hP hD hS hl
  obtain ⟨hx, hb, hml, hown, hts, hA⟩ := C0
  have hown : s.vm.findClass RX0 = some m.cls := hown
  have hP : va_P D vwCl (gx_W cI cZ h a tm n w T G K P O F Qu U) H := hP
  have hD : va_D A (gx_W cI cZ h a tm n w T G K P O F Qu U) := hD
  have hl : lv_has ls 3 [(0, .ref h), (1, .int u), (2, .int p)] := hl
  refine lv_iload_n hx hb dX0_may_0 rfl (lv_at hl 1 rfl) ?_
  refine ca_s (cX_isUser l D _ u) ⟨hx, hb, hml, hown, hts⟩ (va_cwS 1 hts (lw_S q61 q62 q11 q63) rfl rfl rfl (by decide +kernel) ⟨by decide, by decide⟩) hK hP hS hA rfl hl.1 rfl (Nat.le_of_ble_eq_true rfl) dX0_may_1 ⟨Nat.zero_le _, Nat.zero_le _⟩ (fun r H locs hq hP hS => ?_)
  subst hq
  refine kx_ifeq (tgt := 14) hx hb dX0_may_4 (by decide) (fun c1 => ?_) (fun c1 => ?_)
  · refine lv_iconst (v := (-1)) hx hb dX0_may_14 (by decide) ?_
    exact hret _ _ _ _ _ (tm, n, w, T, G, K, P, O, F, Qu, U) dX0_may_15 rfl hP hD hS ⟨F, rfl, hF, (my_no (Or.inl c1)).symm⟩
  · refine lv_iload_n hx hb dX0_may_7 rfl (lv_at hl 2 rfl) ?_
    refine ca_s (cX_isPrivilege l D _ p) ⟨hx, hb, hml, hown, hts⟩ (va_cwS 1 hts (lw_S q64 q65 q11 q66) rfl rfl rfl (by decide +kernel) ⟨by decide, by decide⟩) hK hP hS hA rfl hl.1 rfl (Nat.le_of_ble_eq_true rfl) dX0_may_8 ⟨Nat.zero_le _, Nat.zero_le _⟩ (fun r H locs hq hP hS => ?_)
    subst hq
    refine kx_ifne (tgt := 16) hx hb dX0_may_11 (by decide) (fun c2 => ?_) (fun c2 => ?_)
    · refine lv_aload_n hx hb dX0_may_16 rfl (lv_at hl 0 rfl) ?_
      refine ca_v (cX_clearMarks l D cI cZ h a _ tm n w T G K P O F Qu U hn) ⟨hx, hb, hml, hown, hts⟩ (cwV 0 hts (lw_V q79 q81 qs2 q11 q82) rfl rfl rfl (by decide +kernel) ⟨by decide, by decide⟩) hK hP hD hS hA (va_recv hK hP (ci := 0) (q0 := 0) rfl rfl) rfl hl.1 rfl (Nat.le_of_ble_eq_true rfl) dX0_may_17 ⟨Nat.zero_le _, Nat.zero_le _⟩ (fun v H locs hq hP hD hS => ?_)
      obtain ⟨F1, rfl, hF0⟩ := hq
      have hP : va_P D vwCl (gx_W cI cZ h a tm n w T G K P O F1 Qu U) H := hP
      have hD : va_D A (gx_W cI cZ h a tm n w T G K P O F1 Qu U) := hD
      refine lv_iload_n hx hb dX0_may_20 rfl (lv_at hl 1 rfl) ?_
      refine lv_if_eq (tgt := 33) hx hb dX0_may_21 (by decide) (fun c3 => ?_) (fun c3 => ?_)
      · refine lv_iconst (v := nI 1) hx hb dX0_may_33 (by decide) ?_
        refine lv_goto (tgt := 38) hx hb dX0_may_34 (by decide) ?_
        exact hret _ _ _ _ _ (tm, n, w, T, G, K, P, O, F1, Qu, U) dX0_may_38 rfl hP hD hS ⟨F1, rfl, hF0, (my_1 c1 c2 (Or.inl c3)).symm⟩
      · refine lv_aload_n hx hb dX0_may_24 rfl (lv_at hl 0 rfl) ?_
        refine lv_iload_n hx hb dX0_may_25 rfl (lv_at hl 1 rfl) ?_
        refine lv_iload_n hx hb dX0_may_26 rfl (lv_at hl 2 rfl) ?_
        refine ca_i (cX_earliest l D cI cZ h a _ tm n w T G K P O F1 Qu U u p hn) ⟨hx, hb, hml, hown, hts⟩ (cwV 2 hts (lw_V q67 q69 qs0 q11 q70) rfl rfl rfl (by decide +kernel) ⟨by decide, by decide⟩) hK hP hD hS hA (va_recv hK hP (ci := 0) (q0 := 0) rfl rfl) rfl hl.1 rfl (Nat.le_of_ble_eq_true rfl) dX0_may_27 ⟨Nat.zero_le _, Nat.zero_le _⟩ (fun r v H locs hq hP hD hS => ?_)
        obtain ⟨rfl, hE⟩ := hq
        have hP : va_P D vwCl (gx_W cI cZ h a tm n w T G K P O F1 Qu U) H := hP
        have hD : va_D A (gx_W cI cZ h a tm n w T G K P O F1 Qu U) := hD
        refine lv_if_lt (tgt := 37) hx hb dX0_may_30 (by decide) (fun c4 => ?_) (fun c4 => ?_)
        · refine lv_iconst (v := nI 0) hx hb dX0_may_37 (by decide) ?_
          exact hret _ _ _ _ _ (tm, n, w, T, G, K, P, O, F1, Qu, U) dX0_may_38 rfl hP hD hS ⟨F1, rfl, hF0, (my_0 c1 c2 c3 ((hE.any hF0 hT).mp c4)).symm⟩
        · refine lv_iconst (v := nI 1) hx hb dX0_may_33 (by decide) ?_
          refine lv_goto (tgt := 38) hx hb dX0_may_34 (by decide) ?_
          exact hret _ _ _ _ _ (tm, n, w, T, G, K, P, O, F1, Qu, U) dX0_may_38 rfl hP hD hS ⟨F1, rfl, hF0, (my_1 c1 c2 (Or.inr (by
            cases q : gl_any (gl_rt K P O u p) n
            · exact absurd ((hE.any hF0 hT).mpr q) c4
            · rfl))).symm⟩
    · refine lv_iconst (v := (-1)) hx hb dX0_may_14 (by decide) ?_
      exact hret _ _ _ _ _ (tm, n, w, T, G, K, P, O, F, Qu, U) dX0_may_15 rfl hP hD hS ⟨F, rfl, hF, (my_no (Or.inr c2)).symm⟩
set_option maxHeartbeats 4000000 in
set_option maxRecDepth 100000 in
theorem cX_stands (l : Launch) (D : va_G) (cI cZ : ClassId) (h : Nat) (a : Nat → Nat) (sz tm n w : Nat) (T G K P : Nat → Int32) (O F : Nat → Bool) (Qu : Nat → Int32) (U : Nat → Bool) (t : Int32) (hW : gl_WF tm n T G K P O) : ct_i l D (ty_ cI cZ) yX0_stands cX0_stands 6 .int (rm_ 0) (gx_w cI cZ h a) (tm, n, w, T, G, K, P, O, F, Qu, U) sz [.ref h, .int t] (fun r v => v = (tm, n, w, T, G, K, P, O, F, Qu, U) ∧ r = gl_st n T t) := by
  refine en_i (by decide) (Nat.le_of_ble_eq_true rfl) ?_
  intro pr e s m ar below meth c A Q C0 hK hret H locs ls hP hD hS hl
  obtain ⟨hx, hb, hml, hown, hts, hA⟩ := C0
  have hown : s.vm.findClass RX0 = some m.cls := hown
  have hP : va_P D vwCl (gx_W cI cZ h a tm n w T G K P O F Qu U) H := hP
  have hD : va_D A (gx_W cI cZ h a tm n w T G K P O F Qu U) := hD
  have hl : lv_has ls 6 [(0, .ref h), (1, .int t)] := hl
  have hn : n ≤ 48 := hW.1
  refine lv_iconst (v := nI 0) hx hb dX0_stands_0 (by decide) ?_
  refine lv_istore_n (lv' := [(2, .int (nI 0)), (0, .ref h), (1, .int t)]) hx hb dX0_stands_1 rfl hl (by decide) rfl (fun ls hl => ?_)
  refine lv_aload_n hx hb dX0_stands_2 rfl (lv_at hl 1 rfl) ?_
  refine gx_get hx hb hts hown hK hP 1 (by decide) q22 rfl rfl dX0_stands_3 ?_
  refine lv_istore_n (lv' := [(3, .int (nI n)), (2, .int (nI 0)), (0, .ref h), (1, .int t)]) hx hb dX0_stands_6 rfl hl (by decide) rfl (fun ls hl => ?_)
  refine lv_iconst (v := nI 0) hx hb dX0_stands_7 (by decide) ?_
  refine lv_istore (lv' := [(4, .int (nI 0)), (3, .int (nI n)), (2, .int (nI 0)), (0, .ref h), (1, .int t)]) hx hb dX0_stands_8 hl (by decide) rfl (fun ls hl => ?_)
  have loop : ∀ (N i : Nat) (lo hi : Nat) (H : Heap) (locs : List Loc) (ls : Array Slot), i ≤ 7 → 7 < i + N → va_P D vwCl (gx_W cI cZ h a tm n w T G K P O F Qu U) H → va_D A (gx_W cI cZ h a tm n w T G K P O F Qu U) → va_S A s.heap H locs → lv_has ls 6 [(0, .ref h), (1, .int t), (2, .int (nI lo)), (3, .int (nI hi)), (4, .int (nI i))] → lo ≤ hi → hi ≤ n → (∀ j, j < lo → T j < t) → (∀ j, hi ≤ j → j < n → t ≤ T j) → hi - lo < 2 ^ (7 - i) → W pr l e (rm_ 0) s m ar below meth c H locs 0 0 Q (F0 m 10 ls []) := by
    intro N
    induction N with
    | zero =>
      intro i lo hi H locs ls h1 h2
      exact absurd h2 (by omega)
    | succ N ih =>
      intro i lo hi H locs ls hi7 hN hP hD hS hl hlh hhn hlo hhi hsz
      refine lv_iload hx hb dX0_stands_10 (lv_at hl 4 rfl) ?_
      refine lv_bipush (v := nI 7) hx hb dX0_stands_12 (by decide) ?_
      refine kx_ge (tgt := 57) hx hb dX0_stands_14 (by decide) (by omega) (by omega) (fun c0 => ?_) (fun c0 => ?_)
      · have hle := gl_half0 c0 hsz
        refine lv_iload_n hx hb dX0_stands_57 rfl (lv_at hl 2 rfl) ?_
        refine lv_aload_n hx hb dX0_stands_58 rfl (lv_at hl 0 rfl) ?_
        refine gx_get hx hb hts hown hK hP 1 (by decide) q22 rfl rfl dX0_stands_59 ?_
        refine kx_ge (tgt := 79) hx hb dX0_stands_62 (by decide) (by omega) (by omega) (fun c3 => ?_) (fun c3 => ?_)
        · refine lv_iconst (v := nI 0) hx hb dX0_stands_79 (by decide) ?_
          exact hret _ _ _ _ _ (tm, n, w, T, G, K, P, O, F, Qu, U) dX0_stands_80 rfl hP hD hS ⟨rfl, (gl_st_a hlo c3).symm⟩
        · refine lv_aload_n hx hb dX0_stands_65 rfl (lv_at hl 0 rfl) ?_
          refine gx_get hx hb hts hown hK hP 2 (by decide) q23 rfl rfl dX0_stands_66 ?_
          refine lv_iload_n hx hb dX0_stands_69 rfl (lv_at hl 2 rfl) ?_
          refine kx_ild hx hb hK hP 1 0 rfl rfl (by omega) (by decide) dX0_stands_70 ?_
          refine lv_iload_n hx hb dX0_stands_71 rfl (lv_at hl 1 rfl) ?_
          refine lv_icmp_ne (tgt := 79) hx hb dX0_stands_72 (by decide) (fun c4 => ?_) (fun c4 => ?_)
          · refine lv_iconst (v := nI 0) hx hb dX0_stands_79 (by decide) ?_
            exact hret _ _ _ _ _ (tm, n, w, T, G, K, P, O, F, Qu, U) dX0_stands_80 rfl hP hD hS ⟨rfl, (gl_st_b hW hlo (fun j h1 h2 => hhi j (by omega) h2) c3 c4).symm⟩
          · refine lv_iconst (v := nI 1) hx hb dX0_stands_75 (by decide) ?_
            refine lv_goto (tgt := 80) hx hb dX0_stands_76 (by decide) ?_
            exact hret _ _ _ _ _ (tm, n, w, T, G, K, P, O, F, Qu, U) dX0_stands_80 rfl hP hD hS ⟨rfl, (gl_st_1 c3 c4).symm⟩
      · refine lv_iload_n hx hb dX0_stands_17 rfl (lv_at hl 2 rfl) ?_
        refine lv_iload_n hx hb dX0_stands_18 rfl (lv_at hl 3 rfl) ?_
        refine kx_ge (tgt := 57) hx hb dX0_stands_19 (by decide) (by omega) (by omega) (fun c1 => ?_) (fun c1 => ?_)
        · have hle := c1
          refine lv_iload_n hx hb dX0_stands_57 rfl (lv_at hl 2 rfl) ?_
          refine lv_aload_n hx hb dX0_stands_58 rfl (lv_at hl 0 rfl) ?_
          refine gx_get hx hb hts hown hK hP 1 (by decide) q22 rfl rfl dX0_stands_59 ?_
          refine kx_ge (tgt := 79) hx hb dX0_stands_62 (by decide) (by omega) (by omega) (fun c3 => ?_) (fun c3 => ?_)
          · refine lv_iconst (v := nI 0) hx hb dX0_stands_79 (by decide) ?_
            exact hret _ _ _ _ _ (tm, n, w, T, G, K, P, O, F, Qu, U) dX0_stands_80 rfl hP hD hS ⟨rfl, (gl_st_a hlo c3).symm⟩
          · refine lv_aload_n hx hb dX0_stands_65 rfl (lv_at hl 0 rfl) ?_
            refine gx_get hx hb hts hown hK hP 2 (by decide) q23 rfl rfl dX0_stands_66 ?_
            refine lv_iload_n hx hb dX0_stands_69 rfl (lv_at hl 2 rfl) ?_
            refine kx_ild hx hb hK hP 1 0 rfl rfl (by omega) (by decide) dX0_stands_70 ?_
            refine lv_iload_n hx hb dX0_stands_71 rfl (lv_at hl 1 rfl) ?_
            refine lv_icmp_ne (tgt := 79) hx hb dX0_stands_72 (by decide) (fun c4 => ?_) (fun c4 => ?_)
            · refine lv_iconst (v := nI 0) hx hb dX0_stands_79 (by decide) ?_
              exact hret _ _ _ _ _ (tm, n, w, T, G, K, P, O, F, Qu, U) dX0_stands_80 rfl hP hD hS ⟨rfl, (gl_st_b hW hlo (fun j h1 h2 => hhi j (by omega) h2) c3 c4).symm⟩
            · refine lv_iconst (v := nI 1) hx hb dX0_stands_75 (by decide) ?_
              refine lv_goto (tgt := 80) hx hb dX0_stands_76 (by decide) ?_
              exact hret _ _ _ _ _ (tm, n, w, T, G, K, P, O, F, Qu, U) dX0_stands_80 rfl hP hD hS ⟨rfl, (gl_st_1 c3 c4).symm⟩
        · have hh := gl_half c0 hsz c1
          refine lv_iload_n hx hb dX0_stands_22 rfl (lv_at hl 2 rfl) ?_
          refine lv_iload_n hx hb dX0_stands_23 rfl (lv_at hl 3 rfl) ?_
          refine kx_iadd (v := nI (lo + hi)) hx hb dX0_stands_24 (nI_add _ _) ?_
          refine lv_iconst (v := nI 2) hx hb dX0_stands_25 (by decide) ?_
          refine kx_idiv (v := nI ((lo + hi) / 2)) hx hb dX0_stands_26 (by decide) (pk_div (by omega) (by decide) (by decide)) ?_
          refine lv_istore (lv' := [(5, .int (nI ((lo + hi) / 2))), (0, .ref h), (1, .int t), (2, .int (nI lo)), (3, .int (nI hi)), (4, .int (nI i))]) hx hb dX0_stands_27 hl (by decide) rfl (fun ls hl => ?_)
          refine lv_aload_n hx hb dX0_stands_29 rfl (lv_at hl 1 rfl) ?_
          refine gx_get hx hb hts hown hK hP 2 (by decide) q23 rfl rfl dX0_stands_30 ?_
          refine lv_iload hx hb dX0_stands_33 (lv_at hl 0 rfl) ?_
          refine kx_ild hx hb hK hP 1 0 rfl rfl (by omega) (by decide) dX0_stands_35 ?_
          refine lv_iload_n hx hb dX0_stands_36 rfl (lv_at hl 2 rfl) ?_
          refine lv_icmp_ge (tgt := 48) hx hb dX0_stands_37 (by decide) (fun c2 => ?_) (fun c2 => ?_)
          · refine lv_iload hx hb dX0_stands_48 (lv_at hl 0 rfl) ?_
            refine lv_istore_n (lv' := [(3, .int (nI ((lo + hi) / 2))), (5, .int (nI ((lo + hi) / 2))), (0, .ref h), (1, .int t), (2, .int (nI lo)), (4, .int (nI i))]) hx hb dX0_stands_50 rfl hl (by decide) rfl (fun ls hl => ?_)
            refine lv_iinc (v := nI (i + 1)) (lv' := [(4, .int (nI (i + 1))), (3, .int (nI ((lo + hi) / 2))), (5, .int (nI ((lo + hi) / 2))), (0, .ref h), (1, .int t), (2, .int (nI lo))]) hx hb dX0_stands_51 hl (k := 5) rfl (kx_inc _) (by decide) rfl (fun ls hl => ?_)
            refine lv_goto (tgt := 10) hx hb dX0_stands_54 (by decide) ?_
            exact ih (i + 1) lo ((lo + hi) / 2) H locs ls (by omega) (by omega) hP hD hS (lv_sub hl [3, 4, 5, 1, 0] rfl) (by omega) (by omega) hlo (fun j h1 h2 => Int32.le_trans c2 (hW.le h2 h1)) hh.1
          · refine lv_iload hx hb dX0_stands_40 (lv_at hl 0 rfl) ?_
            refine lv_iconst (v := nI 1) hx hb dX0_stands_42 (by decide) ?_
            refine kx_iadd (v := nI ((lo + hi) / 2 + 1)) hx hb dX0_stands_43 (nI_1 _) ?_
            refine lv_istore_n (lv' := [(2, .int (nI ((lo + hi) / 2 + 1))), (5, .int (nI ((lo + hi) / 2))), (0, .ref h), (1, .int t), (3, .int (nI hi)), (4, .int (nI i))]) hx hb dX0_stands_44 rfl hl (by decide) rfl (fun ls hl => ?_)
            refine lv_goto (tgt := 51) hx hb dX0_stands_45 (by decide) ?_
            refine lv_iinc (v := nI (i + 1)) (lv' := [(4, .int (nI (i + 1))), (2, .int (nI ((lo + hi) / 2 + 1))), (5, .int (nI ((lo + hi) / 2))), (0, .ref h), (1, .int t), (3, .int (nI hi))]) hx hb dX0_stands_51 hl (k := 5) rfl (kx_inc _) (by decide) rfl (fun ls hl => ?_)
            refine lv_goto (tgt := 10) hx hb dX0_stands_54 (by decide) ?_
            exact ih (i + 1) ((lo + hi) / 2 + 1) hi H locs ls (by omega) (by omega) hP hD hS (lv_sub hl [3, 4, 1, 5, 0] rfl) (by omega) (by omega) (fun j h1 => Int32.lt_of_le_of_lt (hW.le (i := j) (j := (lo + hi) / 2) (by omega) (by omega)) (Int32.not_le.mp c2)) hhi hh.2
  exact loop 8 0 0 n H locs ls (by omega) (by omega) hP hD hS (lv_sub hl [3, 4, 2, 1, 0] rfl) (by omega) (by omega) lt_0 (fun j h1 h2 => absurd h1 (by omega)) (by show n - 0 < 128; omega)
end
section
/-! GrantLedger: grant, reach, revoke, expel -/
set_option maxHeartbeats 4000000 in
set_option maxRecDepth 100000 in
theorem cX_grant (l : Launch) (D : va_G) (cI cZ : ClassId) (h : Nat) (a : Nat → Nat) (sz tm n w : Nat) (T G K P : Nat → Int32) (O F : Nat → Bool) (Qu : Nat → Int32) (U : Nat → Bool) (g k p : Int32) (o : Bool) (hW : gl_WF tm n T G K P O) (ht : tm < 2 ^ 31) (hF : ∀ j, j < n → F j = false) : ct_i l D (ty_ cI cZ) yX0_grant cX0_grant 5 .int (rm_ 1) (gx_w cI cZ h a) (tm, n, w, T, G, K, P, O, F, Qu, U) sz [.ref h, .int g, .int k, .int p, .int (bZ o)] (fun r v => (gl_gc n K P O g k p = 0 ∧ r = -1 ∧ v = (tm, n, w, T, G, K, P, O, F, Qu, U)) ∨ (gl_gc n K P O g k p = 1 ∧ r = -2 ∧ v = (tm, n, w, T, G, K, P, O, F, Qu, U)) ∨ (gl_gc n K P O g k p = 2 ∧ r = nI tm ∧ v = (tm + 1, n + 1, w, va_up T n (nI tm), va_up G n g, va_up K n k, va_up P n p, va_up O n o, va_up F n false, Qu, U))) := by
  refine en_i (by decide) (Nat.le_of_ble_eq_true rfl) ?_
  intro pr e s m ar below meth c A Q C0 hK hret H locs ls hP hD hS hl
  obtain ⟨hx, hb, hml, hown, hts, hA⟩ := C0
  have hown : s.vm.findClass RX0 = some m.cls := hown
  have hP : va_P D vwCl (gx_W cI cZ h a tm n w T G K P O F Qu U) H := hP
  have hD : va_D A (gx_W cI cZ h a tm n w T G K P O F Qu U) := hD
  have hl : lv_has ls 5 [(0, .ref h), (1, .int g), (2, .int k), (3, .int p), (4, .int (bZ o))] := hl
  have hn : n ≤ 48 := hW.1
  have hT : ∀ j, j < n → 0 ≤ T j := fun j hj => hW.pos ht hj
  refine lv_iload_n hx hb dX0_grant_0 rfl (lv_at hl 1 rfl) ?_
  refine ca_s (cX_isUser l D _ g) ⟨hx, hb, hml, hown, hts⟩ (va_cwS 1 hts (lw_S q61 q62 q11 q63) rfl rfl rfl (by decide +kernel) ⟨by decide, by decide⟩) hK hP hS hA rfl hl.1 rfl (Nat.le_of_ble_eq_true rfl) dX0_grant_1 ⟨Nat.zero_le _, Nat.zero_le _⟩ (fun r H locs hq hP hS => ?_)
  subst hq
  refine kx_ifeq (tgt := 39) hx hb dX0_grant_4 (by decide) (fun c1 => ?_) (fun c1 => ?_)
  · refine lv_iconst (v := (-1)) hx hb dX0_grant_39 (by decide) ?_
    exact hret _ _ _ _ _ (tm, n, w, T, G, K, P, O, F, Qu, U) dX0_grant_40 rfl hP hD hS (Or.inl ⟨by simp [gl_gc, c1], rfl, rfl⟩)
  · refine lv_iload_n hx hb dX0_grant_7 rfl (lv_at hl 2 rfl) ?_
    refine ca_s (cX_isUser l D _ k) ⟨hx, hb, hml, hown, hts⟩ (va_cwS 1 hts (lw_S q61 q62 q11 q63) rfl rfl rfl (by decide +kernel) ⟨by decide, by decide⟩) hK hP hS hA rfl hl.1 rfl (Nat.le_of_ble_eq_true rfl) dX0_grant_8 ⟨Nat.zero_le _, Nat.zero_le _⟩ (fun r H locs hq hP hS => ?_)
    subst hq
    refine kx_ifeq (tgt := 39) hx hb dX0_grant_11 (by decide) (fun c2 => ?_) (fun c2 => ?_)
    · refine lv_iconst (v := (-1)) hx hb dX0_grant_39 (by decide) ?_
      exact hret _ _ _ _ _ (tm, n, w, T, G, K, P, O, F, Qu, U) dX0_grant_40 rfl hP hD hS (Or.inl ⟨by simp [gl_gc, c2], rfl, rfl⟩)
    · refine lv_iload_n hx hb dX0_grant_14 rfl (lv_at hl 1 rfl) ?_
      refine lv_iload_n hx hb dX0_grant_15 rfl (lv_at hl 2 rfl) ?_
      refine lv_icmp_eq (tgt := 39) hx hb dX0_grant_16 (by decide) (fun c3 => ?_) (fun c3 => ?_)
      · refine lv_iconst (v := (-1)) hx hb dX0_grant_39 (by decide) ?_
        exact hret _ _ _ _ _ (tm, n, w, T, G, K, P, O, F, Qu, U) dX0_grant_40 rfl hP hD hS (Or.inl ⟨by simp [gl_gc, c3], rfl, rfl⟩)
      · refine lv_iload_n hx hb dX0_grant_19 rfl (lv_at hl 2 rfl) ?_
        refine lv_if_eq (tgt := 39) hx hb dX0_grant_20 (by decide) (fun c4 => ?_) (fun c4 => ?_)
        · refine lv_iconst (v := (-1)) hx hb dX0_grant_39 (by decide) ?_
          exact hret _ _ _ _ _ (tm, n, w, T, G, K, P, O, F, Qu, U) dX0_grant_40 rfl hP hD hS (Or.inl ⟨by simp [gl_gc, c4], rfl, rfl⟩)
        · refine lv_iload_n hx hb dX0_grant_23 rfl (lv_at hl 3 rfl) ?_
          refine ca_s (cX_isPrivilege l D _ p) ⟨hx, hb, hml, hown, hts⟩ (va_cwS 1 hts (lw_S q64 q65 q11 q66) rfl rfl rfl (by decide +kernel) ⟨by decide, by decide⟩) hK hP hS hA rfl hl.1 rfl (Nat.le_of_ble_eq_true rfl) dX0_grant_24 ⟨Nat.zero_le _, Nat.zero_le _⟩ (fun r H locs hq hP hS => ?_)
          subst hq
          refine kx_ifeq (tgt := 39) hx hb dX0_grant_27 (by decide) (fun c5 => ?_) (fun c5 => ?_)
          · refine lv_iconst (v := (-1)) hx hb dX0_grant_39 (by decide) ?_
            exact hret _ _ _ _ _ (tm, n, w, T, G, K, P, O, F, Qu, U) dX0_grant_40 rfl hP hD hS (Or.inl ⟨by simp [gl_gc, c5], rfl, rfl⟩)
          · refine lv_aload_n hx hb dX0_grant_30 rfl (lv_at hl 0 rfl) ?_
            refine gx_get hx hb hts hown hK hP 1 (by decide) q22 rfl rfl dX0_grant_31 ?_
            refine lv_bipush (v := nI 48) hx hb dX0_grant_34 (by decide) ?_
            refine lv_icmp_lt (tgt := 41) hx hb dX0_grant_36 (by decide) (fun c6 => ?_) (fun c6 => ?_)
            · have hn48 : n < 48 := (nI_ltI (by omega) (by decide)).mp c6
              refine lv_iload_n hx hb dX0_grant_41 rfl (lv_at hl 1 rfl) ?_
              refine lv_if_eq (tgt := 57) hx hb dX0_grant_42 (by decide) (fun c7 => ?_) (fun c7 => ?_)
              · refine lv_aload_n hx hb dX0_grant_57 rfl (lv_at hl 0 rfl) ?_
                refine gx_get hx hb hts hown hK hP 2 (by decide) q23 rfl rfl dX0_grant_58 ?_
                refine lv_aload_n hx hb dX0_grant_61 rfl (lv_at hl 0 rfl) ?_
                refine gx_get hx hb hts hown hK hP 1 (by decide) q22 rfl rfl dX0_grant_62 ?_
                refine lv_aload_n hx hb dX0_grant_65 rfl (lv_at hl 0 rfl) ?_
                refine gx_get hx hb hts hown hK hP 0 (by decide) q21 rfl rfl dX0_grant_66 ?_
                refine kx_ist hx hb hK hP hD hS 1 0 rfl rfl (by omega) (by decide) dX0_grant_69 (fun H locs hP hD hS => ?_)
                have hP : va_P D vwCl (gx_W cI cZ h a tm n w (va_up T n (nI tm)) G K P O F Qu U) H := hP
                have hD : va_D A (gx_W cI cZ h a tm n w (va_up T n (nI tm)) G K P O F Qu U) := hD
                refine lv_aload_n hx hb dX0_grant_70 rfl (lv_at hl 0 rfl) ?_
                refine gx_get hx hb hts hown hK hP 3 (by decide) q24 rfl rfl dX0_grant_71 ?_
                refine lv_aload_n hx hb dX0_grant_74 rfl (lv_at hl 0 rfl) ?_
                refine gx_get hx hb hts hown hK hP 1 (by decide) q22 rfl rfl dX0_grant_75 ?_
                refine lv_iload_n hx hb dX0_grant_78 rfl (lv_at hl 1 rfl) ?_
                refine kx_ist hx hb hK hP hD hS 2 0 rfl rfl (by omega) (by decide) dX0_grant_79 (fun H locs hP hD hS => ?_)
                have hP : va_P D vwCl (gx_W cI cZ h a tm n w (va_up T n (nI tm)) (va_up G n g) K P O F Qu U) H := hP
                have hD : va_D A (gx_W cI cZ h a tm n w (va_up T n (nI tm)) (va_up G n g) K P O F Qu U) := hD
                refine lv_aload_n hx hb dX0_grant_80 rfl (lv_at hl 0 rfl) ?_
                refine gx_get hx hb hts hown hK hP 4 (by decide) q25 rfl rfl dX0_grant_81 ?_
                refine lv_aload_n hx hb dX0_grant_84 rfl (lv_at hl 0 rfl) ?_
                refine gx_get hx hb hts hown hK hP 1 (by decide) q22 rfl rfl dX0_grant_85 ?_
                refine lv_iload_n hx hb dX0_grant_88 rfl (lv_at hl 2 rfl) ?_
                refine kx_ist hx hb hK hP hD hS 3 0 rfl rfl (by omega) (by decide) dX0_grant_89 (fun H locs hP hD hS => ?_)
                have hP : va_P D vwCl (gx_W cI cZ h a tm n w (va_up T n (nI tm)) (va_up G n g) (va_up K n k) P O F Qu U) H := hP
                have hD : va_D A (gx_W cI cZ h a tm n w (va_up T n (nI tm)) (va_up G n g) (va_up K n k) P O F Qu U) := hD
                refine lv_aload_n hx hb dX0_grant_90 rfl (lv_at hl 0 rfl) ?_
                refine gx_get hx hb hts hown hK hP 5 (by decide) q26 rfl rfl dX0_grant_91 ?_
                refine lv_aload_n hx hb dX0_grant_94 rfl (lv_at hl 0 rfl) ?_
                refine gx_get hx hb hts hown hK hP 1 (by decide) q22 rfl rfl dX0_grant_95 ?_
                refine lv_iload_n hx hb dX0_grant_98 rfl (lv_at hl 3 rfl) ?_
                refine kx_ist hx hb hK hP hD hS 4 0 rfl rfl (by omega) (by decide) dX0_grant_99 (fun H locs hP hD hS => ?_)
                have hP : va_P D vwCl (gx_W cI cZ h a tm n w (va_up T n (nI tm)) (va_up G n g) (va_up K n k) (va_up P n p) O F Qu U) H := hP
                have hD : va_D A (gx_W cI cZ h a tm n w (va_up T n (nI tm)) (va_up G n g) (va_up K n k) (va_up P n p) O F Qu U) := hD
                refine lv_aload_n hx hb dX0_grant_100 rfl (lv_at hl 0 rfl) ?_
                refine gx_get hx hb hts hown hK hP 6 (by decide) q27 rfl rfl dX0_grant_101 ?_
                refine lv_aload_n hx hb dX0_grant_104 rfl (lv_at hl 0 rfl) ?_
                refine gx_get hx hb hts hown hK hP 1 (by decide) q22 rfl rfl dX0_grant_105 ?_
                refine lv_iload hx hb dX0_grant_108 (lv_at hl 4 rfl) ?_
                refine kx_zst (v := o) hx hb hK hP hD hS 5 1 rfl rfl rfl (by omega) (by decide) dX0_grant_110 (fun H locs hP hD hS => ?_)
                have hP : va_P D vwCl (gx_W cI cZ h a tm n w (va_up T n (nI tm)) (va_up G n g) (va_up K n k) (va_up P n p) (va_up O n o) F Qu U) H := hP
                have hD : va_D A (gx_W cI cZ h a tm n w (va_up T n (nI tm)) (va_up G n g) (va_up K n k) (va_up P n p) (va_up O n o) F Qu U) := hD
                refine lv_aload_n hx hb dX0_grant_111 rfl (lv_at hl 0 rfl) ?_
                refine gx_get hx hb hts hown hK hP 7 (by decide) q28 rfl rfl dX0_grant_112 ?_
                refine lv_aload_n hx hb dX0_grant_115 rfl (lv_at hl 0 rfl) ?_
                refine gx_get hx hb hts hown hK hP 1 (by decide) q22 rfl rfl dX0_grant_116 ?_
                refine lv_iconst (v := nI 0) hx hb dX0_grant_119 (by decide) ?_
                refine kx_zst (v := false) hx hb hK hP hD hS 6 1 rfl rfl rfl (by omega) (by decide) dX0_grant_120 (fun H locs hP hD hS => ?_)
                have hP : va_P D vwCl (gx_W cI cZ h a tm n w (va_up T n (nI tm)) (va_up G n g) (va_up K n k) (va_up P n p) (va_up O n o) (va_up F n false) Qu U) H := hP
                have hD : va_D A (gx_W cI cZ h a tm n w (va_up T n (nI tm)) (va_up G n g) (va_up K n k) (va_up P n p) (va_up O n o) (va_up F n false) Qu U) := hD
                refine lv_aload_n hx hb dX0_grant_121 rfl (lv_at hl 0 rfl) ?_
                refine lv_dup hx hb dX0_grant_122 rfl ?_
                refine gx_get hx hb hts hown hK hP 1 (by decide) q22 rfl rfl dX0_grant_123 ?_
                refine lv_iconst (v := nI 1) hx hb dX0_grant_126 (by decide) ?_
                refine kx_iadd (v := nI (n + 1)) hx hb dX0_grant_127 (nI_1 n) ?_
                refine gx_put hx hb hts hown hK hP hD hS 1 (by decide) q22 rfl rfl (by decide +kernel) dX0_grant_128 (fun H locs hP hD hS => ?_)
                have hP : va_P D vwCl (gx_W cI cZ h a tm (n + 1) w (va_up T n (nI tm)) (va_up G n g) (va_up K n k) (va_up P n p) (va_up O n o) (va_up F n false) Qu U) H := hP
                have hD : va_D A (gx_W cI cZ h a tm (n + 1) w (va_up T n (nI tm)) (va_up G n g) (va_up K n k) (va_up P n p) (va_up O n o) (va_up F n false) Qu U) := hD
                refine lv_aload_n hx hb dX0_grant_131 rfl (lv_at hl 0 rfl) ?_
                refine lv_dup hx hb dX0_grant_132 rfl ?_
                refine gx_get hx hb hts hown hK hP 0 (by decide) q21 rfl rfl dX0_grant_133 ?_
                refine lv_iconst (v := nI 1) hx hb dX0_grant_136 (by decide) ?_
                refine kx_iadd (v := nI (tm + 1)) hx hb dX0_grant_137 (nI_1 tm) ?_
                refine gx_put hx hb hts hown hK hP hD hS 0 (by decide) q21 rfl rfl (by decide +kernel) dX0_grant_138 (fun H locs hP hD hS => ?_)
                have hP : va_P D vwCl (gx_W cI cZ h a (tm + 1) (n + 1) w (va_up T n (nI tm)) (va_up G n g) (va_up K n k) (va_up P n p) (va_up O n o) (va_up F n false) Qu U) H := hP
                have hD : va_D A (gx_W cI cZ h a (tm + 1) (n + 1) w (va_up T n (nI tm)) (va_up G n g) (va_up K n k) (va_up P n p) (va_up O n o) (va_up F n false) Qu U) := hD
                refine lv_aload_n hx hb dX0_grant_141 rfl (lv_at hl 0 rfl) ?_
                refine gx_get hx hb hts hown hK hP 0 (by decide) q21 rfl rfl dX0_grant_142 ?_
                refine lv_iconst (v := nI 1) hx hb dX0_grant_145 (by decide) ?_
                refine kx_isub (v := nI tm) hx hb dX0_grant_146 (nI_pred _) ?_
                exact hret _ _ _ _ _ (tm + 1, n + 1, w, va_up T n (nI tm), va_up G n g, va_up K n k, va_up P n p, va_up O n o, va_up F n false, Qu, U) dX0_grant_147 rfl hP hD hS (Or.inr (Or.inr ⟨by simp only [gl_gc, c1, c2, decide_eq_false c3, decide_eq_false c4, c5, decide_eq_true hn48, Bool.not_false, Bool.and_self, if_true]; exact if_pos (Or.inl c7), rfl, rfl⟩))
              · refine lv_aload_n hx hb dX0_grant_45 rfl (lv_at hl 0 rfl) ?_
                refine lv_iload_n hx hb dX0_grant_46 rfl (lv_at hl 1 rfl) ?_
                refine lv_iload_n hx hb dX0_grant_47 rfl (lv_at hl 3 rfl) ?_
                refine ca_i (cX_earliest l D cI cZ h a _ tm n w T G K P O F Qu U g p hn) ⟨hx, hb, hml, hown, hts⟩ (cwV 2 hts (lw_V q67 q69 qs0 q11 q70) rfl rfl rfl (by decide +kernel) ⟨by decide, by decide⟩) hK hP hD hS hA (va_recv hK hP (ci := 0) (q0 := 0) rfl rfl) rfl hl.1 rfl (Nat.le_of_ble_eq_true rfl) dX0_grant_48 ⟨Nat.zero_le _, Nat.zero_le _⟩ (fun r v H locs hq hP hD hS => ?_)
                obtain ⟨rfl, hE⟩ := hq
                have hP : va_P D vwCl (gx_W cI cZ h a tm n w T G K P O F Qu U) H := hP
                have hD : va_D A (gx_W cI cZ h a tm n w T G K P O F Qu U) := hD
                have hany := hE.any hF hT
                refine lv_if_ge (tgt := 57) hx hb dX0_grant_51 (by decide) (fun c8 => ?_) (fun c8 => ?_)
                · have hA1 : gl_any (gl_rt K P O g p) n = true := by
                    cases q : gl_any (gl_rt K P O g p) n
                    · exact absurd c8 (Int32.not_le.mpr (hany.mpr q))
                    · rfl
                  refine lv_aload_n hx hb dX0_grant_57 rfl (lv_at hl 0 rfl) ?_
                  refine gx_get hx hb hts hown hK hP 2 (by decide) q23 rfl rfl dX0_grant_58 ?_
                  refine lv_aload_n hx hb dX0_grant_61 rfl (lv_at hl 0 rfl) ?_
                  refine gx_get hx hb hts hown hK hP 1 (by decide) q22 rfl rfl dX0_grant_62 ?_
                  refine lv_aload_n hx hb dX0_grant_65 rfl (lv_at hl 0 rfl) ?_
                  refine gx_get hx hb hts hown hK hP 0 (by decide) q21 rfl rfl dX0_grant_66 ?_
                  refine kx_ist hx hb hK hP hD hS 1 0 rfl rfl (by omega) (by decide) dX0_grant_69 (fun H locs hP hD hS => ?_)
                  have hP : va_P D vwCl (gx_W cI cZ h a tm n w (va_up T n (nI tm)) G K P O F Qu U) H := hP
                  have hD : va_D A (gx_W cI cZ h a tm n w (va_up T n (nI tm)) G K P O F Qu U) := hD
                  refine lv_aload_n hx hb dX0_grant_70 rfl (lv_at hl 0 rfl) ?_
                  refine gx_get hx hb hts hown hK hP 3 (by decide) q24 rfl rfl dX0_grant_71 ?_
                  refine lv_aload_n hx hb dX0_grant_74 rfl (lv_at hl 0 rfl) ?_
                  refine gx_get hx hb hts hown hK hP 1 (by decide) q22 rfl rfl dX0_grant_75 ?_
                  refine lv_iload_n hx hb dX0_grant_78 rfl (lv_at hl 1 rfl) ?_
                  refine kx_ist hx hb hK hP hD hS 2 0 rfl rfl (by omega) (by decide) dX0_grant_79 (fun H locs hP hD hS => ?_)
                  have hP : va_P D vwCl (gx_W cI cZ h a tm n w (va_up T n (nI tm)) (va_up G n g) K P O F Qu U) H := hP
                  have hD : va_D A (gx_W cI cZ h a tm n w (va_up T n (nI tm)) (va_up G n g) K P O F Qu U) := hD
                  refine lv_aload_n hx hb dX0_grant_80 rfl (lv_at hl 0 rfl) ?_
                  refine gx_get hx hb hts hown hK hP 4 (by decide) q25 rfl rfl dX0_grant_81 ?_
                  refine lv_aload_n hx hb dX0_grant_84 rfl (lv_at hl 0 rfl) ?_
                  refine gx_get hx hb hts hown hK hP 1 (by decide) q22 rfl rfl dX0_grant_85 ?_
                  refine lv_iload_n hx hb dX0_grant_88 rfl (lv_at hl 2 rfl) ?_
                  refine kx_ist hx hb hK hP hD hS 3 0 rfl rfl (by omega) (by decide) dX0_grant_89 (fun H locs hP hD hS => ?_)
                  have hP : va_P D vwCl (gx_W cI cZ h a tm n w (va_up T n (nI tm)) (va_up G n g) (va_up K n k) P O F Qu U) H := hP
                  have hD : va_D A (gx_W cI cZ h a tm n w (va_up T n (nI tm)) (va_up G n g) (va_up K n k) P O F Qu U) := hD
                  refine lv_aload_n hx hb dX0_grant_90 rfl (lv_at hl 0 rfl) ?_
                  refine gx_get hx hb hts hown hK hP 5 (by decide) q26 rfl rfl dX0_grant_91 ?_
                  refine lv_aload_n hx hb dX0_grant_94 rfl (lv_at hl 0 rfl) ?_
                  refine gx_get hx hb hts hown hK hP 1 (by decide) q22 rfl rfl dX0_grant_95 ?_
                  refine lv_iload_n hx hb dX0_grant_98 rfl (lv_at hl 3 rfl) ?_
                  refine kx_ist hx hb hK hP hD hS 4 0 rfl rfl (by omega) (by decide) dX0_grant_99 (fun H locs hP hD hS => ?_)
                  have hP : va_P D vwCl (gx_W cI cZ h a tm n w (va_up T n (nI tm)) (va_up G n g) (va_up K n k) (va_up P n p) O F Qu U) H := hP
                  have hD : va_D A (gx_W cI cZ h a tm n w (va_up T n (nI tm)) (va_up G n g) (va_up K n k) (va_up P n p) O F Qu U) := hD
                  refine lv_aload_n hx hb dX0_grant_100 rfl (lv_at hl 0 rfl) ?_
                  refine gx_get hx hb hts hown hK hP 6 (by decide) q27 rfl rfl dX0_grant_101 ?_
                  refine lv_aload_n hx hb dX0_grant_104 rfl (lv_at hl 0 rfl) ?_
                  refine gx_get hx hb hts hown hK hP 1 (by decide) q22 rfl rfl dX0_grant_105 ?_
                  refine lv_iload hx hb dX0_grant_108 (lv_at hl 4 rfl) ?_
                  refine kx_zst (v := o) hx hb hK hP hD hS 5 1 rfl rfl rfl (by omega) (by decide) dX0_grant_110 (fun H locs hP hD hS => ?_)
                  have hP : va_P D vwCl (gx_W cI cZ h a tm n w (va_up T n (nI tm)) (va_up G n g) (va_up K n k) (va_up P n p) (va_up O n o) F Qu U) H := hP
                  have hD : va_D A (gx_W cI cZ h a tm n w (va_up T n (nI tm)) (va_up G n g) (va_up K n k) (va_up P n p) (va_up O n o) F Qu U) := hD
                  refine lv_aload_n hx hb dX0_grant_111 rfl (lv_at hl 0 rfl) ?_
                  refine gx_get hx hb hts hown hK hP 7 (by decide) q28 rfl rfl dX0_grant_112 ?_
                  refine lv_aload_n hx hb dX0_grant_115 rfl (lv_at hl 0 rfl) ?_
                  refine gx_get hx hb hts hown hK hP 1 (by decide) q22 rfl rfl dX0_grant_116 ?_
                  refine lv_iconst (v := nI 0) hx hb dX0_grant_119 (by decide) ?_
                  refine kx_zst (v := false) hx hb hK hP hD hS 6 1 rfl rfl rfl (by omega) (by decide) dX0_grant_120 (fun H locs hP hD hS => ?_)
                  have hP : va_P D vwCl (gx_W cI cZ h a tm n w (va_up T n (nI tm)) (va_up G n g) (va_up K n k) (va_up P n p) (va_up O n o) (va_up F n false) Qu U) H := hP
                  have hD : va_D A (gx_W cI cZ h a tm n w (va_up T n (nI tm)) (va_up G n g) (va_up K n k) (va_up P n p) (va_up O n o) (va_up F n false) Qu U) := hD
                  refine lv_aload_n hx hb dX0_grant_121 rfl (lv_at hl 0 rfl) ?_
                  refine lv_dup hx hb dX0_grant_122 rfl ?_
                  refine gx_get hx hb hts hown hK hP 1 (by decide) q22 rfl rfl dX0_grant_123 ?_
                  refine lv_iconst (v := nI 1) hx hb dX0_grant_126 (by decide) ?_
                  refine kx_iadd (v := nI (n + 1)) hx hb dX0_grant_127 (nI_1 n) ?_
                  refine gx_put hx hb hts hown hK hP hD hS 1 (by decide) q22 rfl rfl (by decide +kernel) dX0_grant_128 (fun H locs hP hD hS => ?_)
                  have hP : va_P D vwCl (gx_W cI cZ h a tm (n + 1) w (va_up T n (nI tm)) (va_up G n g) (va_up K n k) (va_up P n p) (va_up O n o) (va_up F n false) Qu U) H := hP
                  have hD : va_D A (gx_W cI cZ h a tm (n + 1) w (va_up T n (nI tm)) (va_up G n g) (va_up K n k) (va_up P n p) (va_up O n o) (va_up F n false) Qu U) := hD
                  refine lv_aload_n hx hb dX0_grant_131 rfl (lv_at hl 0 rfl) ?_
                  refine lv_dup hx hb dX0_grant_132 rfl ?_
                  refine gx_get hx hb hts hown hK hP 0 (by decide) q21 rfl rfl dX0_grant_133 ?_
                  refine lv_iconst (v := nI 1) hx hb dX0_grant_136 (by decide) ?_
                  refine kx_iadd (v := nI (tm + 1)) hx hb dX0_grant_137 (nI_1 tm) ?_
                  refine gx_put hx hb hts hown hK hP hD hS 0 (by decide) q21 rfl rfl (by decide +kernel) dX0_grant_138 (fun H locs hP hD hS => ?_)
                  have hP : va_P D vwCl (gx_W cI cZ h a (tm + 1) (n + 1) w (va_up T n (nI tm)) (va_up G n g) (va_up K n k) (va_up P n p) (va_up O n o) (va_up F n false) Qu U) H := hP
                  have hD : va_D A (gx_W cI cZ h a (tm + 1) (n + 1) w (va_up T n (nI tm)) (va_up G n g) (va_up K n k) (va_up P n p) (va_up O n o) (va_up F n false) Qu U) := hD
                  refine lv_aload_n hx hb dX0_grant_141 rfl (lv_at hl 0 rfl) ?_
                  refine gx_get hx hb hts hown hK hP 0 (by decide) q21 rfl rfl dX0_grant_142 ?_
                  refine lv_iconst (v := nI 1) hx hb dX0_grant_145 (by decide) ?_
                  refine kx_isub (v := nI tm) hx hb dX0_grant_146 (nI_pred _) ?_
                  exact hret _ _ _ _ _ (tm + 1, n + 1, w, va_up T n (nI tm), va_up G n g, va_up K n k, va_up P n p, va_up O n o, va_up F n false, Qu, U) dX0_grant_147 rfl hP hD hS (Or.inr (Or.inr ⟨by simp only [gl_gc, c1, c2, decide_eq_false c3, decide_eq_false c4, c5, decide_eq_true hn48, Bool.not_false, Bool.and_self, if_true]; exact if_pos (Or.inr hA1), rfl, rfl⟩))
                · refine lv_bipush (v := (-2)) hx hb dX0_grant_54 (by decide) ?_
                  exact hret _ _ _ _ _ (tm, n, w, T, G, K, P, O, F, Qu, U) dX0_grant_56 rfl hP hD hS (Or.inr (Or.inl ⟨by simp only [gl_gc, c1, c2, decide_eq_false c3, decide_eq_false c4, c5, decide_eq_true hn48, Bool.not_false, Bool.and_self, if_true]; exact if_neg (fun q => q.elim c7 (fun q => by rw [hany.mp (Int32.not_le.mp c8)] at q; cases q)), rfl, rfl⟩))
            · have hn48 : ¬ n < 48 := fun q => c6 ((nI_ltI (by omega) (by decide)).mpr q)
              refine lv_iconst (v := (-1)) hx hb dX0_grant_39 (by decide) ?_
              exact hret _ _ _ _ _ (tm, n, w, T, G, K, P, O, F, Qu, U) dX0_grant_40 rfl hP hD hS (Or.inl ⟨by simp [gl_gc, hn48], rfl, rfl⟩)
set_option maxHeartbeats 4000000 in
set_option maxRecDepth 100000 in
theorem cX_reach (l : Launch) (D : va_G) (cI cZ : ClassId) (h : Nat) (a : Nat → Nat) (sz tm n : Nat) (T G K P : Nat → Int32) (O F : Nat → Bool) (Qu : Nat → Int32) (U : Nat → Bool) (g k p : Int32) (hW : gl_WF tm n T G K P O) (ht : tm < 2 ^ 31) (hU : ∀ x, x < 24 → U x = false) : ct_i l D (ty_ cI cZ) yX0_reach cX0_reach 6 .int (rm_ 3) (gx_w cI cZ h a) (tm, n, 0, T, G, K, P, O, F, Qu, U) sz [.ref h, .int g, .int k, .int p] (fun r v => (gl_ok3 g k p = false ∧ r = -1 ∧ v = (tm, n, 0, T, G, K, P, O, F, Qu, U)) ∨ (gl_ok3 g k p = true ∧ r = nI (gl_cnt (fun i => !(gl_ks G K P O (fun i => !gl_mk G K P g k p i) n) i) n) ∧ ∃ (F' : Nat → Bool) (Qu' : Nat → Int32) (U' : Nat → Bool), v = (tm, n, 0, T, G, K, P, O, F', Qu', U') ∧ (∀ x, x < 24 → U' x = false) ∧ ∀ j, j < n → F' j = false)) := by
  refine en_i (by decide) (Nat.le_of_ble_eq_true rfl) ?_
  intro pr e s m ar below meth c A Q C0 hK hret H locs ls hP hD hS hl
  obtain ⟨hx, hb, hml, hown, hts, hA⟩ := C0
  have hown : s.vm.findClass RX0 = some m.cls := hown
  have hP : va_P D vwCl (gx_W cI cZ h a tm n 0 T G K P O F Qu U) H := hP
  have hD : va_D A (gx_W cI cZ h a tm n 0 T G K P O F Qu U) := hD
  have hl : lv_has ls 6 [(0, .ref h), (1, .int g), (2, .int k), (3, .int p)] := hl
  have hn : n ≤ 48 := hW.1
  refine lv_iload_n hx hb dX0_reach_0 rfl (lv_at hl 1 rfl) ?_
  refine ca_s (cX_isUser l D _ g) ⟨hx, hb, hml, hown, hts⟩ (va_cwS 1 hts (lw_S q61 q62 q11 q63) rfl rfl rfl (by decide +kernel) ⟨by decide, by decide⟩) hK hP hS hA rfl hl.1 rfl (Nat.le_of_ble_eq_true rfl) dX0_reach_1 ⟨Nat.zero_le _, Nat.zero_le _⟩ (fun r H locs hq hP hS => ?_)
  subst hq
  refine kx_ifeq (tgt := 21) hx hb dX0_reach_4 (by decide) (fun c1 => ?_) (fun c1 => ?_)
  · refine lv_iconst (v := (-1)) hx hb dX0_reach_21 (by decide) ?_
    exact hret _ _ _ _ _ (tm, n, 0, T, G, K, P, O, F, Qu, U) dX0_reach_22 rfl hP hD hS (Or.inl ⟨ok3_f (Or.inl c1), rfl, rfl⟩)
  · refine lv_iload_n hx hb dX0_reach_7 rfl (lv_at hl 2 rfl) ?_
    refine ca_s (cX_isUser l D _ k) ⟨hx, hb, hml, hown, hts⟩ (va_cwS 1 hts (lw_S q61 q62 q11 q63) rfl rfl rfl (by decide +kernel) ⟨by decide, by decide⟩) hK hP hS hA rfl hl.1 rfl (Nat.le_of_ble_eq_true rfl) dX0_reach_8 ⟨Nat.zero_le _, Nat.zero_le _⟩ (fun r H locs hq hP hS => ?_)
    subst hq
    refine kx_ifeq (tgt := 21) hx hb dX0_reach_11 (by decide) (fun c2 => ?_) (fun c2 => ?_)
    · refine lv_iconst (v := (-1)) hx hb dX0_reach_21 (by decide) ?_
      exact hret _ _ _ _ _ (tm, n, 0, T, G, K, P, O, F, Qu, U) dX0_reach_22 rfl hP hD hS (Or.inl ⟨ok3_f (Or.inr (Or.inl c2)), rfl, rfl⟩)
    · refine lv_iload_n hx hb dX0_reach_14 rfl (lv_at hl 3 rfl) ?_
      refine ca_s (cX_isPrivilege l D _ p) ⟨hx, hb, hml, hown, hts⟩ (va_cwS 1 hts (lw_S q64 q65 q11 q66) rfl rfl rfl (by decide +kernel) ⟨by decide, by decide⟩) hK hP hS hA rfl hl.1 rfl (Nat.le_of_ble_eq_true rfl) dX0_reach_15 ⟨Nat.zero_le _, Nat.zero_le _⟩ (fun r H locs hq hP hS => ?_)
      subst hq
      refine kx_ifne (tgt := 23) hx hb dX0_reach_18 (by decide) (fun c3 => ?_) (fun c3 => ?_)
      · refine lv_aload_n hx hb dX0_reach_23 rfl (lv_at hl 0 rfl) ?_
        refine lv_iload_n hx hb dX0_reach_24 rfl (lv_at hl 1 rfl) ?_
        refine lv_iload_n hx hb dX0_reach_25 rfl (lv_at hl 2 rfl) ?_
        refine lv_iload_n hx hb dX0_reach_26 rfl (lv_at hl 3 rfl) ?_
        refine ca_v (cX_mark l D cI cZ h a _ tm n 0 T G K P O F Qu U (0 + n) g k p hW (gl_QS.zero hU) rfl) ⟨hx, hb, hml, hown, hts⟩ (cwV 3 hts (lw_V q75 q77 qs1 q11 q78) rfl rfl rfl (by decide +kernel) ⟨by decide, by decide⟩) hK hP hD hS hA (va_recv hK hP (ci := 0) (q0 := 0) rfl rfl) rfl hl.1 rfl (Nat.le_of_ble_eq_true rfl) dX0_reach_27 ⟨Nat.zero_le _, Nat.zero_le _⟩ (fun v H locs hq hP hD hS => ?_)
        obtain ⟨w1, F1, Qu1, U1, rfl, hM⟩ := hq
        have hP : va_P D vwCl (gx_W cI cZ h a tm n w1 T G K P O F1 Qu1 U1) H := hP
        have hD : va_D A (gx_W cI cZ h a tm n w1 T G K P O F1 Qu1 U1) := hD
        refine lv_aload_n hx hb dX0_reach_30 rfl (lv_at hl 0 rfl) ?_
        refine ca_v (cX_spread l D cI cZ h a _ tm n w1 T G K P O F1 Qu1 U1 (0 + n) (fun i => !gl_mk G K P g k p i) hW ht (by omega) hM.I) ⟨hx, hb, hml, hown, hts⟩ (cwV 0 hts (lw_V q87 q89 qs4 q11 q90) rfl rfl rfl (by decide +kernel) ⟨by decide, by decide⟩) hK hP hD hS hA (va_recv hK hP (ci := 0) (q0 := 0) rfl rfl) rfl hl.1 rfl (Nat.le_of_ble_eq_true rfl) dX0_reach_31 ⟨Nat.zero_le _, Nat.zero_le _⟩ (fun v H locs hq hP hD hS => ?_)
        obtain ⟨F2, Qu2, U2, rfl, hU2, hF2⟩ := hq
        have hP : va_P D vwCl (gx_W cI cZ h a tm n 0 T G K P O F2 Qu2 U2) H := hP
        have hD : va_D A (gx_W cI cZ h a tm n 0 T G K P O F2 Qu2 U2) := hD
        refine lv_iconst (v := nI 0) hx hb dX0_reach_34 (by decide) ?_
        refine lv_istore (lv' := [(4, .int (nI 0)), (0, .ref h), (1, .int g), (2, .int k), (3, .int p)]) hx hb dX0_reach_35 hl (by decide) rfl (fun ls hl => ?_)
        refine lv_iconst (v := nI 0) hx hb dX0_reach_37 (by decide) ?_
        refine lv_istore (lv' := [(5, .int (nI 0)), (4, .int (nI 0)), (0, .ref h), (1, .int g), (2, .int k), (3, .int p)]) hx hb dX0_reach_38 hl (by decide) rfl (fun ls hl => ?_)
        have loop : ∀ (N i : Nat) (H : Heap) (locs : List Loc) (ls : Array Slot), i ≤ n → n < i + N → va_P D vwCl (gx_W cI cZ h a tm n 0 T G K P O F2 Qu2 U2) H → va_D A (gx_W cI cZ h a tm n 0 T G K P O F2 Qu2 U2) → va_S A s.heap H locs → lv_has ls 6 [(0, .ref h), (1, .int g), (2, .int k), (3, .int p), (4, .int (nI (gl_cnt F2 i))), (5, .int (nI i))] → W pr l e (rm_ 3) s m ar below meth c H locs 0 0 Q (F0 m 40 ls []) := by
          intro N
          induction N with
          | zero =>
            intro i  H locs ls h1 h2
            exact absurd h2 (by omega)
          | succ N ih =>
            intro i  H locs ls hi hN hP hD hS hl 
            refine lv_iload hx hb dX0_reach_40 (lv_at hl 5 rfl) ?_
            refine lv_aload_n hx hb dX0_reach_42 rfl (lv_at hl 0 rfl) ?_
            refine gx_get hx hb hts hown hK hP 1 (by decide) q22 rfl rfl dX0_reach_43 ?_
            refine kx_ge (tgt := 75) hx hb dX0_reach_46 (by decide) (by omega) (by omega) (fun c0 => ?_) (fun c0 => ?_)
            · obtain rfl : n = i := by omega
              refine lv_aload_n hx hb dX0_reach_75 rfl (lv_at hl 0 rfl) ?_
              refine ca_v (cX_clearMarks l D cI cZ h a _ tm n 0 T G K P O F2 Qu2 U2 hn) ⟨hx, hb, hml, hown, hts⟩ (cwV 0 hts (lw_V q79 q81 qs2 q11 q82) rfl rfl rfl (by decide +kernel) ⟨by decide, by decide⟩) hK hP hD hS hA (va_recv hK hP (ci := 0) (q0 := 0) rfl rfl) rfl hl.1 rfl (Nat.le_of_ble_eq_true rfl) dX0_reach_76 ⟨Nat.zero_le _, Nat.zero_le _⟩ (fun v H locs hq hP hD hS => ?_)
              obtain ⟨F3, rfl, hF0⟩ := hq
              have hP : va_P D vwCl (gx_W cI cZ h a tm n 0 T G K P O F3 Qu2 U2) H := hP
              have hD : va_D A (gx_W cI cZ h a tm n 0 T G K P O F3 Qu2 U2) := hD
              refine lv_iload hx hb dX0_reach_79 (lv_at hl 4 rfl) ?_
              exact hret _ _ _ _ _ (tm, n, 0, T, G, K, P, O, F3, Qu2, U2) dX0_reach_81 rfl hP hD hS (Or.inr ⟨ok3_t c1 c2 c3, by rw [gl_cnt_congr n hF2], F3, Qu2, U2, rfl, hU2, hF0⟩)
            · refine lv_iload hx hb dX0_reach_49 (lv_at hl 4 rfl) ?_
              refine lv_aload_n hx hb dX0_reach_51 rfl (lv_at hl 0 rfl) ?_
              refine gx_get hx hb hts hown hK hP 7 (by decide) q28 rfl rfl dX0_reach_52 ?_
              refine lv_iload hx hb dX0_reach_55 (lv_at hl 5 rfl) ?_
              refine kx_zld hx hb hK hP 6 1 rfl rfl (by omega) (by decide) dX0_reach_57 ?_
              refine kx_ifeq (tgt := 65) hx hb dX0_reach_58 (by decide) (fun c4 => ?_) (fun c4 => ?_)
              · refine lv_iconst (v := nI 0) hx hb dX0_reach_65 (by decide) ?_
                refine kx_iadd (v := nI (gl_cnt F2 (i + 1))) hx hb dX0_reach_66 (nI_cf c4) ?_
                refine lv_istore (lv' := [(4, .int (nI (gl_cnt F2 (i + 1)))), (0, .ref h), (1, .int g), (2, .int k), (3, .int p), (5, .int (nI i))]) hx hb dX0_reach_67 hl (by decide) rfl (fun ls hl => ?_)
                refine lv_iinc (v := nI (i + 1)) (lv' := [(5, .int (nI (i + 1))), (4, .int (nI (gl_cnt F2 (i + 1)))), (0, .ref h), (1, .int g), (2, .int k), (3, .int p)]) hx hb dX0_reach_69 hl (k := 5) rfl (kx_inc _) (by decide) rfl (fun ls hl => ?_)
                refine lv_goto (tgt := 40) hx hb dX0_reach_72 (by decide) ?_
                exact ih (i + 1) H locs ls (by omega) (by omega) hP hD hS (lv_sub hl [2, 3, 4, 5, 1, 0] rfl)
              · refine lv_iconst (v := nI 1) hx hb dX0_reach_61 (by decide) ?_
                refine lv_goto (tgt := 66) hx hb dX0_reach_62 (by decide) ?_
                refine kx_iadd (v := nI (gl_cnt F2 (i + 1))) hx hb dX0_reach_66 (nI_ct c4) ?_
                refine lv_istore (lv' := [(4, .int (nI (gl_cnt F2 (i + 1)))), (0, .ref h), (1, .int g), (2, .int k), (3, .int p), (5, .int (nI i))]) hx hb dX0_reach_67 hl (by decide) rfl (fun ls hl => ?_)
                refine lv_iinc (v := nI (i + 1)) (lv' := [(5, .int (nI (i + 1))), (4, .int (nI (gl_cnt F2 (i + 1)))), (0, .ref h), (1, .int g), (2, .int k), (3, .int p)]) hx hb dX0_reach_69 hl (k := 5) rfl (kx_inc _) (by decide) rfl (fun ls hl => ?_)
                refine lv_goto (tgt := 40) hx hb dX0_reach_72 (by decide) ?_
                exact ih (i + 1) H locs ls (by omega) (by omega) hP hD hS (lv_sub hl [2, 3, 4, 5, 1, 0] rfl)
        exact loop (n + 1) 0 H locs ls (by omega) (by omega) hP hD hS (lv_sub hl [2, 3, 4, 5, 1, 0] rfl)
      · refine lv_iconst (v := (-1)) hx hb dX0_reach_21 (by decide) ?_
        exact hret _ _ _ _ _ (tm, n, 0, T, G, K, P, O, F, Qu, U) dX0_reach_22 rfl hP hD hS (Or.inl ⟨ok3_f (Or.inr (Or.inr c3)), rfl, rfl⟩)
set_option maxHeartbeats 4000000 in
set_option maxRecDepth 100000 in
theorem cX_revoke (l : Launch) (D : va_G) (cI cZ : ClassId) (h : Nat) (a : Nat → Nat) (sz tm n : Nat) (T G K P : Nat → Int32) (O F : Nat → Bool) (Qu : Nat → Int32) (U : Nat → Bool) (g k p : Int32) (hW : gl_WF tm n T G K P O) (ht : tm < 2 ^ 31) (hU : ∀ x, x < 24 → U x = false) : ct_i l D (ty_ cI cZ) yX0_revoke cX0_revoke 4 .int (rm_ 3) (gx_w cI cZ h a) (tm, n, 0, T, G, K, P, O, F, Qu, U) sz [.ref h, .int g, .int k, .int p] (fun r v => (gl_ok3 g k p = false ∧ r = -1 ∧ v = (tm, n, 0, T, G, K, P, O, F, Qu, U)) ∨ (gl_ok3 g k p = true ∧ r = nI (n - gl_cnt (gl_ks G K P O (fun i => !gl_mk G K P g k p i) n) n) ∧ ∃ (F' : Nat → Bool) (Qu' : Nat → Int32) (U' : Nat → Bool), v = (tm, gl_cnt (gl_ks G K P O (fun i => !gl_mk G K P g k p i) n) n, 0, gl_ca (gl_ks G K P O (fun i => !gl_mk G K P g k p i) n) T n, gl_ca (gl_ks G K P O (fun i => !gl_mk G K P g k p i) n) G n, gl_ca (gl_ks G K P O (fun i => !gl_mk G K P g k p i) n) K n, gl_ca (gl_ks G K P O (fun i => !gl_mk G K P g k p i) n) P n, gl_ca (gl_ks G K P O (fun i => !gl_mk G K P g k p i) n) O n, F', Qu', U') ∧ (∀ x, x < 24 → U' x = false) ∧ ∀ j, j < gl_cnt (gl_ks G K P O (fun i => !gl_mk G K P g k p i) n) n → F' j = false)) := by
  refine en_i (by decide) (Nat.le_of_ble_eq_true rfl) ?_
  intro pr e s m ar below meth c A Q C0 hK hret H locs ls hP hD hS hl
  obtain ⟨hx, hb, hml, hown, hts, hA⟩ := C0
  have hown : s.vm.findClass RX0 = some m.cls := hown
  have hP : va_P D vwCl (gx_W cI cZ h a tm n 0 T G K P O F Qu U) H := hP
  have hD : va_D A (gx_W cI cZ h a tm n 0 T G K P O F Qu U) := hD
  have hl : lv_has ls 4 [(0, .ref h), (1, .int g), (2, .int k), (3, .int p)] := hl
  have hn : n ≤ 48 := hW.1
  refine lv_iload_n hx hb dX0_revoke_0 rfl (lv_at hl 1 rfl) ?_
  refine ca_s (cX_isUser l D _ g) ⟨hx, hb, hml, hown, hts⟩ (va_cwS 1 hts (lw_S q61 q62 q11 q63) rfl rfl rfl (by decide +kernel) ⟨by decide, by decide⟩) hK hP hS hA rfl hl.1 rfl (Nat.le_of_ble_eq_true rfl) dX0_revoke_1 ⟨Nat.zero_le _, Nat.zero_le _⟩ (fun r H locs hq hP hS => ?_)
  subst hq
  refine kx_ifeq (tgt := 21) hx hb dX0_revoke_4 (by decide) (fun c1 => ?_) (fun c1 => ?_)
  · refine lv_iconst (v := (-1)) hx hb dX0_revoke_21 (by decide) ?_
    exact hret _ _ _ _ _ (tm, n, 0, T, G, K, P, O, F, Qu, U) dX0_revoke_22 rfl hP hD hS (Or.inl ⟨ok3_f (Or.inl c1), rfl, rfl⟩)
  · refine lv_iload_n hx hb dX0_revoke_7 rfl (lv_at hl 2 rfl) ?_
    refine ca_s (cX_isUser l D _ k) ⟨hx, hb, hml, hown, hts⟩ (va_cwS 1 hts (lw_S q61 q62 q11 q63) rfl rfl rfl (by decide +kernel) ⟨by decide, by decide⟩) hK hP hS hA rfl hl.1 rfl (Nat.le_of_ble_eq_true rfl) dX0_revoke_8 ⟨Nat.zero_le _, Nat.zero_le _⟩ (fun r H locs hq hP hS => ?_)
    subst hq
    refine kx_ifeq (tgt := 21) hx hb dX0_revoke_11 (by decide) (fun c2 => ?_) (fun c2 => ?_)
    · refine lv_iconst (v := (-1)) hx hb dX0_revoke_21 (by decide) ?_
      exact hret _ _ _ _ _ (tm, n, 0, T, G, K, P, O, F, Qu, U) dX0_revoke_22 rfl hP hD hS (Or.inl ⟨ok3_f (Or.inr (Or.inl c2)), rfl, rfl⟩)
    · refine lv_iload_n hx hb dX0_revoke_14 rfl (lv_at hl 3 rfl) ?_
      refine ca_s (cX_isPrivilege l D _ p) ⟨hx, hb, hml, hown, hts⟩ (va_cwS 1 hts (lw_S q64 q65 q11 q66) rfl rfl rfl (by decide +kernel) ⟨by decide, by decide⟩) hK hP hS hA rfl hl.1 rfl (Nat.le_of_ble_eq_true rfl) dX0_revoke_15 ⟨Nat.zero_le _, Nat.zero_le _⟩ (fun r H locs hq hP hS => ?_)
      subst hq
      refine kx_ifne (tgt := 23) hx hb dX0_revoke_18 (by decide) (fun c3 => ?_) (fun c3 => ?_)
      · refine lv_aload_n hx hb dX0_revoke_23 rfl (lv_at hl 0 rfl) ?_
        refine lv_iload_n hx hb dX0_revoke_24 rfl (lv_at hl 1 rfl) ?_
        refine lv_iload_n hx hb dX0_revoke_25 rfl (lv_at hl 2 rfl) ?_
        refine lv_iload_n hx hb dX0_revoke_26 rfl (lv_at hl 3 rfl) ?_
        refine ca_v (cX_mark l D cI cZ h a _ tm n 0 T G K P O F Qu U (0 + n) g k p hW (gl_QS.zero hU) rfl) ⟨hx, hb, hml, hown, hts⟩ (cwV 3 hts (lw_V q75 q77 qs1 q11 q78) rfl rfl rfl (by decide +kernel) ⟨by decide, by decide⟩) hK hP hD hS hA (va_recv hK hP (ci := 0) (q0 := 0) rfl rfl) rfl hl.1 rfl (Nat.le_of_ble_eq_true rfl) dX0_revoke_27 ⟨Nat.zero_le _, Nat.zero_le _⟩ (fun v H locs hq hP hD hS => ?_)
        obtain ⟨w1, F1, Qu1, U1, rfl, hM⟩ := hq
        have hP : va_P D vwCl (gx_W cI cZ h a tm n w1 T G K P O F1 Qu1 U1) H := hP
        have hD : va_D A (gx_W cI cZ h a tm n w1 T G K P O F1 Qu1 U1) := hD
        refine lv_aload_n hx hb dX0_revoke_30 rfl (lv_at hl 0 rfl) ?_
        refine ca_v (cX_spread l D cI cZ h a _ tm n w1 T G K P O F1 Qu1 U1 (0 + n) (fun i => !gl_mk G K P g k p i) hW ht (by omega) hM.I) ⟨hx, hb, hml, hown, hts⟩ (cwV 0 hts (lw_V q87 q89 qs4 q11 q90) rfl rfl rfl (by decide +kernel) ⟨by decide, by decide⟩) hK hP hD hS hA (va_recv hK hP (ci := 0) (q0 := 0) rfl rfl) rfl hl.1 rfl (Nat.le_of_ble_eq_true rfl) dX0_revoke_31 ⟨Nat.zero_le _, Nat.zero_le _⟩ (fun v H locs hq hP hD hS => ?_)
        obtain ⟨F2, Qu2, U2, rfl, hU2, hF2⟩ := hq
        have hP : va_P D vwCl (gx_W cI cZ h a tm n 0 T G K P O F2 Qu2 U2) H := hP
        have hD : va_D A (gx_W cI cZ h a tm n 0 T G K P O F2 Qu2 U2) := hD
        refine lv_aload_n hx hb dX0_revoke_34 rfl (lv_at hl 0 rfl) ?_
        refine ca_i (cX_sweep l D cI cZ h a _ tm n 0 T G K P O F2 Qu2 U2 (gl_ks G K P O (fun i => !gl_mk G K P g k p i) n) hn (fun j hj => by rw [hF2 j hj, Bool.not_not])) ⟨hx, hb, hml, hown, hts⟩ (cwV 0 hts (lw_V q95 q97 qs6 q11 q98) rfl rfl rfl (by decide +kernel) ⟨by decide, by decide⟩) hK hP hD hS hA (va_recv hK hP (ci := 0) (q0 := 0) rfl rfl) rfl hl.1 rfl (Nat.le_of_ble_eq_true rfl) dX0_revoke_35 ⟨Nat.zero_le _, Nat.zero_le _⟩ (fun r v H locs hq hP hD hS => ?_)
        obtain ⟨rfl, F3, rfl, hF3⟩ := hq
        have hP : va_P D vwCl (gx_W cI cZ h a tm (gl_cnt (gl_ks G K P O (fun i => !gl_mk G K P g k p i) n) n) 0 (gl_ca (gl_ks G K P O (fun i => !gl_mk G K P g k p i) n) T n) (gl_ca (gl_ks G K P O (fun i => !gl_mk G K P g k p i) n) G n) (gl_ca (gl_ks G K P O (fun i => !gl_mk G K P g k p i) n) K n) (gl_ca (gl_ks G K P O (fun i => !gl_mk G K P g k p i) n) P n) (gl_ca (gl_ks G K P O (fun i => !gl_mk G K P g k p i) n) O n) F3 Qu2 U2) H := hP
        have hD : va_D A (gx_W cI cZ h a tm (gl_cnt (gl_ks G K P O (fun i => !gl_mk G K P g k p i) n) n) 0 (gl_ca (gl_ks G K P O (fun i => !gl_mk G K P g k p i) n) T n) (gl_ca (gl_ks G K P O (fun i => !gl_mk G K P g k p i) n) G n) (gl_ca (gl_ks G K P O (fun i => !gl_mk G K P g k p i) n) K n) (gl_ca (gl_ks G K P O (fun i => !gl_mk G K P g k p i) n) P n) (gl_ca (gl_ks G K P O (fun i => !gl_mk G K P g k p i) n) O n) F3 Qu2 U2) := hD
        exact hret _ _ _ _ _ (tm, gl_cnt (gl_ks G K P O (fun i => !gl_mk G K P g k p i) n) n, 0, gl_ca (gl_ks G K P O (fun i => !gl_mk G K P g k p i) n) T n, gl_ca (gl_ks G K P O (fun i => !gl_mk G K P g k p i) n) G n, gl_ca (gl_ks G K P O (fun i => !gl_mk G K P g k p i) n) K n, gl_ca (gl_ks G K P O (fun i => !gl_mk G K P g k p i) n) P n, gl_ca (gl_ks G K P O (fun i => !gl_mk G K P g k p i) n) O n, F3, Qu2, U2) dX0_revoke_38 rfl hP hD hS (Or.inr ⟨ok3_t c1 c2 c3, rfl, F3, Qu2, U2, rfl, hU2, hF3⟩)
      · refine lv_iconst (v := (-1)) hx hb dX0_revoke_21 (by decide) ?_
        exact hret _ _ _ _ _ (tm, n, 0, T, G, K, P, O, F, Qu, U) dX0_revoke_22 rfl hP hD hS (Or.inl ⟨ok3_f (Or.inr (Or.inr c3)), rfl, rfl⟩)
set_option maxHeartbeats 4000000 in
set_option maxRecDepth 100000 in
theorem cX_expel (l : Launch) (D : va_G) (cI cZ : ClassId) (h : Nat) (a : Nat → Nat) (sz tm n : Nat) (T G K P : Nat → Int32) (O F : Nat → Bool) (Qu : Nat → Int32) (U : Nat → Bool) (u : Int32) (hW : gl_WF tm n T G K P O) (ht : tm < 2 ^ 31) (hU : ∀ x, x < 24 → U x = false) : ct_i l D (ty_ cI cZ) yX0_expel cX0_expel 3 .int (rm_ 3) (gx_w cI cZ h a) (tm, n, 0, T, G, K, P, O, F, Qu, U) sz [.ref h, .int u] (fun r v => (gl_xu u = false ∧ r = -1 ∧ v = (tm, n, 0, T, G, K, P, O, F, Qu, U)) ∨ (gl_xu u = true ∧ r = nI (n - gl_cnt (gl_ks G K P O (fun i => !gl_ex G K u i) n) n) ∧ ∃ (F' : Nat → Bool) (Qu' : Nat → Int32) (U' : Nat → Bool), v = (tm, gl_cnt (gl_ks G K P O (fun i => !gl_ex G K u i) n) n, 0, gl_ca (gl_ks G K P O (fun i => !gl_ex G K u i) n) T n, gl_ca (gl_ks G K P O (fun i => !gl_ex G K u i) n) G n, gl_ca (gl_ks G K P O (fun i => !gl_ex G K u i) n) K n, gl_ca (gl_ks G K P O (fun i => !gl_ex G K u i) n) P n, gl_ca (gl_ks G K P O (fun i => !gl_ex G K u i) n) O n, F', Qu', U') ∧ (∀ x, x < 24 → U' x = false) ∧ ∀ j, j < gl_cnt (gl_ks G K P O (fun i => !gl_ex G K u i) n) n → F' j = false)) := by
  refine en_i (by decide) (Nat.le_of_ble_eq_true rfl) ?_
  intro pr e s m ar below meth c A Q C0 hK hret H locs ls hP hD hS hl
  obtain ⟨hx, hb, hml, hown, hts, hA⟩ := C0
  have hown : s.vm.findClass RX0 = some m.cls := hown
  have hP : va_P D vwCl (gx_W cI cZ h a tm n 0 T G K P O F Qu U) H := hP
  have hD : va_D A (gx_W cI cZ h a tm n 0 T G K P O F Qu U) := hD
  have hl : lv_has ls 3 [(0, .ref h), (1, .int u)] := hl
  have hn : n ≤ 48 := hW.1
  refine lv_iload_n hx hb dX0_expel_0 rfl (lv_at hl 1 rfl) ?_
  refine lv_iconst (v := 1) hx hb dX0_expel_1 (by decide) ?_
  refine lv_icmp_lt (tgt := 11) hx hb dX0_expel_2 (by decide) (fun c1 => ?_) (fun c1 => ?_)
  · refine lv_iconst (v := (-1)) hx hb dX0_expel_11 (by decide) ?_
    exact hret _ _ _ _ _ (tm, n, 0, T, G, K, P, O, F, Qu, U) dX0_expel_12 rfl hP hD hS (Or.inl ⟨xu_lo c1, rfl, rfl⟩)
  · refine lv_iload_n hx hb dX0_expel_5 rfl (lv_at hl 1 rfl) ?_
    refine lv_bipush (v := 7) hx hb dX0_expel_6 (by decide) ?_
    refine lv_icmp_le (tgt := 13) hx hb dX0_expel_8 (by decide) (fun c2 => ?_) (fun c2 => ?_)
    · refine lv_aload_n hx hb dX0_expel_13 rfl (lv_at hl 0 rfl) ?_
      refine ca_v (cX_clearMarks l D cI cZ h a _ tm n 0 T G K P O F Qu U hn) ⟨hx, hb, hml, hown, hts⟩ (cwV 0 hts (lw_V q79 q81 qs2 q11 q82) rfl rfl rfl (by decide +kernel) ⟨by decide, by decide⟩) hK hP hD hS hA (va_recv hK hP (ci := 0) (q0 := 0) rfl rfl) rfl hl.1 rfl (Nat.le_of_ble_eq_true rfl) dX0_expel_14 ⟨Nat.zero_le _, Nat.zero_le _⟩ (fun v H locs hq hP hD hS => ?_)
      obtain ⟨Fc, rfl, hF0⟩ := hq
      have hP : va_P D vwCl (gx_W cI cZ h a tm n 0 T G K P O Fc Qu U) H := hP
      have hD : va_D A (gx_W cI cZ h a tm n 0 T G K P O Fc Qu U) := hD
      refine lv_iconst (v := nI 0) hx hb dX0_expel_17 (by decide) ?_
      refine lv_istore_n (lv' := [(2, .int (nI 0)), (0, .ref h), (1, .int u)]) hx hb dX0_expel_18 rfl hl (by decide) rfl (fun ls hl => ?_)
      have loop : ∀ (N i : Nat) (w : Nat) (F : Nat → Bool) (Qu : Nat → Int32) (U : Nat → Bool) (H : Heap) (locs : List Loc) (ls : Array Slot), i ≤ n → n < i + N → va_P D vwCl (gx_W cI cZ h a tm n w T G K P O F Qu U) H → va_D A (gx_W cI cZ h a tm n w T G K P O F Qu U) → va_S A s.heap H locs → lv_has ls 3 [(0, .ref h), (1, .int u), (2, .int (nI i))] → gl_J n i G K P O (gl_ex G K u) F w Qu U (0 + n) → W pr l e (rm_ 3) s m ar below meth c H locs 0 0 Q (F0 m 19 ls []) := by
        intro N
        induction N with
        | zero =>
          intro i w F Qu U H locs ls h1 h2
          exact absurd h2 (by omega)
        | succ N ih =>
          intro i w F Qu U H locs ls hi hN hP hD hS hl hJ
          refine lv_iload_n hx hb dX0_expel_19 rfl (lv_at hl 2 rfl) ?_
          refine lv_aload_n hx hb dX0_expel_20 rfl (lv_at hl 0 rfl) ?_
          refine gx_get hx hb hts hown hK hP 1 (by decide) q22 rfl rfl dX0_expel_21 ?_
          refine kx_ge (tgt := 58) hx hb dX0_expel_24 (by decide) (by omega) (by omega) (fun c0 => ?_) (fun c0 => ?_)
          · have hM := hJ.M c0
            refine lv_aload_n hx hb dX0_expel_58 rfl (lv_at hl 0 rfl) ?_
            refine ca_v (cX_spread l D cI cZ h a _ tm n w T G K P O F Qu U (0 + n) (fun i => !gl_ex G K u i) hW ht (by omega) hM.I) ⟨hx, hb, hml, hown, hts⟩ (cwV 0 hts (lw_V q87 q89 qs4 q11 q90) rfl rfl rfl (by decide +kernel) ⟨by decide, by decide⟩) hK hP hD hS hA (va_recv hK hP (ci := 0) (q0 := 0) rfl rfl) rfl hl.1 rfl (Nat.le_of_ble_eq_true rfl) dX0_expel_59 ⟨Nat.zero_le _, Nat.zero_le _⟩ (fun v H locs hq hP hD hS => ?_)
            obtain ⟨F2, Qu2, U2, rfl, hU2, hF2⟩ := hq
            have hP : va_P D vwCl (gx_W cI cZ h a tm n 0 T G K P O F2 Qu2 U2) H := hP
            have hD : va_D A (gx_W cI cZ h a tm n 0 T G K P O F2 Qu2 U2) := hD
            refine lv_aload_n hx hb dX0_expel_62 rfl (lv_at hl 0 rfl) ?_
            refine ca_i (cX_sweep l D cI cZ h a _ tm n 0 T G K P O F2 Qu2 U2 (gl_ks G K P O (fun i => !gl_ex G K u i) n) hn (fun j hj => by rw [hF2 j hj, Bool.not_not])) ⟨hx, hb, hml, hown, hts⟩ (cwV 0 hts (lw_V q95 q97 qs6 q11 q98) rfl rfl rfl (by decide +kernel) ⟨by decide, by decide⟩) hK hP hD hS hA (va_recv hK hP (ci := 0) (q0 := 0) rfl rfl) rfl hl.1 rfl (Nat.le_of_ble_eq_true rfl) dX0_expel_63 ⟨Nat.zero_le _, Nat.zero_le _⟩ (fun r v H locs hq hP hD hS => ?_)
            obtain ⟨rfl, F3, rfl, hF3⟩ := hq
            have hP : va_P D vwCl (gx_W cI cZ h a tm (gl_cnt (gl_ks G K P O (fun i => !gl_ex G K u i) n) n) 0 (gl_ca (gl_ks G K P O (fun i => !gl_ex G K u i) n) T n) (gl_ca (gl_ks G K P O (fun i => !gl_ex G K u i) n) G n) (gl_ca (gl_ks G K P O (fun i => !gl_ex G K u i) n) K n) (gl_ca (gl_ks G K P O (fun i => !gl_ex G K u i) n) P n) (gl_ca (gl_ks G K P O (fun i => !gl_ex G K u i) n) O n) F3 Qu2 U2) H := hP
            have hD : va_D A (gx_W cI cZ h a tm (gl_cnt (gl_ks G K P O (fun i => !gl_ex G K u i) n) n) 0 (gl_ca (gl_ks G K P O (fun i => !gl_ex G K u i) n) T n) (gl_ca (gl_ks G K P O (fun i => !gl_ex G K u i) n) G n) (gl_ca (gl_ks G K P O (fun i => !gl_ex G K u i) n) K n) (gl_ca (gl_ks G K P O (fun i => !gl_ex G K u i) n) P n) (gl_ca (gl_ks G K P O (fun i => !gl_ex G K u i) n) O n) F3 Qu2 U2) := hD
            exact hret _ _ _ _ _ (tm, gl_cnt (gl_ks G K P O (fun i => !gl_ex G K u i) n) n, 0, gl_ca (gl_ks G K P O (fun i => !gl_ex G K u i) n) T n, gl_ca (gl_ks G K P O (fun i => !gl_ex G K u i) n) G n, gl_ca (gl_ks G K P O (fun i => !gl_ex G K u i) n) K n, gl_ca (gl_ks G K P O (fun i => !gl_ex G K u i) n) P n, gl_ca (gl_ks G K P O (fun i => !gl_ex G K u i) n) O n, F3, Qu2, U2) dX0_expel_66 rfl hP hD hS (Or.inr ⟨xu_ok c1 c2, rfl, F3, Qu2, U2, rfl, hU2, hF3⟩)
          · refine lv_aload_n hx hb dX0_expel_27 rfl (lv_at hl 0 rfl) ?_
            refine gx_get hx hb hts hown hK hP 3 (by decide) q24 rfl rfl dX0_expel_28 ?_
            refine lv_iload_n hx hb dX0_expel_31 rfl (lv_at hl 2 rfl) ?_
            refine kx_ild hx hb hK hP 2 0 rfl rfl (by omega) (by decide) dX0_expel_32 ?_
            refine lv_iload_n hx hb dX0_expel_33 rfl (lv_at hl 1 rfl) ?_
            refine lv_icmp_eq (tgt := 47) hx hb dX0_expel_34 (by decide) (fun c3 => ?_) (fun c3 => ?_)
            · refine lv_aload_n hx hb dX0_expel_47 rfl (lv_at hl 0 rfl) ?_
              refine lv_iload_n hx hb dX0_expel_48 rfl (lv_at hl 2 rfl) ?_
              refine ca_v (cX_letFall l D cI cZ h a _ tm n w T G K P O F Qu U i hn c0 hJ.1 (hW.2.2.2.1 i c0) (hW.2.2.2.2.1 i c0)) ⟨hx, hb, hml, hown, hts⟩ (cwV 1 hts (lw_V q83 q85 qs3 q11 q86) rfl rfl rfl (by decide +kernel) ⟨by decide, by decide⟩) hK hP hD hS hA (va_recv hK hP (ci := 0) (q0 := 0) rfl rfl) rfl hl.1 rfl (Nat.le_of_ble_eq_true rfl) dX0_expel_49 ⟨Nat.zero_le _, Nat.zero_le _⟩ (fun v H locs hq hP hD hS => ?_)
              obtain ⟨w', Qu', U', rfl, hL⟩ := hq
              have hP : va_P D vwCl (gx_W cI cZ h a tm n (w') T G K P O (va_up F i true) (Qu') (U')) H := hP
              have hD : va_D A (gx_W cI cZ h a tm n (w') T G K P O (va_up F i true) (Qu') (U')) := hD
              refine lv_iinc (v := nI (i + 1)) (lv' := [(2, .int (nI (i + 1))), (0, .ref h), (1, .int u)]) hx hb dX0_expel_52 hl (k := 2) rfl (kx_inc _) (by decide) rfl (fun ls hl => ?_)
              refine lv_goto (tgt := 19) hx hb dX0_expel_55 (by decide) ?_
              exact ih (i + 1) (w') (va_up F i true) (Qu') (U') H locs ls (by omega) (by omega) hP hD hS (lv_sub hl [1, 2, 0] rfl) (hJ.fall c0 (gl_ex_iff.mpr (Or.inl c3)) hL)
            · refine lv_aload_n hx hb dX0_expel_37 rfl (lv_at hl 0 rfl) ?_
              refine gx_get hx hb hts hown hK hP 4 (by decide) q25 rfl rfl dX0_expel_38 ?_
              refine lv_iload_n hx hb dX0_expel_41 rfl (lv_at hl 2 rfl) ?_
              refine kx_ild hx hb hK hP 3 0 rfl rfl (by omega) (by decide) dX0_expel_42 ?_
              refine lv_iload_n hx hb dX0_expel_43 rfl (lv_at hl 1 rfl) ?_
              refine lv_icmp_ne (tgt := 52) hx hb dX0_expel_44 (by decide) (fun c4 => ?_) (fun c4 => ?_)
              · refine lv_iinc (v := nI (i + 1)) (lv' := [(2, .int (nI (i + 1))), (0, .ref h), (1, .int u)]) hx hb dX0_expel_52 hl (k := 2) rfl (kx_inc _) (by decide) rfl (fun ls hl => ?_)
                refine lv_goto (tgt := 19) hx hb dX0_expel_55 (by decide) ?_
                exact ih (i + 1) w F Qu U H locs ls (by omega) (by omega) hP hD hS (lv_sub hl [1, 2, 0] rfl) (hJ.skip (by simp [gl_ex, c3, c4]))
              · refine lv_aload_n hx hb dX0_expel_47 rfl (lv_at hl 0 rfl) ?_
                refine lv_iload_n hx hb dX0_expel_48 rfl (lv_at hl 2 rfl) ?_
                refine ca_v (cX_letFall l D cI cZ h a _ tm n w T G K P O F Qu U i hn c0 hJ.1 (hW.2.2.2.1 i c0) (hW.2.2.2.2.1 i c0)) ⟨hx, hb, hml, hown, hts⟩ (cwV 1 hts (lw_V q83 q85 qs3 q11 q86) rfl rfl rfl (by decide +kernel) ⟨by decide, by decide⟩) hK hP hD hS hA (va_recv hK hP (ci := 0) (q0 := 0) rfl rfl) rfl hl.1 rfl (Nat.le_of_ble_eq_true rfl) dX0_expel_49 ⟨Nat.zero_le _, Nat.zero_le _⟩ (fun v H locs hq hP hD hS => ?_)
                obtain ⟨w', Qu', U', rfl, hL⟩ := hq
                have hP : va_P D vwCl (gx_W cI cZ h a tm n (w') T G K P O (va_up F i true) (Qu') (U')) H := hP
                have hD : va_D A (gx_W cI cZ h a tm n (w') T G K P O (va_up F i true) (Qu') (U')) := hD
                refine lv_iinc (v := nI (i + 1)) (lv' := [(2, .int (nI (i + 1))), (0, .ref h), (1, .int u)]) hx hb dX0_expel_52 hl (k := 2) rfl (kx_inc _) (by decide) rfl (fun ls hl => ?_)
                refine lv_goto (tgt := 19) hx hb dX0_expel_55 (by decide) ?_
                exact ih (i + 1) (w') (va_up F i true) (Qu') (U') H locs ls (by omega) (by omega) hP hD hS (lv_sub hl [1, 2, 0] rfl) (hJ.fall c0 (gl_ex_iff.mpr (Or.inr c4)) hL)
      exact loop (n + 1) 0 0 Fc Qu U H locs ls (by omega) (by omega) hP hD hS (lv_sub hl [1, 2, 0] rfl) (gl_J.start hW (gl_QS.zero hU) hF0)
    · refine lv_iconst (v := (-1)) hx hb dX0_expel_11 (by decide) ?_
      exact hret _ _ _ _ _ (tm, n, 0, T, G, K, P, O, F, Qu, U) dX0_expel_12 rfl hP hD hS (Or.inl ⟨xu_hi c2, rfl, rfl⟩)
end
section
/-! the plain law behind the model's methods -/
set_option maxRecDepth 100000
theorem usr_big' {x : Int32} (h : ¬ x ≤ 7) : gl_usr x = false := by simp [gl_usr, h]
theorem usr_ok' {x : Int32} (h : ¬ x < 0) (h2 : x ≤ 7) : gl_usr x = true := by simp [gl_usr, Int32.not_lt.mp h, h2]
theorem prv_big' {x : Int32} (h : ¬ x ≤ 2) : gl_prv x = false := by simp [gl_prv, h]
theorem prv_ok' {x : Int32} (h : ¬ x < 0) (h2 : x ≤ 2) : gl_prv x = true := by simp [gl_prv, Int32.not_lt.mp h, h2]
theorem not_f {b : Bool} (h : (!b) = true) : b = false := by cases b <;> first | rfl | cases h
theorem not_t {b : Bool} (h : (!b) = false) : b = true := by cases b <;> first | rfl | cases h
theorem fd_own {G K P : Nat → Int32} {O f : Nat → Bool} {i : Nat} (h : G i = 0) : gl_fd G K P O f i = true := gl_fd_iff.mpr (Or.inl h)
theorem fd_t {G K P : Nat → Int32} {O f : Nat → Bool} {i e : Nat} (he : e < i) (h1 : f e = true) (h2 : O e = true) (h3 : K e = G i) (h4 : P e = P i) : gl_fd G K P O f i = true := gl_fd_iff.mpr (Or.inr ⟨e, he, h1, h2, h3, h4⟩)
theorem fd_f {G K P : Nat → Int32} {O f : Nat → Bool} {i : Nat} (h : ¬ G i = 0) (h2 : ∀ e, e < i → gl_sup G K P O f i e = false) : gl_fd G K P O f i = false := by
  unfold gl_fd
  rw [gl_any_f h2, decide_eq_false h]
  rfl
theorem sup_1 {G K P : Nat → Int32} {O f : Nat → Bool} {i e : Nat} (h : f e = false) : gl_sup G K P O f i e = false := by simp [gl_sup, h]
theorem sup_2 {G K P : Nat → Int32} {O f : Nat → Bool} {i e : Nat} (h : O e = false) : gl_sup G K P O f i e = false := by simp [gl_sup, h]
theorem sup_3 {G K P : Nat → Int32} {O f : Nat → Bool} {i e : Nat} (h : ¬ K e = G i) : gl_sup G K P O f i e = false := by simp [gl_sup, h]
theorem sup_4 {G K P : Nat → Int32} {O f : Nat → Bool} {i e : Nat} (h : ¬ P e = P i) : gl_sup G K P O f i e = false := by simp [gl_sup, h]
theorem ks_1 {G K P : Nat → Int32} {O init : Nat → Bool} {i : Nat} (h : gl_ks G K P O init i i = false) : gl_ks G K P O init (i + 1) = va_up (gl_ks G K P O init i) i false := by
  show va_up _ _ _ = _
  rw [h, Bool.false_and]
theorem ks_2 {G K P : Nat → Int32} {O init : Nat → Bool} {i : Nat} (h : gl_fd G K P O (gl_ks G K P O init i) i = false) : gl_ks G K P O init (i + 1) = va_up (gl_ks G K P O init i) i false := by
  show va_up _ _ _ = _
  rw [h, Bool.and_false]
theorem ks_3 {G K P : Nat → Int32} {O init : Nat → Bool} {i : Nat} (h : gl_ks G K P O init i i = true) (h2 : gl_fd G K P O (gl_ks G K P O init i) i = true) : gl_ks G K P O init (i + 1) = va_up (gl_ks G K P O init i) i true := by
  show va_up _ _ _ = _
  rw [h, h2, Bool.and_self]
theorem gone_f {f : Nat → Bool} {i : Nat} : gl_cnt (fun x => !(va_up f i false) x) (i + 1) = gl_cnt (fun x => !f x) i + 1 := by
  rw [gl_cnt_t (by rw [up_s]; rfl)]
  rw [gl_cnt_congr (r := fun x => !f x) i (fun j hj => by rw [up_n _ _ (by omega)])]
theorem gone_t {f : Nat → Bool} {i : Nat} : gl_cnt (fun x => !(va_up f i true) x) (i + 1) = gl_cnt (fun x => !f x) i := by
  rw [gl_cnt_f (by rw [up_s]; rfl)]
  rw [gl_cnt_congr (r := fun x => !f x) i (fun j hj => by rw [up_n _ _ (by omega)])]
theorem gl_ks_congr {G K P : Nat → Int32} {O a b : Nat → Bool} {n : Nat} (h : ∀ i, i < n → a i = b i) : ∀ i, i < n → gl_ks G K P O a n i = gl_ks G K P O b n i := by
  intro i
  induction i using Nat.strongRecOn with
  | _ i ih =>
    intro hi
    rw [gl_ks_eq hi, gl_ks_eq hi, h i hi, gl_fd_congr (fun e he => ih e he (by omega))]
theorem gl_rt_1 {K P : Nat → Int32} {O : Nat → Bool} {u p : Int32} {j : Nat} (h : ¬ K j = u) : gl_rt K P O u p j = false := by simp [gl_rt, h]
theorem gl_rt_2 {K P : Nat → Int32} {O : Nat → Bool} {u p : Int32} {j : Nat} (h : ¬ P j = p) : gl_rt K P O u p j = false := by simp [gl_rt, h]
theorem gl_rt_3 {K P : Nat → Int32} {O : Nat → Bool} {u p : Int32} {j : Nat} (h : O j = false) : gl_rt K P O u p j = false := by simp [gl_rt, h]
theorem my_yes {n : Nat} {K P : Nat → Int32} {O : Nat → Bool} {u p : Int32} (h : gl_usr u = true) (h2 : gl_prv p = true) (h3 : ¬ gl_my n K P O u p = 0) : u = 0 ∨ gl_any (gl_rt K P O u p) n = true := by
  by_cases q : u = 0 ∨ gl_any (gl_rt K P O u p) n = true
  · exact q
  · exfalso
    apply h3
    simp only [gl_my, h, h2, Bool.and_self, if_true, if_neg q]
theorem my_not {n : Nat} {K P : Nat → Int32} {O : Nat → Bool} {u p : Int32} (h : gl_usr u = true) (h2 : gl_prv p = true) (h3 : gl_my n K P O u p = 0) : ¬ (u = 0 ∨ gl_any (gl_rt K P O u p) n = true) := by
  intro q
  rw [my_1 h h2 q] at h3
  exact absurd h3 (by decide)
theorem ki_up {f q : Nat → Bool} {i : Nat} {v : Bool} (h : ∀ j, j < i → f j = q j) (hv : v = q i) : ∀ j, j < i + 1 → va_up f i v j = q j := by
  intro j hj
  by_cases e : j = i
  · rw [e, up_s, hv]
  · rw [up_n _ _ e]
    exact h j (by omega)
end
section
/-! GrantLedgerModel: its methods, but grant, reach, revoke, expel -/
set_option maxHeartbeats 4000000 in
set_option maxRecDepth 100000 in
theorem cM_bad (l : Launch) (D : va_G) (sz : Nat) (x : Int32) : ct_i l D [] yX1_bad cX1_bad 1 .boolean (rm_ 0) (fun _ : Unit => []) () sz [.int x] (fun r _ => r = bZ (!gl_usr x)) := by
  refine en_i (by decide) (Nat.le_of_ble_eq_true rfl) ?_
  intro pr e s m ar below meth c A Q C0 hK hret H locs ls hP hD hS hl
  obtain ⟨hx, hb, hml, hown, hts, hA⟩ := C0
  have hl : lv_has ls 1 [(0, .int x)] := hl
  refine lv_iload_n hx hb dX1_bad_0 rfl (lv_at hl 0 rfl) ?_
  refine lv_if_lt (tgt := 10) hx hb dX1_bad_1 (by decide) (fun c1 => ?_) (fun c1 => ?_)
  · refine lv_iconst (v := 1) hx hb dX1_bad_10 (by decide) ?_
    refine lv_goto (tgt := 15) hx hb dX1_bad_11 (by decide) ?_
    exact hret _ _ _ _ _ () dX1_bad_15 rfl hP hD hS (by rw [usr_neg c1]; rfl)
  · refine lv_iload_n hx hb dX1_bad_4 rfl (lv_at hl 0 rfl) ?_
    refine lv_bipush (v := 7) hx hb dX1_bad_5 (by decide) ?_
    refine lv_icmp_le (tgt := 14) hx hb dX1_bad_7 (by decide) (fun c2 => ?_) (fun c2 => ?_)
    · refine lv_iconst (v := 0) hx hb dX1_bad_14 (by decide) ?_
      exact hret _ _ _ _ _ () dX1_bad_15 rfl hP hD hS (by rw [usr_ok' c1 c2]; rfl)
    · refine lv_iconst (v := 1) hx hb dX1_bad_10 (by decide) ?_
      refine lv_goto (tgt := 15) hx hb dX1_bad_11 (by decide) ?_
      exact hret _ _ _ _ _ () dX1_bad_15 rfl hP hD hS (by rw [usr_big' c2]; rfl)
set_option maxHeartbeats 4000000 in
set_option maxRecDepth 100000 in
theorem cM_badPrivilege (l : Launch) (D : va_G) (sz : Nat) (x : Int32) : ct_i l D [] yX1_badPrivilege cX1_badPrivilege 1 .boolean (rm_ 0) (fun _ : Unit => []) () sz [.int x] (fun r _ => r = bZ (!gl_prv x)) := by
  refine en_i (by decide) (Nat.le_of_ble_eq_true rfl) ?_
  intro pr e s m ar below meth c A Q C0 hK hret H locs ls hP hD hS hl
  obtain ⟨hx, hb, hml, hown, hts, hA⟩ := C0
  have hl : lv_has ls 1 [(0, .int x)] := hl
  refine lv_iload_n hx hb dX1_badPrivilege_0 rfl (lv_at hl 0 rfl) ?_
  refine lv_if_lt (tgt := 9) hx hb dX1_badPrivilege_1 (by decide) (fun c1 => ?_) (fun c1 => ?_)
  · refine lv_iconst (v := 1) hx hb dX1_badPrivilege_9 (by decide) ?_
    refine lv_goto (tgt := 14) hx hb dX1_badPrivilege_10 (by decide) ?_
    exact hret _ _ _ _ _ () dX1_badPrivilege_14 rfl hP hD hS (by rw [prv_neg c1]; rfl)
  · refine lv_iload_n hx hb dX1_badPrivilege_4 rfl (lv_at hl 0 rfl) ?_
    refine lv_iconst (v := 2) hx hb dX1_badPrivilege_5 (by decide) ?_
    refine lv_icmp_le (tgt := 13) hx hb dX1_badPrivilege_6 (by decide) (fun c2 => ?_) (fun c2 => ?_)
    · refine lv_iconst (v := 0) hx hb dX1_badPrivilege_13 (by decide) ?_
      exact hret _ _ _ _ _ () dX1_badPrivilege_14 rfl hP hD hS (by rw [prv_ok' c1 c2]; rfl)
    · refine lv_iconst (v := 1) hx hb dX1_badPrivilege_9 (by decide) ?_
      refine lv_goto (tgt := 14) hx hb dX1_badPrivilege_10 (by decide) ?_
      exact hret _ _ _ _ _ () dX1_badPrivilege_14 rfl hP hD hS (by rw [prv_big' c2]; rfl)
set_option maxHeartbeats 4000000 in
set_option maxRecDepth 100000 in
theorem cM_standing (l : Launch) (D : va_G) (cI cZ : ClassId) (h : Nat) (a : Nat → Nat) (sz n : Nat) (T G K P : Nat → Int32) (O : Nat → Bool) (nx : Nat) (kp : Nat → Bool)  : ct_i l D (ty_ cI cZ) yX1_standing cX1_standing 1 .int (rm_ 0) (gm_w cI cZ h a) (n, T, G, K, P, O, nx, kp) sz [.ref h] (fun r v => v = (n, T, G, K, P, O, nx, kp) ∧ r = nI n) := by
  refine en_i (by decide) (Nat.le_of_ble_eq_true rfl) ?_
  intro pr e s m ar below meth c A Q C0 hK hret H locs ls hP hD hS hl
  obtain ⟨hx, hb, hml, hown, hts, hA⟩ := C0
  have hown : s.vm.findClass RX1 = some m.cls := hown
  have hP : va_P D vwCl (gm_W cI cZ h a n T G K P O nx kp) H := hP
  have hD : va_D A (gm_W cI cZ h a n T G K P O nx kp) := hD
  have hl : lv_has ls 1 [(0, .ref h)] := hl
  refine lv_aload_n hx hb dX1_standing_0 rfl (lv_at hl 0 rfl) ?_
  refine gm_get hx hb hts hown hK hP 0 (by decide) q138 rfl rfl dX1_standing_1 ?_
  exact hret _ _ _ _ _ (n, T, G, K, P, O, nx, kp) dX1_standing_4 rfl hP hD hS ⟨rfl, rfl⟩
set_option maxHeartbeats 4000000 in
set_option maxRecDepth 100000 in
theorem cM_founded (l : Launch) (D : va_G) (cI cZ : ClassId) (h : Nat) (a : Nat → Nat) (sz n : Nat) (T G K P : Nat → Int32) (O : Nat → Bool) (nx : Nat) (kp : Nat → Bool) (j : Nat) (hn : n ≤ 48) (hj : j < n) : ct_i l D (ty_ cI cZ) yX1_founded cX1_founded 3 .boolean (rm_ 0) (gm_w cI cZ h a) (n, T, G, K, P, O, nx, kp) sz [.ref h, .int (nI j)] (fun r v => v = (n, T, G, K, P, O, nx, kp) ∧ r = bZ (gl_fd G K P O kp j)) := by
  refine en_i (by decide) (Nat.le_of_ble_eq_true rfl) ?_
  intro pr e s m ar below meth c A Q C0 hK hret H locs ls hP hD hS hl
  obtain ⟨hx, hb, hml, hown, hts, hA⟩ := C0
  have hown : s.vm.findClass RX1 = some m.cls := hown
  have hP : va_P D vwCl (gm_W cI cZ h a n T G K P O nx kp) H := hP
  have hD : va_D A (gm_W cI cZ h a n T G K P O nx kp) := hD
  have hl : lv_has ls 3 [(0, .ref h), (1, .int (nI j))] := hl
  refine lv_aload_n hx hb dX1_founded_0 rfl (lv_at hl 0 rfl) ?_
  refine gm_get hx hb hts hown hK hP 2 (by decide) q140 rfl rfl dX1_founded_1 ?_
  refine lv_iload_n hx hb dX1_founded_4 rfl (lv_at hl 1 rfl) ?_
  refine kx_ild hx hb hK hP 2 0 rfl rfl (by omega) (by decide) dX1_founded_5 ?_
  refine lv_if_ne (tgt := 11) hx hb dX1_founded_6 (by decide) (fun c1 => ?_) (fun c1 => ?_)
  · refine lv_iconst (v := nI 0) hx hb dX1_founded_11 (by decide) ?_
    refine lv_istore_n (lv' := [(2, .int (nI 0)), (0, .ref h), (1, .int (nI j))]) hx hb dX1_founded_12 rfl hl (by decide) rfl (fun ls hl => ?_)
    have loop : ∀ (N i : Nat) (H : Heap) (locs : List Loc) (ls : Array Slot), i ≤ j → j < i + N → va_P D vwCl (gm_W cI cZ h a n T G K P O nx kp) H → va_D A (gm_W cI cZ h a n T G K P O nx kp) → va_S A s.heap H locs → lv_has ls 3 [(0, .ref h), (1, .int (nI j)), (2, .int (nI i))] → (∀ e, e < i → gl_sup G K P O kp j e = false) → W pr l e (rm_ 0) s m ar below meth c H locs 0 0 Q (F0 m 13 ls []) := by
      intro N
      induction N with
      | zero =>
        intro i  H locs ls h1 h2
        exact absurd h2 (by omega)
      | succ N ih =>
        intro i  H locs ls hi hN hP hD hS hl hv
        refine lv_iload_n hx hb dX1_founded_13 rfl (lv_at hl 2 rfl) ?_
        refine lv_iload_n hx hb dX1_founded_14 rfl (lv_at hl 1 rfl) ?_
        refine kx_ge (tgt := 74) hx hb dX1_founded_15 (by decide) (by omega) (by omega) (fun c0 => ?_) (fun c0 => ?_)
        · refine lv_iconst (v := nI 0) hx hb dX1_founded_74 (by decide) ?_
          exact hret _ _ _ _ _ (n, T, G, K, P, O, nx, kp) dX1_founded_75 rfl hP hD hS ⟨rfl, by rw [fd_f c1 (fun e he => hv e (by omega))]; rfl⟩
        · refine lv_aload_n hx hb dX1_founded_18 rfl (lv_at hl 0 rfl) ?_
          refine gm_get hx hb hts hown hK hP 7 (by decide) q145 rfl rfl dX1_founded_19 ?_
          refine lv_iload_n hx hb dX1_founded_22 rfl (lv_at hl 2 rfl) ?_
          refine kx_zld hx hb hK hP 6 1 rfl rfl (by omega) (by decide) dX1_founded_23 ?_
          refine kx_ifeq (tgt := 68) hx hb dX1_founded_24 (by decide) (fun c2 => ?_) (fun c2 => ?_)
          · refine lv_iinc (v := nI (i + 1)) (lv' := [(2, .int (nI (i + 1))), (0, .ref h), (1, .int (nI j))]) hx hb dX1_founded_68 hl (k := 2) rfl (kx_inc _) (by decide) rfl (fun ls hl => ?_)
            refine lv_goto (tgt := 13) hx hb dX1_founded_71 (by decide) ?_
            exact ih (i + 1) H locs ls (by omega) (by omega) hP hD hS (lv_sub hl [1, 2, 0] rfl) (lt_s hv (sup_1 c2))
          · refine lv_aload_n hx hb dX1_founded_27 rfl (lv_at hl 0 rfl) ?_
            refine gm_get hx hb hts hown hK hP 5 (by decide) q143 rfl rfl dX1_founded_28 ?_
            refine lv_iload_n hx hb dX1_founded_31 rfl (lv_at hl 2 rfl) ?_
            refine kx_zld hx hb hK hP 5 1 rfl rfl (by omega) (by decide) dX1_founded_32 ?_
            refine kx_ifeq (tgt := 68) hx hb dX1_founded_33 (by decide) (fun c3 => ?_) (fun c3 => ?_)
            · refine lv_iinc (v := nI (i + 1)) (lv' := [(2, .int (nI (i + 1))), (0, .ref h), (1, .int (nI j))]) hx hb dX1_founded_68 hl (k := 2) rfl (kx_inc _) (by decide) rfl (fun ls hl => ?_)
              refine lv_goto (tgt := 13) hx hb dX1_founded_71 (by decide) ?_
              exact ih (i + 1) H locs ls (by omega) (by omega) hP hD hS (lv_sub hl [1, 2, 0] rfl) (lt_s hv (sup_2 c3))
            · refine lv_aload_n hx hb dX1_founded_36 rfl (lv_at hl 0 rfl) ?_
              refine gm_get hx hb hts hown hK hP 3 (by decide) q141 rfl rfl dX1_founded_37 ?_
              refine lv_iload_n hx hb dX1_founded_40 rfl (lv_at hl 2 rfl) ?_
              refine kx_ild hx hb hK hP 3 0 rfl rfl (by omega) (by decide) dX1_founded_41 ?_
              refine lv_aload_n hx hb dX1_founded_42 rfl (lv_at hl 0 rfl) ?_
              refine gm_get hx hb hts hown hK hP 2 (by decide) q140 rfl rfl dX1_founded_43 ?_
              refine lv_iload_n hx hb dX1_founded_46 rfl (lv_at hl 1 rfl) ?_
              refine kx_ild hx hb hK hP 2 0 rfl rfl (by omega) (by decide) dX1_founded_47 ?_
              refine lv_icmp_ne (tgt := 68) hx hb dX1_founded_48 (by decide) (fun c4 => ?_) (fun c4 => ?_)
              · refine lv_iinc (v := nI (i + 1)) (lv' := [(2, .int (nI (i + 1))), (0, .ref h), (1, .int (nI j))]) hx hb dX1_founded_68 hl (k := 2) rfl (kx_inc _) (by decide) rfl (fun ls hl => ?_)
                refine lv_goto (tgt := 13) hx hb dX1_founded_71 (by decide) ?_
                exact ih (i + 1) H locs ls (by omega) (by omega) hP hD hS (lv_sub hl [1, 2, 0] rfl) (lt_s hv (sup_3 c4))
              · refine lv_aload_n hx hb dX1_founded_51 rfl (lv_at hl 0 rfl) ?_
                refine gm_get hx hb hts hown hK hP 4 (by decide) q142 rfl rfl dX1_founded_52 ?_
                refine lv_iload_n hx hb dX1_founded_55 rfl (lv_at hl 2 rfl) ?_
                refine kx_ild hx hb hK hP 4 0 rfl rfl (by omega) (by decide) dX1_founded_56 ?_
                refine lv_aload_n hx hb dX1_founded_57 rfl (lv_at hl 0 rfl) ?_
                refine gm_get hx hb hts hown hK hP 4 (by decide) q142 rfl rfl dX1_founded_58 ?_
                refine lv_iload_n hx hb dX1_founded_61 rfl (lv_at hl 1 rfl) ?_
                refine kx_ild hx hb hK hP 4 0 rfl rfl (by omega) (by decide) dX1_founded_62 ?_
                refine lv_icmp_ne (tgt := 68) hx hb dX1_founded_63 (by decide) (fun c5 => ?_) (fun c5 => ?_)
                · refine lv_iinc (v := nI (i + 1)) (lv' := [(2, .int (nI (i + 1))), (0, .ref h), (1, .int (nI j))]) hx hb dX1_founded_68 hl (k := 2) rfl (kx_inc _) (by decide) rfl (fun ls hl => ?_)
                  refine lv_goto (tgt := 13) hx hb dX1_founded_71 (by decide) ?_
                  exact ih (i + 1) H locs ls (by omega) (by omega) hP hD hS (lv_sub hl [1, 2, 0] rfl) (lt_s hv (sup_4 c5))
                · refine lv_iconst (v := nI 1) hx hb dX1_founded_66 (by decide) ?_
                  exact hret _ _ _ _ _ (n, T, G, K, P, O, nx, kp) dX1_founded_67 rfl hP hD hS ⟨rfl, by rw [fd_t c0 c2 c3 c4 c5]; rfl⟩
    exact loop (j + 1) 0 H locs ls (by omega) (by omega) hP hD hS (lv_sub hl [1, 2, 0] rfl) lt_0
  · refine lv_iconst (v := nI 1) hx hb dX1_founded_9 (by decide) ?_
    exact hret _ _ _ _ _ (n, T, G, K, P, O, nx, kp) dX1_founded_10 rfl hP hD hS ⟨rfl, by rw [fd_own c1]; rfl⟩
set_option maxHeartbeats 4000000 in
set_option maxRecDepth 100000 in
theorem cM_settle (l : Launch) (D : va_G) (cI cZ : ClassId) (h : Nat) (a : Nat → Nat) (sz n : Nat) (T G K P : Nat → Int32) (O : Nat → Bool) (nx : Nat) (kp : Nat → Bool) (hn : n ≤ 48) : ct_i l D (ty_ cI cZ) yX1_settle cX1_settle 3 .int (rm_ 1) (gm_w cI cZ h a) (n, T, G, K, P, O, nx, kp) sz [.ref h] (fun r v => v = (n, T, G, K, P, O, nx, gl_ks G K P O kp n) ∧ r = nI (gl_cnt (fun x => !(gl_ks G K P O kp n) x) n)) := by
  refine en_i (by decide) (Nat.le_of_ble_eq_true rfl) ?_
  intro pr e s m ar below meth c A Q C0 hK hret H locs ls hP hD hS hl
  obtain ⟨hx, hb, hml, hown, hts, hA⟩ := C0
  have hown : s.vm.findClass RX1 = some m.cls := hown
  have hP : va_P D vwCl (gm_W cI cZ h a n T G K P O nx kp) H := hP
  have hD : va_D A (gm_W cI cZ h a n T G K P O nx kp) := hD
  have hl : lv_has ls 3 [(0, .ref h)] := hl
  refine lv_iconst (v := nI 0) hx hb dX1_settle_0 (by decide) ?_
  refine lv_istore_n (lv' := [(1, .int (nI 0)), (0, .ref h)]) hx hb dX1_settle_1 rfl hl (by decide) rfl (fun ls hl => ?_)
  refine lv_iconst (v := nI 0) hx hb dX1_settle_2 (by decide) ?_
  refine lv_istore_n (lv' := [(2, .int (nI 0)), (1, .int (nI 0)), (0, .ref h)]) hx hb dX1_settle_3 rfl hl (by decide) rfl (fun ls hl => ?_)
  have loop : ∀ (N i : Nat) (H : Heap) (locs : List Loc) (ls : Array Slot), i ≤ n → n < i + N → va_P D vwCl (gm_W cI cZ h a n T G K P O nx (gl_ks G K P O kp i)) H → va_D A (gm_W cI cZ h a n T G K P O nx (gl_ks G K P O kp i)) → va_S A s.heap H locs → lv_has ls 3 [(0, .ref h), (1, .int (nI (gl_cnt (fun x => !(gl_ks G K P O kp i) x) i))), (2, .int (nI i))] → W pr l e (rm_ 1) s m ar below meth c H locs 0 0 Q (F0 m 4 ls []) := by
    intro N
    induction N with
    | zero =>
      intro i  H locs ls h1 h2
      exact absurd h2 (by omega)
    | succ N ih =>
      intro i  H locs ls hi hN hP hD hS hl 
      refine lv_iload_n hx hb dX1_settle_4 rfl (lv_at hl 2 rfl) ?_
      refine lv_aload_n hx hb dX1_settle_5 rfl (lv_at hl 0 rfl) ?_
      refine gm_get hx hb hts hown hK hP 0 (by decide) q138 rfl rfl dX1_settle_6 ?_
      refine kx_ge (tgt := 58) hx hb dX1_settle_9 (by decide) (by omega) (by omega) (fun c0 => ?_) (fun c0 => ?_)
      · obtain rfl : n = i := by omega
        refine lv_iload_n hx hb dX1_settle_58 rfl (lv_at hl 1 rfl) ?_
        exact hret _ _ _ _ _ (n, T, G, K, P, O, nx, gl_ks G K P O kp n) dX1_settle_59 rfl hP hD hS ⟨rfl, rfl⟩
      · refine lv_aload_n hx hb dX1_settle_12 rfl (lv_at hl 0 rfl) ?_
        refine gm_get hx hb hts hown hK hP 7 (by decide) q145 rfl rfl dX1_settle_13 ?_
        refine lv_iload_n hx hb dX1_settle_16 rfl (lv_at hl 2 rfl) ?_
        refine lv_aload_n hx hb dX1_settle_17 rfl (lv_at hl 0 rfl) ?_
        refine gm_get hx hb hts hown hK hP 7 (by decide) q145 rfl rfl dX1_settle_18 ?_
        refine lv_iload_n hx hb dX1_settle_21 rfl (lv_at hl 2 rfl) ?_
        refine kx_zld hx hb hK hP 6 1 rfl rfl (by omega) (by decide) dX1_settle_22 ?_
        refine kx_ifeq (tgt := 38) hx hb dX1_settle_23 (by decide) (fun c1 => ?_) (fun c1 => ?_)
        · have hks := ks_1 c1
          refine lv_iconst (v := nI 0) hx hb dX1_settle_38 (by decide) ?_
          refine kx_zst (v := false) hx hb hK hP hD hS 6 1 rfl rfl rfl (by omega) (by decide) dX1_settle_39 (fun H locs hP hD hS => ?_)
          have hP : va_P D vwCl (gm_W cI cZ h a n T G K P O nx (va_up (gl_ks G K P O kp i) i false)) H := hP
          have hD : va_D A (gm_W cI cZ h a n T G K P O nx (va_up (gl_ks G K P O kp i) i false)) := hD
          refine lv_aload_n hx hb dX1_settle_40 rfl (lv_at hl 0 rfl) ?_
          refine gm_get hx hb hts hown hK hP 7 (by decide) q145 rfl rfl dX1_settle_41 ?_
          refine lv_iload_n hx hb dX1_settle_44 rfl (lv_at hl 2 rfl) ?_
          refine kx_zld hx hb hK hP 6 1 rfl rfl (by omega) (by decide) dX1_settle_45 ?_
          refine kx_ifne (tgt := 52) hx hb dX1_settle_46 (by decide) (fun c3 => ?_) (fun c3 => ?_)
          · exact absurd c3 (by rw [up_s]; decide)
          · refine lv_iinc (v := nI (gl_cnt (fun x => !(gl_ks G K P O kp i) x) i + 1)) (lv' := [(1, .int (nI (gl_cnt (fun x => !(gl_ks G K P O kp i) x) i + 1))), (0, .ref h), (2, .int (nI i))]) hx hb dX1_settle_49 hl (k := 1) rfl (kx_inc _) (by decide) rfl (fun ls hl => ?_)
            refine lv_iinc (v := nI (i + 1)) (lv' := [(2, .int (nI (i + 1))), (1, .int (nI (gl_cnt (fun x => !(gl_ks G K P O kp i) x) i + 1))), (0, .ref h)]) hx hb dX1_settle_52 hl (k := 2) rfl (kx_inc _) (by decide) rfl (fun ls hl => ?_)
            refine lv_goto (tgt := 4) hx hb dX1_settle_55 (by decide) ?_
            exact ih (i + 1) H locs ls (by omega) (by omega) (by rw [hks]; exact hP) (by rw [hks]; exact hD) hS (by rw [hks, gone_f]; exact lv_sub hl [2, 1, 0] rfl)
        · refine lv_aload_n hx hb dX1_settle_26 rfl (lv_at hl 0 rfl) ?_
          refine lv_iload_n hx hb dX1_settle_27 rfl (lv_at hl 2 rfl) ?_
          refine ca_i (cM_founded l D cI cZ h a _ n T G K P O nx (gl_ks G K P O kp i) i hn c0) ⟨hx, hb, hml, hown, hts⟩ (cwV 1 hts (lw_V q189 q191 qs8 q12 q192) rfl rfl rfl (by decide +kernel) ⟨by decide, by decide⟩) hK hP hD hS hA (va_recv hK hP (ci := 1) (q0 := 0) rfl rfl) rfl hl.1 rfl (Nat.le_of_ble_eq_true rfl) dX1_settle_28 ⟨Nat.zero_le _, Nat.zero_le _⟩ (fun r v H locs hq hP hD hS => ?_)
          obtain ⟨rfl, rfl⟩ := hq
          have hP : va_P D vwCl (gm_W cI cZ h a n T G K P O nx (gl_ks G K P O kp i)) H := hP
          have hD : va_D A (gm_W cI cZ h a n T G K P O nx (gl_ks G K P O kp i)) := hD
          refine kx_ifeq (tgt := 38) hx hb dX1_settle_31 (by decide) (fun c2 => ?_) (fun c2 => ?_)
          · have hks := ks_2 c2
            refine lv_iconst (v := nI 0) hx hb dX1_settle_38 (by decide) ?_
            refine kx_zst (v := false) hx hb hK hP hD hS 6 1 rfl rfl rfl (by omega) (by decide) dX1_settle_39 (fun H locs hP hD hS => ?_)
            have hP : va_P D vwCl (gm_W cI cZ h a n T G K P O nx (va_up (gl_ks G K P O kp i) i false)) H := hP
            have hD : va_D A (gm_W cI cZ h a n T G K P O nx (va_up (gl_ks G K P O kp i) i false)) := hD
            refine lv_aload_n hx hb dX1_settle_40 rfl (lv_at hl 0 rfl) ?_
            refine gm_get hx hb hts hown hK hP 7 (by decide) q145 rfl rfl dX1_settle_41 ?_
            refine lv_iload_n hx hb dX1_settle_44 rfl (lv_at hl 2 rfl) ?_
            refine kx_zld hx hb hK hP 6 1 rfl rfl (by omega) (by decide) dX1_settle_45 ?_
            refine kx_ifne (tgt := 52) hx hb dX1_settle_46 (by decide) (fun c3 => ?_) (fun c3 => ?_)
            · exact absurd c3 (by rw [up_s]; decide)
            · refine lv_iinc (v := nI (gl_cnt (fun x => !(gl_ks G K P O kp i) x) i + 1)) (lv' := [(1, .int (nI (gl_cnt (fun x => !(gl_ks G K P O kp i) x) i + 1))), (0, .ref h), (2, .int (nI i))]) hx hb dX1_settle_49 hl (k := 1) rfl (kx_inc _) (by decide) rfl (fun ls hl => ?_)
              refine lv_iinc (v := nI (i + 1)) (lv' := [(2, .int (nI (i + 1))), (1, .int (nI (gl_cnt (fun x => !(gl_ks G K P O kp i) x) i + 1))), (0, .ref h)]) hx hb dX1_settle_52 hl (k := 2) rfl (kx_inc _) (by decide) rfl (fun ls hl => ?_)
              refine lv_goto (tgt := 4) hx hb dX1_settle_55 (by decide) ?_
              exact ih (i + 1) H locs ls (by omega) (by omega) (by rw [hks]; exact hP) (by rw [hks]; exact hD) hS (by rw [hks, gone_f]; exact lv_sub hl [2, 1, 0] rfl)
          · have hks := ks_3 c1 c2
            refine lv_iconst (v := nI 1) hx hb dX1_settle_34 (by decide) ?_
            refine lv_goto (tgt := 39) hx hb dX1_settle_35 (by decide) ?_
            refine kx_zst (v := true) hx hb hK hP hD hS 6 1 rfl rfl rfl (by omega) (by decide) dX1_settle_39 (fun H locs hP hD hS => ?_)
            have hP : va_P D vwCl (gm_W cI cZ h a n T G K P O nx (va_up (gl_ks G K P O kp i) i true)) H := hP
            have hD : va_D A (gm_W cI cZ h a n T G K P O nx (va_up (gl_ks G K P O kp i) i true)) := hD
            refine lv_aload_n hx hb dX1_settle_40 rfl (lv_at hl 0 rfl) ?_
            refine gm_get hx hb hts hown hK hP 7 (by decide) q145 rfl rfl dX1_settle_41 ?_
            refine lv_iload_n hx hb dX1_settle_44 rfl (lv_at hl 2 rfl) ?_
            refine kx_zld hx hb hK hP 6 1 rfl rfl (by omega) (by decide) dX1_settle_45 ?_
            refine kx_ifne (tgt := 52) hx hb dX1_settle_46 (by decide) (fun c3 => ?_) (fun c3 => ?_)
            · refine lv_iinc (v := nI (i + 1)) (lv' := [(2, .int (nI (i + 1))), (0, .ref h), (1, .int (nI (gl_cnt (fun x => !(gl_ks G K P O kp i) x) i)))]) hx hb dX1_settle_52 hl (k := 2) rfl (kx_inc _) (by decide) rfl (fun ls hl => ?_)
              refine lv_goto (tgt := 4) hx hb dX1_settle_55 (by decide) ?_
              exact ih (i + 1) H locs ls (by omega) (by omega) (by rw [hks]; exact hP) (by rw [hks]; exact hD) hS (by rw [hks, gone_t]; exact lv_sub hl [1, 2, 0] rfl)
            · exact absurd c3 (by rw [up_s]; decide)
  exact loop (n + 1) 0 H locs ls (by omega) (by omega) hP hD hS (lv_sub hl [2, 1, 0] rfl)
set_option maxHeartbeats 4000000 in
set_option maxRecDepth 100000 in
theorem cM_drop (l : Launch) (D : va_G) (cI cZ : ClassId) (h : Nat) (a : Nat → Nat) (sz n : Nat) (T G K P : Nat → Int32) (O : Nat → Bool) (nx : Nat) (kp : Nat → Bool) (q : Nat → Bool) (hn : n ≤ 48) (hq : ∀ j, j < n → q j = kp j) : ct_v l D (ty_ cI cZ) yX1_drop cX1_drop 3 (rm_ 0) (gm_w cI cZ h a) (n, T, G, K, P, O, nx, kp) sz [.ref h] (fun v => v = (gl_cnt q n, gl_ca q T n, gl_ca q G n, gl_ca q K n, gl_ca q P n, gl_ca q O n, nx, kp)) := by
  refine en_v (by decide) (Nat.le_of_ble_eq_true rfl) ?_
  intro pr e s m ar below meth c A Q C0 hK hret H locs ls hP hD hS hl
  obtain ⟨hx, hb, hml, hown, hts, hA⟩ := C0
  have hown : s.vm.findClass RX1 = some m.cls := hown
  have hP : va_P D vwCl (gm_W cI cZ h a n T G K P O nx kp) H := hP
  have hD : va_D A (gm_W cI cZ h a n T G K P O nx kp) := hD
  have hl : lv_has ls 3 [(0, .ref h)] := hl
  refine lv_iconst (v := nI 0) hx hb dX1_drop_0 (by decide) ?_
  refine lv_istore_n (lv' := [(1, .int (nI 0)), (0, .ref h)]) hx hb dX1_drop_1 rfl hl (by decide) rfl (fun ls hl => ?_)
  refine lv_iconst (v := nI 0) hx hb dX1_drop_2 (by decide) ?_
  refine lv_istore_n (lv' := [(2, .int (nI 0)), (1, .int (nI 0)), (0, .ref h)]) hx hb dX1_drop_3 rfl hl (by decide) rfl (fun ls hl => ?_)
  have loop : ∀ (N i : Nat) (H : Heap) (locs : List Loc) (ls : Array Slot), i ≤ n → n < i + N → va_P D vwCl (gm_W cI cZ h a n (gl_ca q T i) (gl_ca q G i) (gl_ca q K i) (gl_ca q P i) (gl_ca q O i) nx kp) H → va_D A (gm_W cI cZ h a n (gl_ca q T i) (gl_ca q G i) (gl_ca q K i) (gl_ca q P i) (gl_ca q O i) nx kp) → va_S A s.heap H locs → lv_has ls 3 [(0, .ref h), (1, .int (nI (gl_cnt q i))), (2, .int (nI i))] → W pr l e (rm_ 0) s m ar below meth c H locs 0 0 Q (F0 m 4 ls []) := by
    intro N
    induction N with
    | zero =>
      intro i  H locs ls h1 h2
      exact absurd h2 (by omega)
    | succ N ih =>
      intro i  H locs ls hi hN hP hD hS hl 
      refine lv_iload_n hx hb dX1_drop_4 rfl (lv_at hl 2 rfl) ?_
      refine lv_aload_n hx hb dX1_drop_5 rfl (lv_at hl 0 rfl) ?_
      refine gm_get hx hb hts hown hK hP 0 (by decide) q138 rfl rfl dX1_drop_6 ?_
      have hci := gl_cnt_le q i
      refine kx_ge (tgt := 90) hx hb dX1_drop_9 (by decide) (by omega) (by omega) (fun c0 => ?_) (fun c0 => ?_)
      · obtain rfl : n = i := by omega
        refine lv_aload_n hx hb dX1_drop_90 rfl (lv_at hl 0 rfl) ?_
        refine lv_iload_n hx hb dX1_drop_91 rfl (lv_at hl 1 rfl) ?_
        refine gm_put hx hb hts hown hK hP hD hS 0 (by decide) q138 rfl rfl (by decide +kernel) dX1_drop_92 (fun H locs hP hD hS => ?_)
        have hP : va_P D vwCl (gm_W cI cZ h a (gl_cnt q n) (gl_ca q T n) (gl_ca q G n) (gl_ca q K n) (gl_ca q P n) (gl_ca q O n) nx kp) H := hP
        have hD : va_D A (gm_W cI cZ h a (gl_cnt q n) (gl_ca q T n) (gl_ca q G n) (gl_ca q K n) (gl_ca q P n) (gl_ca q O n) nx kp) := hD
        exact hret _ _ _ _ (gl_cnt q n, gl_ca q T n, gl_ca q G n, gl_ca q K n, gl_ca q P n, gl_ca q O n, nx, kp) dX1_drop_95 hP hD hS rfl
      · refine lv_aload_n hx hb dX1_drop_12 rfl (lv_at hl 0 rfl) ?_
        refine gm_get hx hb hts hown hK hP 7 (by decide) q145 rfl rfl dX1_drop_13 ?_
        refine lv_iload_n hx hb dX1_drop_16 rfl (lv_at hl 2 rfl) ?_
        refine kx_zld hx hb hK hP 6 1 rfl rfl (by omega) (by decide) dX1_drop_17 ?_
        refine kx_ifeq (tgt := 84) hx hb dX1_drop_18 (by decide) (fun c1 => ?_) (fun c1 => ?_)
        · have hqi : q i = false := by rw [hq i c0, c1]
          refine lv_iinc (v := nI (i + 1)) (lv' := [(2, .int (nI (i + 1))), (0, .ref h), (1, .int (nI (gl_cnt q i)))]) hx hb dX1_drop_84 hl (k := 2) rfl (kx_inc _) (by decide) rfl (fun ls hl => ?_)
          refine lv_goto (tgt := 4) hx hb dX1_drop_87 (by decide) ?_
          exact ih (i + 1) H locs ls (by omega) (by omega) (by simp only [gl_ca_f hqi]; exact hP) (by simp only [gl_ca_f hqi]; exact hD) hS (by rw [gl_cnt_f hqi]; exact lv_sub hl [1, 2, 0] rfl)
        · have hqi : q i = true := by rw [hq i c0, c1]
          refine lv_aload_n hx hb dX1_drop_21 rfl (lv_at hl 0 rfl) ?_
          refine gm_get hx hb hts hown hK hP 1 (by decide) q139 rfl rfl dX1_drop_22 ?_
          refine lv_iload_n hx hb dX1_drop_25 rfl (lv_at hl 1 rfl) ?_
          refine lv_aload_n hx hb dX1_drop_26 rfl (lv_at hl 0 rfl) ?_
          refine gm_get hx hb hts hown hK hP 1 (by decide) q139 rfl rfl dX1_drop_27 ?_
          refine lv_iload_n hx hb dX1_drop_30 rfl (lv_at hl 2 rfl) ?_
          refine kx_ild hx hb hK hP 1 0 rfl rfl (by omega) (by decide) dX1_drop_31 ?_
          refine kx_ist hx hb hK hP hD hS 1 0 rfl rfl (by omega) (by decide) dX1_drop_32 (fun H locs hP hD hS => ?_)
          have hP : va_P D vwCl (gm_W cI cZ h a n (va_up (gl_ca q T i) (gl_cnt q i) ((gl_ca q T i) i)) (gl_ca q G i) (gl_ca q K i) (gl_ca q P i) (gl_ca q O i) nx kp) H := hP
          have hD : va_D A (gm_W cI cZ h a n (va_up (gl_ca q T i) (gl_cnt q i) ((gl_ca q T i) i)) (gl_ca q G i) (gl_ca q K i) (gl_ca q P i) (gl_ca q O i) nx kp) := hD
          refine lv_aload_n hx hb dX1_drop_33 rfl (lv_at hl 0 rfl) ?_
          refine gm_get hx hb hts hown hK hP 2 (by decide) q140 rfl rfl dX1_drop_34 ?_
          refine lv_iload_n hx hb dX1_drop_37 rfl (lv_at hl 1 rfl) ?_
          refine lv_aload_n hx hb dX1_drop_38 rfl (lv_at hl 0 rfl) ?_
          refine gm_get hx hb hts hown hK hP 2 (by decide) q140 rfl rfl dX1_drop_39 ?_
          refine lv_iload_n hx hb dX1_drop_42 rfl (lv_at hl 2 rfl) ?_
          refine kx_ild hx hb hK hP 2 0 rfl rfl (by omega) (by decide) dX1_drop_43 ?_
          refine kx_ist hx hb hK hP hD hS 2 0 rfl rfl (by omega) (by decide) dX1_drop_44 (fun H locs hP hD hS => ?_)
          have hP : va_P D vwCl (gm_W cI cZ h a n (va_up (gl_ca q T i) (gl_cnt q i) ((gl_ca q T i) i)) (va_up (gl_ca q G i) (gl_cnt q i) ((gl_ca q G i) i)) (gl_ca q K i) (gl_ca q P i) (gl_ca q O i) nx kp) H := hP
          have hD : va_D A (gm_W cI cZ h a n (va_up (gl_ca q T i) (gl_cnt q i) ((gl_ca q T i) i)) (va_up (gl_ca q G i) (gl_cnt q i) ((gl_ca q G i) i)) (gl_ca q K i) (gl_ca q P i) (gl_ca q O i) nx kp) := hD
          refine lv_aload_n hx hb dX1_drop_45 rfl (lv_at hl 0 rfl) ?_
          refine gm_get hx hb hts hown hK hP 3 (by decide) q141 rfl rfl dX1_drop_46 ?_
          refine lv_iload_n hx hb dX1_drop_49 rfl (lv_at hl 1 rfl) ?_
          refine lv_aload_n hx hb dX1_drop_50 rfl (lv_at hl 0 rfl) ?_
          refine gm_get hx hb hts hown hK hP 3 (by decide) q141 rfl rfl dX1_drop_51 ?_
          refine lv_iload_n hx hb dX1_drop_54 rfl (lv_at hl 2 rfl) ?_
          refine kx_ild hx hb hK hP 3 0 rfl rfl (by omega) (by decide) dX1_drop_55 ?_
          refine kx_ist hx hb hK hP hD hS 3 0 rfl rfl (by omega) (by decide) dX1_drop_56 (fun H locs hP hD hS => ?_)
          have hP : va_P D vwCl (gm_W cI cZ h a n (va_up (gl_ca q T i) (gl_cnt q i) ((gl_ca q T i) i)) (va_up (gl_ca q G i) (gl_cnt q i) ((gl_ca q G i) i)) (va_up (gl_ca q K i) (gl_cnt q i) ((gl_ca q K i) i)) (gl_ca q P i) (gl_ca q O i) nx kp) H := hP
          have hD : va_D A (gm_W cI cZ h a n (va_up (gl_ca q T i) (gl_cnt q i) ((gl_ca q T i) i)) (va_up (gl_ca q G i) (gl_cnt q i) ((gl_ca q G i) i)) (va_up (gl_ca q K i) (gl_cnt q i) ((gl_ca q K i) i)) (gl_ca q P i) (gl_ca q O i) nx kp) := hD
          refine lv_aload_n hx hb dX1_drop_57 rfl (lv_at hl 0 rfl) ?_
          refine gm_get hx hb hts hown hK hP 4 (by decide) q142 rfl rfl dX1_drop_58 ?_
          refine lv_iload_n hx hb dX1_drop_61 rfl (lv_at hl 1 rfl) ?_
          refine lv_aload_n hx hb dX1_drop_62 rfl (lv_at hl 0 rfl) ?_
          refine gm_get hx hb hts hown hK hP 4 (by decide) q142 rfl rfl dX1_drop_63 ?_
          refine lv_iload_n hx hb dX1_drop_66 rfl (lv_at hl 2 rfl) ?_
          refine kx_ild hx hb hK hP 4 0 rfl rfl (by omega) (by decide) dX1_drop_67 ?_
          refine kx_ist hx hb hK hP hD hS 4 0 rfl rfl (by omega) (by decide) dX1_drop_68 (fun H locs hP hD hS => ?_)
          have hP : va_P D vwCl (gm_W cI cZ h a n (va_up (gl_ca q T i) (gl_cnt q i) ((gl_ca q T i) i)) (va_up (gl_ca q G i) (gl_cnt q i) ((gl_ca q G i) i)) (va_up (gl_ca q K i) (gl_cnt q i) ((gl_ca q K i) i)) (va_up (gl_ca q P i) (gl_cnt q i) ((gl_ca q P i) i)) (gl_ca q O i) nx kp) H := hP
          have hD : va_D A (gm_W cI cZ h a n (va_up (gl_ca q T i) (gl_cnt q i) ((gl_ca q T i) i)) (va_up (gl_ca q G i) (gl_cnt q i) ((gl_ca q G i) i)) (va_up (gl_ca q K i) (gl_cnt q i) ((gl_ca q K i) i)) (va_up (gl_ca q P i) (gl_cnt q i) ((gl_ca q P i) i)) (gl_ca q O i) nx kp) := hD
          refine lv_aload_n hx hb dX1_drop_69 rfl (lv_at hl 0 rfl) ?_
          refine gm_get hx hb hts hown hK hP 5 (by decide) q143 rfl rfl dX1_drop_70 ?_
          refine lv_iload_n hx hb dX1_drop_73 rfl (lv_at hl 1 rfl) ?_
          refine lv_aload_n hx hb dX1_drop_74 rfl (lv_at hl 0 rfl) ?_
          refine gm_get hx hb hts hown hK hP 5 (by decide) q143 rfl rfl dX1_drop_75 ?_
          refine lv_iload_n hx hb dX1_drop_78 rfl (lv_at hl 2 rfl) ?_
          refine kx_zld hx hb hK hP 5 1 rfl rfl (by omega) (by decide) dX1_drop_79 ?_
          refine kx_zst (v := ((gl_ca q O i) i)) hx hb hK hP hD hS 5 1 rfl rfl rfl (by omega) (by decide) dX1_drop_80 (fun H locs hP hD hS => ?_)
          have hP : va_P D vwCl (gm_W cI cZ h a n (va_up (gl_ca q T i) (gl_cnt q i) ((gl_ca q T i) i)) (va_up (gl_ca q G i) (gl_cnt q i) ((gl_ca q G i) i)) (va_up (gl_ca q K i) (gl_cnt q i) ((gl_ca q K i) i)) (va_up (gl_ca q P i) (gl_cnt q i) ((gl_ca q P i) i)) (va_up (gl_ca q O i) (gl_cnt q i) (((gl_ca q O i) i))) nx kp) H := hP
          have hD : va_D A (gm_W cI cZ h a n (va_up (gl_ca q T i) (gl_cnt q i) ((gl_ca q T i) i)) (va_up (gl_ca q G i) (gl_cnt q i) ((gl_ca q G i) i)) (va_up (gl_ca q K i) (gl_cnt q i) ((gl_ca q K i) i)) (va_up (gl_ca q P i) (gl_cnt q i) ((gl_ca q P i) i)) (va_up (gl_ca q O i) (gl_cnt q i) (((gl_ca q O i) i))) nx kp) := hD
          refine lv_iinc (v := nI (gl_cnt q i + 1)) (lv' := [(1, .int (nI (gl_cnt q i + 1))), (0, .ref h), (2, .int (nI i))]) hx hb dX1_drop_81 hl (k := 1) rfl (kx_inc _) (by decide) rfl (fun ls hl => ?_)
          refine lv_iinc (v := nI (i + 1)) (lv' := [(2, .int (nI (i + 1))), (1, .int (nI (gl_cnt q i + 1))), (0, .ref h)]) hx hb dX1_drop_84 hl (k := 2) rfl (kx_inc _) (by decide) rfl (fun ls hl => ?_)
          refine lv_goto (tgt := 4) hx hb dX1_drop_87 (by decide) ?_
          exact ih (i + 1) H locs ls (by omega) (by omega) (by simp only [gl_ca_t hqi]; exact hP) (by simp only [gl_ca_t hqi]; exact hD) hS (by rw [gl_cnt_t hqi]; exact lv_sub hl [2, 1, 0] rfl)
  exact loop (n + 1) 0 H locs ls (by omega) (by omega) hP hD hS (lv_sub hl [2, 1, 0] rfl)
set_option maxHeartbeats 4000000 in
set_option maxRecDepth 100000 in
theorem cM_may (l : Launch) (D : va_G) (cI cZ : ClassId) (h : Nat) (a : Nat → Nat) (sz n : Nat) (T G K P : Nat → Int32) (O : Nat → Bool) (nx : Nat) (kp : Nat → Bool) (u p : Int32) (hn : n ≤ 48) : ct_i l D (ty_ cI cZ) yX1_may cX1_may 4 .int (rm_ 1) (gm_w cI cZ h a) (n, T, G, K, P, O, nx, kp) sz [.ref h, .int u, .int p] (fun r v => v = (n, T, G, K, P, O, nx, kp) ∧ r = gl_my n K P O u p) := by
  refine en_i (by decide) (Nat.le_of_ble_eq_true rfl) ?_
  intro pr e s m ar below meth c A Q C0 hK hret H locs ls hP hD hS hl
  obtain ⟨hx, hb, hml, hown, hts, hA⟩ := C0
  have hown : s.vm.findClass RX1 = some m.cls := hown
  have hP : va_P D vwCl (gm_W cI cZ h a n T G K P O nx kp) H := hP
  have hD : va_D A (gm_W cI cZ h a n T G K P O nx kp) := hD
  have hl : lv_has ls 4 [(0, .ref h), (1, .int u), (2, .int p)] := hl
  refine lv_iload_n hx hb dX1_may_0 rfl (lv_at hl 1 rfl) ?_
  refine ca_s (cM_bad l D _ u) ⟨hx, hb, hml, hown, hts⟩ (va_cwS 1 hts (lw_S q167 q168 q12 q169) rfl rfl rfl (by decide +kernel) ⟨by decide, by decide⟩) hK hP hS hA rfl hl.1 rfl (Nat.le_of_ble_eq_true rfl) dX1_may_1 ⟨Nat.zero_le _, Nat.zero_le _⟩ (fun r H locs hq hP hS => ?_)
  subst hq
  refine kx_ifne (tgt := 14) hx hb dX1_may_4 (by decide) (fun c1 => ?_) (fun c1 => ?_)
  · replace c1 := not_f c1
    refine lv_iconst (v := (-1)) hx hb dX1_may_14 (by decide) ?_
    exact hret _ _ _ _ _ (n, T, G, K, P, O, nx, kp) dX1_may_15 rfl hP hD hS ⟨rfl, (my_no (Or.inl c1)).symm⟩
  · replace c1 := not_t c1
    refine lv_iload_n hx hb dX1_may_7 rfl (lv_at hl 2 rfl) ?_
    refine ca_s (cM_badPrivilege l D _ p) ⟨hx, hb, hml, hown, hts⟩ (va_cwS 1 hts (lw_S q170 q171 q12 q172) rfl rfl rfl (by decide +kernel) ⟨by decide, by decide⟩) hK hP hS hA rfl hl.1 rfl (Nat.le_of_ble_eq_true rfl) dX1_may_8 ⟨Nat.zero_le _, Nat.zero_le _⟩ (fun r H locs hq hP hS => ?_)
    subst hq
    refine kx_ifeq (tgt := 16) hx hb dX1_may_11 (by decide) (fun c2 => ?_) (fun c2 => ?_)
    · replace c2 := not_t c2
      refine lv_iconst (v := nI 0) hx hb dX1_may_16 (by decide) ?_
      refine lv_istore_n (lv' := [(3, .int (nI 0)), (0, .ref h), (1, .int u), (2, .int p)]) hx hb dX1_may_17 rfl hl (by decide) rfl (fun ls hl => ?_)
      have loop : ∀ (N i : Nat) (H : Heap) (locs : List Loc) (ls : Array Slot), i ≤ n → n < i + N → va_P D vwCl (gm_W cI cZ h a n T G K P O nx kp) H → va_D A (gm_W cI cZ h a n T G K P O nx kp) → va_S A s.heap H locs → lv_has ls 4 [(0, .ref h), (1, .int u), (2, .int p), (3, .int (nI i))] → (∀ j, j < i → gl_rt K P O u p j = false) → W pr l e (rm_ 1) s m ar below meth c H locs 0 0 Q (F0 m 18 ls []) := by
        intro N
        induction N with
        | zero =>
          intro i  H locs ls h1 h2
          exact absurd h2 (by omega)
        | succ N ih =>
          intro i  H locs ls hi hN hP hD hS hl hv
          refine lv_iload_n hx hb dX1_may_18 rfl (lv_at hl 3 rfl) ?_
          refine lv_aload_n hx hb dX1_may_19 rfl (lv_at hl 0 rfl) ?_
          refine gm_get hx hb hts hown hK hP 0 (by decide) q138 rfl rfl dX1_may_20 ?_
          refine kx_ge (tgt := 63) hx hb dX1_may_23 (by decide) (by omega) (by omega) (fun c0 => ?_) (fun c0 => ?_)
          · refine lv_iload_n hx hb dX1_may_63 rfl (lv_at hl 1 rfl) ?_
            refine lv_if_ne (tgt := 71) hx hb dX1_may_64 (by decide) (fun c6 => ?_) (fun c6 => ?_)
            · refine lv_iconst (v := nI 0) hx hb dX1_may_71 (by decide) ?_
              exact hret _ _ _ _ _ (n, T, G, K, P, O, nx, kp) dX1_may_72 rfl hP hD hS ⟨rfl, (my_0 c1 c2 c6 (gl_any_f fun j hj => hv j (by omega))).symm⟩
            · refine lv_iconst (v := nI 1) hx hb dX1_may_67 (by decide) ?_
              refine lv_goto (tgt := 72) hx hb dX1_may_68 (by decide) ?_
              exact hret _ _ _ _ _ (n, T, G, K, P, O, nx, kp) dX1_may_72 rfl hP hD hS ⟨rfl, (my_1 c1 c2 (Or.inl c6)).symm⟩
          · refine lv_aload_n hx hb dX1_may_26 rfl (lv_at hl 0 rfl) ?_
            refine gm_get hx hb hts hown hK hP 3 (by decide) q141 rfl rfl dX1_may_27 ?_
            refine lv_iload_n hx hb dX1_may_30 rfl (lv_at hl 3 rfl) ?_
            refine kx_ild hx hb hK hP 3 0 rfl rfl (by omega) (by decide) dX1_may_31 ?_
            refine lv_iload_n hx hb dX1_may_32 rfl (lv_at hl 1 rfl) ?_
            refine lv_icmp_ne (tgt := 57) hx hb dX1_may_33 (by decide) (fun c3 => ?_) (fun c3 => ?_)
            · refine lv_iinc (v := nI (i + 1)) (lv' := [(3, .int (nI (i + 1))), (0, .ref h), (1, .int u), (2, .int p)]) hx hb dX1_may_57 hl (k := 3) rfl (kx_inc _) (by decide) rfl (fun ls hl => ?_)
              refine lv_goto (tgt := 18) hx hb dX1_may_60 (by decide) ?_
              exact ih (i + 1) H locs ls (by omega) (by omega) hP hD hS (lv_sub hl [1, 2, 3, 0] rfl) (lt_s hv (gl_rt_1 c3))
            · refine lv_aload_n hx hb dX1_may_36 rfl (lv_at hl 0 rfl) ?_
              refine gm_get hx hb hts hown hK hP 4 (by decide) q142 rfl rfl dX1_may_37 ?_
              refine lv_iload_n hx hb dX1_may_40 rfl (lv_at hl 3 rfl) ?_
              refine kx_ild hx hb hK hP 4 0 rfl rfl (by omega) (by decide) dX1_may_41 ?_
              refine lv_iload_n hx hb dX1_may_42 rfl (lv_at hl 2 rfl) ?_
              refine lv_icmp_ne (tgt := 57) hx hb dX1_may_43 (by decide) (fun c4 => ?_) (fun c4 => ?_)
              · refine lv_iinc (v := nI (i + 1)) (lv' := [(3, .int (nI (i + 1))), (0, .ref h), (1, .int u), (2, .int p)]) hx hb dX1_may_57 hl (k := 3) rfl (kx_inc _) (by decide) rfl (fun ls hl => ?_)
                refine lv_goto (tgt := 18) hx hb dX1_may_60 (by decide) ?_
                exact ih (i + 1) H locs ls (by omega) (by omega) hP hD hS (lv_sub hl [1, 2, 3, 0] rfl) (lt_s hv (gl_rt_2 c4))
              · refine lv_aload_n hx hb dX1_may_46 rfl (lv_at hl 0 rfl) ?_
                refine gm_get hx hb hts hown hK hP 5 (by decide) q143 rfl rfl dX1_may_47 ?_
                refine lv_iload_n hx hb dX1_may_50 rfl (lv_at hl 3 rfl) ?_
                refine kx_zld hx hb hK hP 5 1 rfl rfl (by omega) (by decide) dX1_may_51 ?_
                refine kx_ifeq (tgt := 57) hx hb dX1_may_52 (by decide) (fun c5 => ?_) (fun c5 => ?_)
                · refine lv_iinc (v := nI (i + 1)) (lv' := [(3, .int (nI (i + 1))), (0, .ref h), (1, .int u), (2, .int p)]) hx hb dX1_may_57 hl (k := 3) rfl (kx_inc _) (by decide) rfl (fun ls hl => ?_)
                  refine lv_goto (tgt := 18) hx hb dX1_may_60 (by decide) ?_
                  exact ih (i + 1) H locs ls (by omega) (by omega) hP hD hS (lv_sub hl [1, 2, 3, 0] rfl) (lt_s hv (gl_rt_3 c5))
                · refine lv_iconst (v := nI 1) hx hb dX1_may_55 (by decide) ?_
                  exact hret _ _ _ _ _ (n, T, G, K, P, O, nx, kp) dX1_may_56 rfl hP hD hS ⟨rfl, (my_1 c1 c2 (Or.inr (gl_any_t c0 (gl_rt_iff.mpr ⟨c3, c4, c5⟩)))).symm⟩
      exact loop (n + 1) 0 H locs ls (by omega) (by omega) hP hD hS (lv_sub hl [1, 2, 3, 0] rfl) lt_0
    · replace c2 := not_f c2
      refine lv_iconst (v := (-1)) hx hb dX1_may_14 (by decide) ?_
      exact hret _ _ _ _ _ (n, T, G, K, P, O, nx, kp) dX1_may_15 rfl hP hD hS ⟨rfl, (my_no (Or.inr c2)).symm⟩
set_option maxHeartbeats 4000000 in
set_option maxRecDepth 100000 in
theorem cM_received (l : Launch) (D : va_G) (cI cZ : ClassId) (h : Nat) (a : Nat → Nat) (sz n : Nat) (T G K P : Nat → Int32) (O : Nat → Bool) (nx : Nat) (kp : Nat → Bool) (u p : Int32) (hn : n ≤ 48) : ct_i l D (ty_ cI cZ) yX1_received cX1_received 5 .int (rm_ 1) (gm_w cI cZ h a) (n, T, G, K, P, O, nx, kp) sz [.ref h, .int u, .int p] (fun r v => v = (n, T, G, K, P, O, nx, kp) ∧ r = gl_rc n K P u p) := by
  refine en_i (by decide) (Nat.le_of_ble_eq_true rfl) ?_
  intro pr e s m ar below meth c A Q C0 hK hret H locs ls hP hD hS hl
  obtain ⟨hx, hb, hml, hown, hts, hA⟩ := C0
  have hown : s.vm.findClass RX1 = some m.cls := hown
  have hP : va_P D vwCl (gm_W cI cZ h a n T G K P O nx kp) H := hP
  have hD : va_D A (gm_W cI cZ h a n T G K P O nx kp) := hD
  have hl : lv_has ls 5 [(0, .ref h), (1, .int u), (2, .int p)] := hl
  refine lv_iload_n hx hb dX1_received_0 rfl (lv_at hl 1 rfl) ?_
  refine ca_s (cM_bad l D _ u) ⟨hx, hb, hml, hown, hts⟩ (va_cwS 1 hts (lw_S q167 q168 q12 q169) rfl rfl rfl (by decide +kernel) ⟨by decide, by decide⟩) hK hP hS hA rfl hl.1 rfl (Nat.le_of_ble_eq_true rfl) dX1_received_1 ⟨Nat.zero_le _, Nat.zero_le _⟩ (fun r H locs hq hP hS => ?_)
  subst hq
  refine kx_ifne (tgt := 14) hx hb dX1_received_4 (by decide) (fun c1 => ?_) (fun c1 => ?_)
  · replace c1 := not_f c1
    refine lv_iconst (v := (-1)) hx hb dX1_received_14 (by decide) ?_
    exact hret _ _ _ _ _ (n, T, G, K, P, O, nx, kp) dX1_received_15 rfl hP hD hS ⟨rfl, (rc_no (Or.inl c1)).symm⟩
  · replace c1 := not_t c1
    refine lv_iload_n hx hb dX1_received_7 rfl (lv_at hl 2 rfl) ?_
    refine ca_s (cM_badPrivilege l D _ p) ⟨hx, hb, hml, hown, hts⟩ (va_cwS 1 hts (lw_S q170 q171 q12 q172) rfl rfl rfl (by decide +kernel) ⟨by decide, by decide⟩) hK hP hS hA rfl hl.1 rfl (Nat.le_of_ble_eq_true rfl) dX1_received_8 ⟨Nat.zero_le _, Nat.zero_le _⟩ (fun r H locs hq hP hS => ?_)
    subst hq
    refine kx_ifeq (tgt := 16) hx hb dX1_received_11 (by decide) (fun c2 => ?_) (fun c2 => ?_)
    · replace c2 := not_t c2
      refine lv_iconst (v := nI 0) hx hb dX1_received_16 (by decide) ?_
      refine lv_istore_n (lv' := [(3, .int (nI 0)), (0, .ref h), (1, .int u), (2, .int p)]) hx hb dX1_received_17 rfl hl (by decide) rfl (fun ls hl => ?_)
      refine lv_iconst (v := nI 0) hx hb dX1_received_18 (by decide) ?_
      refine lv_istore (lv' := [(4, .int (nI 0)), (3, .int (nI 0)), (0, .ref h), (1, .int u), (2, .int p)]) hx hb dX1_received_19 hl (by decide) rfl (fun ls hl => ?_)
      have loop : ∀ (N i : Nat) (H : Heap) (locs : List Loc) (ls : Array Slot), i ≤ n → n < i + N → va_P D vwCl (gm_W cI cZ h a n T G K P O nx kp) H → va_D A (gm_W cI cZ h a n T G K P O nx kp) → va_S A s.heap H locs → lv_has ls 5 [(0, .ref h), (1, .int u), (2, .int p), (3, .int (nI (gl_cnt (gl_at2 K P u p) i))), (4, .int (nI i))] → W pr l e (rm_ 1) s m ar below meth c H locs 0 0 Q (F0 m 21 ls []) := by
        intro N
        induction N with
        | zero =>
          intro i  H locs ls h1 h2
          exact absurd h2 (by omega)
        | succ N ih =>
          intro i  H locs ls hi hN hP hD hS hl 
          refine lv_iload hx hb dX1_received_21 (lv_at hl 4 rfl) ?_
          refine lv_aload_n hx hb dX1_received_23 rfl (lv_at hl 0 rfl) ?_
          refine gm_get hx hb hts hown hK hP 0 (by decide) q138 rfl rfl dX1_received_24 ?_
          refine kx_ge (tgt := 61) hx hb dX1_received_27 (by decide) (by omega) (by omega) (fun c0 => ?_) (fun c0 => ?_)
          · obtain rfl : n = i := by omega
            refine lv_iload_n hx hb dX1_received_61 rfl (lv_at hl 3 rfl) ?_
            exact hret _ _ _ _ _ (n, T, G, K, P, O, nx, kp) dX1_received_62 rfl hP hD hS ⟨rfl, (rc_ok c1 c2).symm⟩
          · refine lv_aload_n hx hb dX1_received_30 rfl (lv_at hl 0 rfl) ?_
            refine gm_get hx hb hts hown hK hP 3 (by decide) q141 rfl rfl dX1_received_31 ?_
            refine lv_iload hx hb dX1_received_34 (lv_at hl 4 rfl) ?_
            refine kx_ild hx hb hK hP 3 0 rfl rfl (by omega) (by decide) dX1_received_36 ?_
            refine lv_iload_n hx hb dX1_received_37 rfl (lv_at hl 1 rfl) ?_
            refine lv_icmp_ne (tgt := 55) hx hb dX1_received_38 (by decide) (fun c3 => ?_) (fun c3 => ?_)
            · refine lv_iinc (v := nI (i + 1)) (lv' := [(4, .int (nI (i + 1))), (0, .ref h), (1, .int u), (2, .int p), (3, .int (nI (gl_cnt (gl_at2 K P u p) i)))]) hx hb dX1_received_55 hl (k := 4) rfl (kx_inc _) (by decide) rfl (fun ls hl => ?_)
              refine lv_goto (tgt := 21) hx hb dX1_received_58 (by decide) ?_
              exact ih (i + 1) H locs ls (by omega) (by omega) hP hD hS (by rw [gl_cnt_f (gl_at2_1 c3)]; exact lv_sub hl [1, 2, 3, 4, 0] rfl)
            · refine lv_aload_n hx hb dX1_received_41 rfl (lv_at hl 0 rfl) ?_
              refine gm_get hx hb hts hown hK hP 4 (by decide) q142 rfl rfl dX1_received_42 ?_
              refine lv_iload hx hb dX1_received_45 (lv_at hl 4 rfl) ?_
              refine kx_ild hx hb hK hP 4 0 rfl rfl (by omega) (by decide) dX1_received_47 ?_
              refine lv_iload_n hx hb dX1_received_48 rfl (lv_at hl 2 rfl) ?_
              refine lv_icmp_ne (tgt := 55) hx hb dX1_received_49 (by decide) (fun c4 => ?_) (fun c4 => ?_)
              · refine lv_iinc (v := nI (i + 1)) (lv' := [(4, .int (nI (i + 1))), (0, .ref h), (1, .int u), (2, .int p), (3, .int (nI (gl_cnt (gl_at2 K P u p) i)))]) hx hb dX1_received_55 hl (k := 4) rfl (kx_inc _) (by decide) rfl (fun ls hl => ?_)
                refine lv_goto (tgt := 21) hx hb dX1_received_58 (by decide) ?_
                exact ih (i + 1) H locs ls (by omega) (by omega) hP hD hS (by rw [gl_cnt_f (gl_at2_2 c4)]; exact lv_sub hl [1, 2, 3, 4, 0] rfl)
              · refine lv_iinc (v := nI (gl_cnt (gl_at2 K P u p) i + 1)) (lv' := [(3, .int (nI (gl_cnt (gl_at2 K P u p) i + 1))), (0, .ref h), (1, .int u), (2, .int p), (4, .int (nI i))]) hx hb dX1_received_52 hl (k := 3) rfl (kx_inc _) (by decide) rfl (fun ls hl => ?_)
                refine lv_iinc (v := nI (i + 1)) (lv' := [(4, .int (nI (i + 1))), (3, .int (nI (gl_cnt (gl_at2 K P u p) i + 1))), (0, .ref h), (1, .int u), (2, .int p)]) hx hb dX1_received_55 hl (k := 4) rfl (kx_inc _) (by decide) rfl (fun ls hl => ?_)
                refine lv_goto (tgt := 21) hx hb dX1_received_58 (by decide) ?_
                exact ih (i + 1) H locs ls (by omega) (by omega) hP hD hS (by rw [gl_cnt_t (gl_at2_iff.mpr ⟨c3, c4⟩)]; exact lv_sub hl [2, 3, 4, 1, 0] rfl)
      exact loop (n + 1) 0 H locs ls (by omega) (by omega) hP hD hS (lv_sub hl [2, 3, 4, 1, 0] rfl)
    · replace c2 := not_f c2
      refine lv_iconst (v := (-1)) hx hb dX1_received_14 (by decide) ?_
      exact hret _ _ _ _ _ (n, T, G, K, P, O, nx, kp) dX1_received_15 rfl hP hD hS ⟨rfl, (rc_no (Or.inr c2)).symm⟩
set_option maxHeartbeats 4000000 in
set_option maxRecDepth 100000 in
theorem cM_given (l : Launch) (D : va_G) (cI cZ : ClassId) (h : Nat) (a : Nat → Nat) (sz n : Nat) (T G K P : Nat → Int32) (O : Nat → Bool) (nx : Nat) (kp : Nat → Bool) (u p : Int32) (hn : n ≤ 48) : ct_i l D (ty_ cI cZ) yX1_given cX1_given 5 .int (rm_ 1) (gm_w cI cZ h a) (n, T, G, K, P, O, nx, kp) sz [.ref h, .int u, .int p] (fun r v => v = (n, T, G, K, P, O, nx, kp) ∧ r = gl_rc n G P u p) := by
  refine en_i (by decide) (Nat.le_of_ble_eq_true rfl) ?_
  intro pr e s m ar below meth c A Q C0 hK hret H locs ls hP hD hS hl
  obtain ⟨hx, hb, hml, hown, hts, hA⟩ := C0
  have hown : s.vm.findClass RX1 = some m.cls := hown
  have hP : va_P D vwCl (gm_W cI cZ h a n T G K P O nx kp) H := hP
  have hD : va_D A (gm_W cI cZ h a n T G K P O nx kp) := hD
  have hl : lv_has ls 5 [(0, .ref h), (1, .int u), (2, .int p)] := hl
  refine lv_iload_n hx hb dX1_given_0 rfl (lv_at hl 1 rfl) ?_
  refine ca_s (cM_bad l D _ u) ⟨hx, hb, hml, hown, hts⟩ (va_cwS 1 hts (lw_S q167 q168 q12 q169) rfl rfl rfl (by decide +kernel) ⟨by decide, by decide⟩) hK hP hS hA rfl hl.1 rfl (Nat.le_of_ble_eq_true rfl) dX1_given_1 ⟨Nat.zero_le _, Nat.zero_le _⟩ (fun r H locs hq hP hS => ?_)
  subst hq
  refine kx_ifne (tgt := 14) hx hb dX1_given_4 (by decide) (fun c1 => ?_) (fun c1 => ?_)
  · replace c1 := not_f c1
    refine lv_iconst (v := (-1)) hx hb dX1_given_14 (by decide) ?_
    exact hret _ _ _ _ _ (n, T, G, K, P, O, nx, kp) dX1_given_15 rfl hP hD hS ⟨rfl, (rc_no (Or.inl c1)).symm⟩
  · replace c1 := not_t c1
    refine lv_iload_n hx hb dX1_given_7 rfl (lv_at hl 2 rfl) ?_
    refine ca_s (cM_badPrivilege l D _ p) ⟨hx, hb, hml, hown, hts⟩ (va_cwS 1 hts (lw_S q170 q171 q12 q172) rfl rfl rfl (by decide +kernel) ⟨by decide, by decide⟩) hK hP hS hA rfl hl.1 rfl (Nat.le_of_ble_eq_true rfl) dX1_given_8 ⟨Nat.zero_le _, Nat.zero_le _⟩ (fun r H locs hq hP hS => ?_)
    subst hq
    refine kx_ifeq (tgt := 16) hx hb dX1_given_11 (by decide) (fun c2 => ?_) (fun c2 => ?_)
    · replace c2 := not_t c2
      refine lv_iconst (v := nI 0) hx hb dX1_given_16 (by decide) ?_
      refine lv_istore_n (lv' := [(3, .int (nI 0)), (0, .ref h), (1, .int u), (2, .int p)]) hx hb dX1_given_17 rfl hl (by decide) rfl (fun ls hl => ?_)
      refine lv_iconst (v := nI 0) hx hb dX1_given_18 (by decide) ?_
      refine lv_istore (lv' := [(4, .int (nI 0)), (3, .int (nI 0)), (0, .ref h), (1, .int u), (2, .int p)]) hx hb dX1_given_19 hl (by decide) rfl (fun ls hl => ?_)
      have loop : ∀ (N i : Nat) (H : Heap) (locs : List Loc) (ls : Array Slot), i ≤ n → n < i + N → va_P D vwCl (gm_W cI cZ h a n T G K P O nx kp) H → va_D A (gm_W cI cZ h a n T G K P O nx kp) → va_S A s.heap H locs → lv_has ls 5 [(0, .ref h), (1, .int u), (2, .int p), (3, .int (nI (gl_cnt (gl_at2 G P u p) i))), (4, .int (nI i))] → W pr l e (rm_ 1) s m ar below meth c H locs 0 0 Q (F0 m 21 ls []) := by
        intro N
        induction N with
        | zero =>
          intro i  H locs ls h1 h2
          exact absurd h2 (by omega)
        | succ N ih =>
          intro i  H locs ls hi hN hP hD hS hl 
          refine lv_iload hx hb dX1_given_21 (lv_at hl 4 rfl) ?_
          refine lv_aload_n hx hb dX1_given_23 rfl (lv_at hl 0 rfl) ?_
          refine gm_get hx hb hts hown hK hP 0 (by decide) q138 rfl rfl dX1_given_24 ?_
          refine kx_ge (tgt := 61) hx hb dX1_given_27 (by decide) (by omega) (by omega) (fun c0 => ?_) (fun c0 => ?_)
          · obtain rfl : n = i := by omega
            refine lv_iload_n hx hb dX1_given_61 rfl (lv_at hl 3 rfl) ?_
            exact hret _ _ _ _ _ (n, T, G, K, P, O, nx, kp) dX1_given_62 rfl hP hD hS ⟨rfl, (rc_ok c1 c2).symm⟩
          · refine lv_aload_n hx hb dX1_given_30 rfl (lv_at hl 0 rfl) ?_
            refine gm_get hx hb hts hown hK hP 2 (by decide) q140 rfl rfl dX1_given_31 ?_
            refine lv_iload hx hb dX1_given_34 (lv_at hl 4 rfl) ?_
            refine kx_ild hx hb hK hP 2 0 rfl rfl (by omega) (by decide) dX1_given_36 ?_
            refine lv_iload_n hx hb dX1_given_37 rfl (lv_at hl 1 rfl) ?_
            refine lv_icmp_ne (tgt := 55) hx hb dX1_given_38 (by decide) (fun c3 => ?_) (fun c3 => ?_)
            · refine lv_iinc (v := nI (i + 1)) (lv' := [(4, .int (nI (i + 1))), (0, .ref h), (1, .int u), (2, .int p), (3, .int (nI (gl_cnt (gl_at2 G P u p) i)))]) hx hb dX1_given_55 hl (k := 4) rfl (kx_inc _) (by decide) rfl (fun ls hl => ?_)
              refine lv_goto (tgt := 21) hx hb dX1_given_58 (by decide) ?_
              exact ih (i + 1) H locs ls (by omega) (by omega) hP hD hS (by rw [gl_cnt_f (gl_at2_1 c3)]; exact lv_sub hl [1, 2, 3, 4, 0] rfl)
            · refine lv_aload_n hx hb dX1_given_41 rfl (lv_at hl 0 rfl) ?_
              refine gm_get hx hb hts hown hK hP 4 (by decide) q142 rfl rfl dX1_given_42 ?_
              refine lv_iload hx hb dX1_given_45 (lv_at hl 4 rfl) ?_
              refine kx_ild hx hb hK hP 4 0 rfl rfl (by omega) (by decide) dX1_given_47 ?_
              refine lv_iload_n hx hb dX1_given_48 rfl (lv_at hl 2 rfl) ?_
              refine lv_icmp_ne (tgt := 55) hx hb dX1_given_49 (by decide) (fun c4 => ?_) (fun c4 => ?_)
              · refine lv_iinc (v := nI (i + 1)) (lv' := [(4, .int (nI (i + 1))), (0, .ref h), (1, .int u), (2, .int p), (3, .int (nI (gl_cnt (gl_at2 G P u p) i)))]) hx hb dX1_given_55 hl (k := 4) rfl (kx_inc _) (by decide) rfl (fun ls hl => ?_)
                refine lv_goto (tgt := 21) hx hb dX1_given_58 (by decide) ?_
                exact ih (i + 1) H locs ls (by omega) (by omega) hP hD hS (by rw [gl_cnt_f (gl_at2_2 c4)]; exact lv_sub hl [1, 2, 3, 4, 0] rfl)
              · refine lv_iinc (v := nI (gl_cnt (gl_at2 G P u p) i + 1)) (lv' := [(3, .int (nI (gl_cnt (gl_at2 G P u p) i + 1))), (0, .ref h), (1, .int u), (2, .int p), (4, .int (nI i))]) hx hb dX1_given_52 hl (k := 3) rfl (kx_inc _) (by decide) rfl (fun ls hl => ?_)
                refine lv_iinc (v := nI (i + 1)) (lv' := [(4, .int (nI (i + 1))), (3, .int (nI (gl_cnt (gl_at2 G P u p) i + 1))), (0, .ref h), (1, .int u), (2, .int p)]) hx hb dX1_given_55 hl (k := 4) rfl (kx_inc _) (by decide) rfl (fun ls hl => ?_)
                refine lv_goto (tgt := 21) hx hb dX1_given_58 (by decide) ?_
                exact ih (i + 1) H locs ls (by omega) (by omega) hP hD hS (by rw [gl_cnt_t (gl_at2_iff.mpr ⟨c3, c4⟩)]; exact lv_sub hl [2, 3, 4, 1, 0] rfl)
      exact loop (n + 1) 0 H locs ls (by omega) (by omega) hP hD hS (lv_sub hl [2, 3, 4, 1, 0] rfl)
    · replace c2 := not_f c2
      refine lv_iconst (v := (-1)) hx hb dX1_given_14 (by decide) ?_
      exact hret _ _ _ _ _ (n, T, G, K, P, O, nx, kp) dX1_given_15 rfl hP hD hS ⟨rfl, (rc_no (Or.inr c2)).symm⟩
set_option maxHeartbeats 4000000 in
set_option maxRecDepth 100000 in
theorem cM_holds (l : Launch) (D : va_G) (cI cZ : ClassId) (h : Nat) (a : Nat → Nat) (sz n : Nat) (T G K P : Nat → Int32) (O : Nat → Bool) (nx : Nat) (kp : Nat → Bool) (u p : Int32) (hn : n ≤ 48) : ct_i l D (ty_ cI cZ) yX1_holds cX1_holds 3 .int (rm_ 2) (gm_w cI cZ h a) (n, T, G, K, P, O, nx, kp) sz [.ref h, .int u, .int p] (fun r v => v = (n, T, G, K, P, O, nx, kp) ∧ r = gl_hd n K P u p) := by
  refine en_i (by decide) (Nat.le_of_ble_eq_true rfl) ?_
  intro pr e s m ar below meth c A Q C0 hK hret H locs ls hP hD hS hl
  obtain ⟨hx, hb, hml, hown, hts, hA⟩ := C0
  have hown : s.vm.findClass RX1 = some m.cls := hown
  have hP : va_P D vwCl (gm_W cI cZ h a n T G K P O nx kp) H := hP
  have hD : va_D A (gm_W cI cZ h a n T G K P O nx kp) := hD
  have hl : lv_has ls 3 [(0, .ref h), (1, .int u), (2, .int p)] := hl
  refine lv_iload_n hx hb dX1_holds_0 rfl (lv_at hl 1 rfl) ?_
  refine ca_s (cM_bad l D _ u) ⟨hx, hb, hml, hown, hts⟩ (va_cwS 1 hts (lw_S q167 q168 q12 q169) rfl rfl rfl (by decide +kernel) ⟨by decide, by decide⟩) hK hP hS hA rfl hl.1 rfl (Nat.le_of_ble_eq_true rfl) dX1_holds_1 ⟨Nat.zero_le _, Nat.zero_le _⟩ (fun r H locs hq hP hS => ?_)
  subst hq
  refine kx_ifne (tgt := 14) hx hb dX1_holds_4 (by decide) (fun c1 => ?_) (fun c1 => ?_)
  · replace c1 := not_f c1
    refine lv_iconst (v := (-1)) hx hb dX1_holds_14 (by decide) ?_
    exact hret _ _ _ _ _ (n, T, G, K, P, O, nx, kp) dX1_holds_15 rfl hP hD hS ⟨rfl, (hd_no (Or.inl c1)).symm⟩
  · replace c1 := not_t c1
    refine lv_iload_n hx hb dX1_holds_7 rfl (lv_at hl 2 rfl) ?_
    refine ca_s (cM_badPrivilege l D _ p) ⟨hx, hb, hml, hown, hts⟩ (va_cwS 1 hts (lw_S q170 q171 q12 q172) rfl rfl rfl (by decide +kernel) ⟨by decide, by decide⟩) hK hP hS hA rfl hl.1 rfl (Nat.le_of_ble_eq_true rfl) dX1_holds_8 ⟨Nat.zero_le _, Nat.zero_le _⟩ (fun r H locs hq hP hS => ?_)
    subst hq
    refine kx_ifeq (tgt := 16) hx hb dX1_holds_11 (by decide) (fun c2 => ?_) (fun c2 => ?_)
    · replace c2 := not_t c2
      refine lv_iload_n hx hb dX1_holds_16 rfl (lv_at hl 1 rfl) ?_
      refine lv_if_eq (tgt := 29) hx hb dX1_holds_17 (by decide) (fun c3 => ?_) (fun c3 => ?_)
      · refine lv_iconst (v := nI 1) hx hb dX1_holds_29 (by decide) ?_
        refine lv_goto (tgt := 34) hx hb dX1_holds_30 (by decide) ?_
        exact hret _ _ _ _ _ (n, T, G, K, P, O, nx, kp) dX1_holds_34 rfl hP hD hS ⟨rfl, (hd_own c1 c2 c3).symm⟩
      · refine lv_aload_n hx hb dX1_holds_20 rfl (lv_at hl 0 rfl) ?_
        refine lv_iload_n hx hb dX1_holds_21 rfl (lv_at hl 1 rfl) ?_
        refine lv_iload_n hx hb dX1_holds_22 rfl (lv_at hl 2 rfl) ?_
        refine ca_i (cM_received l D cI cZ h a _ n T G K P O nx kp u p hn) ⟨hx, hb, hml, hown, hts⟩ (cwV 2 hts (lw_V q205 q206 q207 q12 q208) rfl rfl rfl (by decide +kernel) ⟨by decide, by decide⟩) hK hP hD hS hA (va_recv hK hP (ci := 1) (q0 := 0) rfl rfl) rfl hl.1 rfl (Nat.le_of_ble_eq_true rfl) dX1_holds_23 ⟨Nat.zero_le _, Nat.zero_le _⟩ (fun r v H locs hq hP hD hS => ?_)
        obtain ⟨rfl, rfl⟩ := hq
        have hP : va_P D vwCl (gm_W cI cZ h a n T G K P O nx kp) H := hP
        have hD : va_D A (gm_W cI cZ h a n T G K P O nx kp) := hD
        refine lv_if_le (tgt := 33) hx hb dX1_holds_26 (by decide) (fun c4 => ?_) (fun c4 => ?_)
        · refine lv_iconst (v := nI 0) hx hb dX1_holds_33 (by decide) ?_
          exact hret _ _ _ _ _ (n, T, G, K, P, O, nx, kp) dX1_holds_34 rfl hP hD hS ⟨rfl, (hd_0 hn c1 c2 c3 c4).symm⟩
        · refine lv_iconst (v := nI 1) hx hb dX1_holds_29 (by decide) ?_
          refine lv_goto (tgt := 34) hx hb dX1_holds_30 (by decide) ?_
          exact hret _ _ _ _ _ (n, T, G, K, P, O, nx, kp) dX1_holds_34 rfl hP hD hS ⟨rfl, (hd_1 c1 c2 c4).symm⟩
    · replace c2 := not_f c2
      refine lv_iconst (v := (-1)) hx hb dX1_holds_14 (by decide) ?_
      exact hret _ _ _ _ _ (n, T, G, K, P, O, nx, kp) dX1_holds_15 rfl hP hD hS ⟨rfl, (hd_no (Or.inr c2)).symm⟩
set_option maxHeartbeats 4000000 in
set_option maxRecDepth 100000 in
theorem cM_stands (l : Launch) (D : va_G) (cI cZ : ClassId) (h : Nat) (a : Nat → Nat) (sz n : Nat) (T G K P : Nat → Int32) (O : Nat → Bool) (nx : Nat) (kp : Nat → Bool) (t : Int32) (hn : n ≤ 48) : ct_i l D (ty_ cI cZ) yX1_stands cX1_stands 3 .int (rm_ 0) (gm_w cI cZ h a) (n, T, G, K, P, O, nx, kp) sz [.ref h, .int t] (fun r v => v = (n, T, G, K, P, O, nx, kp) ∧ r = gl_st n T t) := by
  refine en_i (by decide) (Nat.le_of_ble_eq_true rfl) ?_
  intro pr e s m ar below meth c A Q C0 hK hret H locs ls hP hD hS hl
  obtain ⟨hx, hb, hml, hown, hts, hA⟩ := C0
  have hown : s.vm.findClass RX1 = some m.cls := hown
  have hP : va_P D vwCl (gm_W cI cZ h a n T G K P O nx kp) H := hP
  have hD : va_D A (gm_W cI cZ h a n T G K P O nx kp) := hD
  have hl : lv_has ls 3 [(0, .ref h), (1, .int t)] := hl
  refine lv_iconst (v := nI 0) hx hb dX1_stands_0 (by decide) ?_
  refine lv_istore_n (lv' := [(2, .int (nI 0)), (0, .ref h), (1, .int t)]) hx hb dX1_stands_1 rfl hl (by decide) rfl (fun ls hl => ?_)
  have loop : ∀ (N i : Nat) (H : Heap) (locs : List Loc) (ls : Array Slot), i ≤ n → n < i + N → va_P D vwCl (gm_W cI cZ h a n T G K P O nx kp) H → va_D A (gm_W cI cZ h a n T G K P O nx kp) → va_S A s.heap H locs → lv_has ls 3 [(0, .ref h), (1, .int t), (2, .int (nI i))] → (∀ j, j < i → ¬ T j = t) → W pr l e (rm_ 0) s m ar below meth c H locs 0 0 Q (F0 m 2 ls []) := by
    intro N
    induction N with
    | zero =>
      intro i  H locs ls h1 h2
      exact absurd h2 (by omega)
    | succ N ih =>
      intro i  H locs ls hi hN hP hD hS hl hv
      refine lv_iload_n hx hb dX1_stands_2 rfl (lv_at hl 2 rfl) ?_
      refine lv_aload_n hx hb dX1_stands_3 rfl (lv_at hl 0 rfl) ?_
      refine gm_get hx hb hts hown hK hP 0 (by decide) q138 rfl rfl dX1_stands_4 ?_
      refine kx_ge (tgt := 28) hx hb dX1_stands_7 (by decide) (by omega) (by omega) (fun c0 => ?_) (fun c0 => ?_)
      · refine lv_iconst (v := nI 0) hx hb dX1_stands_28 (by decide) ?_
        exact hret _ _ _ _ _ (n, T, G, K, P, O, nx, kp) dX1_stands_29 rfl hP hD hS ⟨rfl, (gl_st_0 fun j hj => hv j (by omega)).symm⟩
      · refine lv_aload_n hx hb dX1_stands_10 rfl (lv_at hl 0 rfl) ?_
        refine gm_get hx hb hts hown hK hP 1 (by decide) q139 rfl rfl dX1_stands_11 ?_
        refine lv_iload_n hx hb dX1_stands_14 rfl (lv_at hl 2 rfl) ?_
        refine kx_ild hx hb hK hP 1 0 rfl rfl (by omega) (by decide) dX1_stands_15 ?_
        refine lv_iload_n hx hb dX1_stands_16 rfl (lv_at hl 1 rfl) ?_
        refine lv_icmp_ne (tgt := 22) hx hb dX1_stands_17 (by decide) (fun c1 => ?_) (fun c1 => ?_)
        · refine lv_iinc (v := nI (i + 1)) (lv' := [(2, .int (nI (i + 1))), (0, .ref h), (1, .int t)]) hx hb dX1_stands_22 hl (k := 2) rfl (kx_inc _) (by decide) rfl (fun ls hl => ?_)
          refine lv_goto (tgt := 2) hx hb dX1_stands_25 (by decide) ?_
          exact ih (i + 1) H locs ls (by omega) (by omega) hP hD hS (lv_sub hl [1, 2, 0] rfl) (lt_s hv c1)
        · refine lv_iconst (v := nI 1) hx hb dX1_stands_20 (by decide) ?_
          exact hret _ _ _ _ _ (n, T, G, K, P, O, nx, kp) dX1_stands_21 rfl hP hD hS ⟨rfl, (gl_st_1 c0 c1).symm⟩
  exact loop (n + 1) 0 H locs ls (by omega) (by omega) hP hD hS (lv_sub hl [1, 2, 0] rfl) lt_0
end
section
/-! GrantLedgerModel: grant, reach, revoke, expel -/
set_option maxHeartbeats 4000000 in
set_option maxRecDepth 100000 in
theorem cM_grant (l : Launch) (D : va_G) (cI cZ : ClassId) (h : Nat) (a : Nat → Nat) (sz n : Nat) (T G K P : Nat → Int32) (O : Nat → Bool) (nx : Nat) (kp : Nat → Bool) (g k p : Int32) (o : Bool) (hn : n ≤ 48) : ct_i l D (ty_ cI cZ) yX1_grant cX1_grant 5 .int (rm_ 2) (gm_w cI cZ h a) (n, T, G, K, P, O, nx, kp) sz [.ref h, .int g, .int k, .int p, .int (bZ o)] (fun r v => (gl_gc n K P O g k p = 0 ∧ r = -1 ∧ v = (n, T, G, K, P, O, nx, kp)) ∨ (gl_gc n K P O g k p = 1 ∧ r = -2 ∧ v = (n, T, G, K, P, O, nx, kp)) ∨ (gl_gc n K P O g k p = 2 ∧ r = nI nx ∧ v = (n + 1, va_up T n (nI nx), va_up G n g, va_up K n k, va_up P n p, va_up O n o, nx + 1, kp))) := by
  refine en_i (by decide) (Nat.le_of_ble_eq_true rfl) ?_
  intro pr e s m ar below meth c A Q C0 hK hret H locs ls hP hD hS hl
  obtain ⟨hx, hb, hml, hown, hts, hA⟩ := C0
  have hown : s.vm.findClass RX1 = some m.cls := hown
  have hP : va_P D vwCl (gm_W cI cZ h a n T G K P O nx kp) H := hP
  have hD : va_D A (gm_W cI cZ h a n T G K P O nx kp) := hD
  have hl : lv_has ls 5 [(0, .ref h), (1, .int g), (2, .int k), (3, .int p), (4, .int (bZ o))] := hl
  refine lv_iload_n hx hb dX1_grant_0 rfl (lv_at hl 1 rfl) ?_
  refine ca_s (cM_bad l D _ g) ⟨hx, hb, hml, hown, hts⟩ (va_cwS 1 hts (lw_S q167 q168 q12 q169) rfl rfl rfl (by decide +kernel) ⟨by decide, by decide⟩) hK hP hS hA rfl hl.1 rfl (Nat.le_of_ble_eq_true rfl) dX1_grant_1 ⟨Nat.zero_le _, Nat.zero_le _⟩ (fun r H locs hq hP hS => ?_)
  subst hq
  refine kx_ifne (tgt := 39) hx hb dX1_grant_4 (by decide) (fun c1 => ?_) (fun c1 => ?_)
  · replace c1 := not_f c1
    refine lv_iconst (v := (-1)) hx hb dX1_grant_39 (by decide) ?_
    exact hret _ _ _ _ _ (n, T, G, K, P, O, nx, kp) dX1_grant_40 rfl hP hD hS (Or.inl ⟨by simp [gl_gc, c1], rfl, rfl⟩)
  · replace c1 := not_t c1
    refine lv_iload_n hx hb dX1_grant_7 rfl (lv_at hl 2 rfl) ?_
    refine ca_s (cM_bad l D _ k) ⟨hx, hb, hml, hown, hts⟩ (va_cwS 1 hts (lw_S q167 q168 q12 q169) rfl rfl rfl (by decide +kernel) ⟨by decide, by decide⟩) hK hP hS hA rfl hl.1 rfl (Nat.le_of_ble_eq_true rfl) dX1_grant_8 ⟨Nat.zero_le _, Nat.zero_le _⟩ (fun r H locs hq hP hS => ?_)
    subst hq
    refine kx_ifne (tgt := 39) hx hb dX1_grant_11 (by decide) (fun c2 => ?_) (fun c2 => ?_)
    · replace c2 := not_f c2
      refine lv_iconst (v := (-1)) hx hb dX1_grant_39 (by decide) ?_
      exact hret _ _ _ _ _ (n, T, G, K, P, O, nx, kp) dX1_grant_40 rfl hP hD hS (Or.inl ⟨by simp [gl_gc, c2], rfl, rfl⟩)
    · replace c2 := not_t c2
      refine lv_iload_n hx hb dX1_grant_14 rfl (lv_at hl 1 rfl) ?_
      refine lv_iload_n hx hb dX1_grant_15 rfl (lv_at hl 2 rfl) ?_
      refine lv_icmp_eq (tgt := 39) hx hb dX1_grant_16 (by decide) (fun c3 => ?_) (fun c3 => ?_)
      · refine lv_iconst (v := (-1)) hx hb dX1_grant_39 (by decide) ?_
        exact hret _ _ _ _ _ (n, T, G, K, P, O, nx, kp) dX1_grant_40 rfl hP hD hS (Or.inl ⟨by simp [gl_gc, c3], rfl, rfl⟩)
      · refine lv_iload_n hx hb dX1_grant_19 rfl (lv_at hl 2 rfl) ?_
        refine lv_if_eq (tgt := 39) hx hb dX1_grant_20 (by decide) (fun c4 => ?_) (fun c4 => ?_)
        · refine lv_iconst (v := (-1)) hx hb dX1_grant_39 (by decide) ?_
          exact hret _ _ _ _ _ (n, T, G, K, P, O, nx, kp) dX1_grant_40 rfl hP hD hS (Or.inl ⟨by simp [gl_gc, c4], rfl, rfl⟩)
        · refine lv_iload_n hx hb dX1_grant_23 rfl (lv_at hl 3 rfl) ?_
          refine ca_s (cM_badPrivilege l D _ p) ⟨hx, hb, hml, hown, hts⟩ (va_cwS 1 hts (lw_S q170 q171 q12 q172) rfl rfl rfl (by decide +kernel) ⟨by decide, by decide⟩) hK hP hS hA rfl hl.1 rfl (Nat.le_of_ble_eq_true rfl) dX1_grant_24 ⟨Nat.zero_le _, Nat.zero_le _⟩ (fun r H locs hq hP hS => ?_)
          subst hq
          refine kx_ifne (tgt := 39) hx hb dX1_grant_27 (by decide) (fun c5 => ?_) (fun c5 => ?_)
          · replace c5 := not_f c5
            refine lv_iconst (v := (-1)) hx hb dX1_grant_39 (by decide) ?_
            exact hret _ _ _ _ _ (n, T, G, K, P, O, nx, kp) dX1_grant_40 rfl hP hD hS (Or.inl ⟨by simp [gl_gc, c5], rfl, rfl⟩)
          · replace c5 := not_t c5
            refine lv_aload_n hx hb dX1_grant_30 rfl (lv_at hl 0 rfl) ?_
            refine gm_get hx hb hts hown hK hP 0 (by decide) q138 rfl rfl dX1_grant_31 ?_
            refine lv_bipush (v := nI 48) hx hb dX1_grant_34 (by decide) ?_
            refine lv_icmp_ne (tgt := 41) hx hb dX1_grant_36 (by decide) (fun c6 => ?_) (fun c6 => ?_)
            · have hn48 : n < 48 := by
                have : n ≠ 48 := fun e => c6 (by rw [e])
                omega
              refine lv_aload_n hx hb dX1_grant_41 rfl (lv_at hl 0 rfl) ?_
              refine lv_iload_n hx hb dX1_grant_42 rfl (lv_at hl 1 rfl) ?_
              refine lv_iload_n hx hb dX1_grant_43 rfl (lv_at hl 3 rfl) ?_
              refine ca_i (cM_may l D cI cZ h a _ n T G K P O nx kp g p hn) ⟨hx, hb, hml, hown, hts⟩ (cwV 2 hts (lw_V q173 q174 q175 q12 q176) rfl rfl rfl (by decide +kernel) ⟨by decide, by decide⟩) hK hP hD hS hA (va_recv hK hP (ci := 1) (q0 := 0) rfl rfl) rfl hl.1 rfl (Nat.le_of_ble_eq_true rfl) dX1_grant_44 ⟨Nat.zero_le _, Nat.zero_le _⟩ (fun r v H locs hq hP hD hS => ?_)
              obtain ⟨rfl, rfl⟩ := hq
              have hP : va_P D vwCl (gm_W cI cZ h a n T G K P O nx kp) H := hP
              have hD : va_D A (gm_W cI cZ h a n T G K P O nx kp) := hD
              refine lv_if_ne (tgt := 53) hx hb dX1_grant_47 (by decide) (fun c7 => ?_) (fun c7 => ?_)
              · refine lv_aload_n hx hb dX1_grant_53 rfl (lv_at hl 0 rfl) ?_
                refine gm_get hx hb hts hown hK hP 1 (by decide) q139 rfl rfl dX1_grant_54 ?_
                refine lv_aload_n hx hb dX1_grant_57 rfl (lv_at hl 0 rfl) ?_
                refine gm_get hx hb hts hown hK hP 0 (by decide) q138 rfl rfl dX1_grant_58 ?_
                refine lv_aload_n hx hb dX1_grant_61 rfl (lv_at hl 0 rfl) ?_
                refine gm_get hx hb hts hown hK hP 6 (by decide) q144 rfl rfl dX1_grant_62 ?_
                refine kx_ist hx hb hK hP hD hS 1 0 rfl rfl (by omega) (by decide) dX1_grant_65 (fun H locs hP hD hS => ?_)
                have hP : va_P D vwCl (gm_W cI cZ h a n (va_up T n (nI nx)) G K P O nx kp) H := hP
                have hD : va_D A (gm_W cI cZ h a n (va_up T n (nI nx)) G K P O nx kp) := hD
                refine lv_aload_n hx hb dX1_grant_66 rfl (lv_at hl 0 rfl) ?_
                refine gm_get hx hb hts hown hK hP 2 (by decide) q140 rfl rfl dX1_grant_67 ?_
                refine lv_aload_n hx hb dX1_grant_70 rfl (lv_at hl 0 rfl) ?_
                refine gm_get hx hb hts hown hK hP 0 (by decide) q138 rfl rfl dX1_grant_71 ?_
                refine lv_iload_n hx hb dX1_grant_74 rfl (lv_at hl 1 rfl) ?_
                refine kx_ist hx hb hK hP hD hS 2 0 rfl rfl (by omega) (by decide) dX1_grant_75 (fun H locs hP hD hS => ?_)
                have hP : va_P D vwCl (gm_W cI cZ h a n (va_up T n (nI nx)) (va_up G n g) K P O nx kp) H := hP
                have hD : va_D A (gm_W cI cZ h a n (va_up T n (nI nx)) (va_up G n g) K P O nx kp) := hD
                refine lv_aload_n hx hb dX1_grant_76 rfl (lv_at hl 0 rfl) ?_
                refine gm_get hx hb hts hown hK hP 3 (by decide) q141 rfl rfl dX1_grant_77 ?_
                refine lv_aload_n hx hb dX1_grant_80 rfl (lv_at hl 0 rfl) ?_
                refine gm_get hx hb hts hown hK hP 0 (by decide) q138 rfl rfl dX1_grant_81 ?_
                refine lv_iload_n hx hb dX1_grant_84 rfl (lv_at hl 2 rfl) ?_
                refine kx_ist hx hb hK hP hD hS 3 0 rfl rfl (by omega) (by decide) dX1_grant_85 (fun H locs hP hD hS => ?_)
                have hP : va_P D vwCl (gm_W cI cZ h a n (va_up T n (nI nx)) (va_up G n g) (va_up K n k) P O nx kp) H := hP
                have hD : va_D A (gm_W cI cZ h a n (va_up T n (nI nx)) (va_up G n g) (va_up K n k) P O nx kp) := hD
                refine lv_aload_n hx hb dX1_grant_86 rfl (lv_at hl 0 rfl) ?_
                refine gm_get hx hb hts hown hK hP 4 (by decide) q142 rfl rfl dX1_grant_87 ?_
                refine lv_aload_n hx hb dX1_grant_90 rfl (lv_at hl 0 rfl) ?_
                refine gm_get hx hb hts hown hK hP 0 (by decide) q138 rfl rfl dX1_grant_91 ?_
                refine lv_iload_n hx hb dX1_grant_94 rfl (lv_at hl 3 rfl) ?_
                refine kx_ist hx hb hK hP hD hS 4 0 rfl rfl (by omega) (by decide) dX1_grant_95 (fun H locs hP hD hS => ?_)
                have hP : va_P D vwCl (gm_W cI cZ h a n (va_up T n (nI nx)) (va_up G n g) (va_up K n k) (va_up P n p) O nx kp) H := hP
                have hD : va_D A (gm_W cI cZ h a n (va_up T n (nI nx)) (va_up G n g) (va_up K n k) (va_up P n p) O nx kp) := hD
                refine lv_aload_n hx hb dX1_grant_96 rfl (lv_at hl 0 rfl) ?_
                refine gm_get hx hb hts hown hK hP 5 (by decide) q143 rfl rfl dX1_grant_97 ?_
                refine lv_aload_n hx hb dX1_grant_100 rfl (lv_at hl 0 rfl) ?_
                refine gm_get hx hb hts hown hK hP 0 (by decide) q138 rfl rfl dX1_grant_101 ?_
                refine lv_iload hx hb dX1_grant_104 (lv_at hl 4 rfl) ?_
                refine kx_zst (v := o) hx hb hK hP hD hS 5 1 rfl rfl rfl (by omega) (by decide) dX1_grant_106 (fun H locs hP hD hS => ?_)
                have hP : va_P D vwCl (gm_W cI cZ h a n (va_up T n (nI nx)) (va_up G n g) (va_up K n k) (va_up P n p) (va_up O n o) nx kp) H := hP
                have hD : va_D A (gm_W cI cZ h a n (va_up T n (nI nx)) (va_up G n g) (va_up K n k) (va_up P n p) (va_up O n o) nx kp) := hD
                refine lv_aload_n hx hb dX1_grant_107 rfl (lv_at hl 0 rfl) ?_
                refine lv_dup hx hb dX1_grant_108 rfl ?_
                refine gm_get hx hb hts hown hK hP 0 (by decide) q138 rfl rfl dX1_grant_109 ?_
                refine lv_iconst (v := nI 1) hx hb dX1_grant_112 (by decide) ?_
                refine kx_iadd (v := nI (n + 1)) hx hb dX1_grant_113 (nI_1 n) ?_
                refine gm_put hx hb hts hown hK hP hD hS 0 (by decide) q138 rfl rfl (by decide +kernel) dX1_grant_114 (fun H locs hP hD hS => ?_)
                have hP : va_P D vwCl (gm_W cI cZ h a (n + 1) (va_up T n (nI nx)) (va_up G n g) (va_up K n k) (va_up P n p) (va_up O n o) nx kp) H := hP
                have hD : va_D A (gm_W cI cZ h a (n + 1) (va_up T n (nI nx)) (va_up G n g) (va_up K n k) (va_up P n p) (va_up O n o) nx kp) := hD
                refine lv_aload_n hx hb dX1_grant_117 rfl (lv_at hl 0 rfl) ?_
                refine lv_dup hx hb dX1_grant_118 rfl ?_
                refine gm_get hx hb hts hown hK hP 6 (by decide) q144 rfl rfl dX1_grant_119 ?_
                refine lv_iconst (v := nI 1) hx hb dX1_grant_122 (by decide) ?_
                refine kx_iadd (v := nI (nx + 1)) hx hb dX1_grant_123 (nI_1 nx) ?_
                refine gm_put hx hb hts hown hK hP hD hS 6 (by decide) q144 rfl rfl (by decide +kernel) dX1_grant_124 (fun H locs hP hD hS => ?_)
                have hP : va_P D vwCl (gm_W cI cZ h a (n + 1) (va_up T n (nI nx)) (va_up G n g) (va_up K n k) (va_up P n p) (va_up O n o) (nx + 1) kp) H := hP
                have hD : va_D A (gm_W cI cZ h a (n + 1) (va_up T n (nI nx)) (va_up G n g) (va_up K n k) (va_up P n p) (va_up O n o) (nx + 1) kp) := hD
                refine lv_aload_n hx hb dX1_grant_127 rfl (lv_at hl 0 rfl) ?_
                refine gm_get hx hb hts hown hK hP 6 (by decide) q144 rfl rfl dX1_grant_128 ?_
                refine lv_iconst (v := nI 1) hx hb dX1_grant_131 (by decide) ?_
                refine kx_isub (v := nI nx) hx hb dX1_grant_132 (nI_pred _) ?_
                exact hret _ _ _ _ _ (n + 1, va_up T n (nI nx), va_up G n g, va_up K n k, va_up P n p, va_up O n o, nx + 1, kp) dX1_grant_133 rfl hP hD hS (Or.inr (Or.inr ⟨by simp only [gl_gc, c1, c2, decide_eq_false c3, decide_eq_false c4, c5, decide_eq_true hn48, Bool.not_false, Bool.and_self, if_true]; exact if_pos (my_yes c1 c5 c7), rfl, rfl⟩))
              · refine lv_bipush (v := (-2)) hx hb dX1_grant_50 (by decide) ?_
                exact hret _ _ _ _ _ (n, T, G, K, P, O, nx, kp) dX1_grant_52 rfl hP hD hS (Or.inr (Or.inl ⟨by simp only [gl_gc, c1, c2, decide_eq_false c3, decide_eq_false c4, c5, decide_eq_true hn48, Bool.not_false, Bool.and_self, if_true]; exact if_neg (my_not c1 c5 c7), rfl, rfl⟩))
            · have hn48 : ¬ n < 48 := by
                have := (nI_eq (by omega) (by decide)).mp c6
                omega
              refine lv_iconst (v := (-1)) hx hb dX1_grant_39 (by decide) ?_
              exact hret _ _ _ _ _ (n, T, G, K, P, O, nx, kp) dX1_grant_40 rfl hP hD hS (Or.inl ⟨by simp [gl_gc, hn48], rfl, rfl⟩)
set_option maxHeartbeats 4000000 in
set_option maxRecDepth 100000 in
theorem cM_reach (l : Launch) (D : va_G) (cI cZ : ClassId) (h : Nat) (a : Nat → Nat) (sz n : Nat) (T G K P : Nat → Int32) (O : Nat → Bool) (nx : Nat) (kp : Nat → Bool) (g k p : Int32) (hn : n ≤ 48) : ct_i l D (ty_ cI cZ) yX1_reach cX1_reach 5 .int (rm_ 2) (gm_w cI cZ h a) (n, T, G, K, P, O, nx, kp) sz [.ref h, .int g, .int k, .int p] (fun r v => (gl_ok3 g k p = false ∧ r = -1 ∧ v = (n, T, G, K, P, O, nx, kp)) ∨ (gl_ok3 g k p = true ∧ r = nI (gl_cnt (fun x => !(gl_ks G K P O (fun i => !gl_mk G K P g k p i) n) x) n) ∧ ∃ kp' : Nat → Bool, v = (n, T, G, K, P, O, nx, kp') ∧ ∀ j, j < n → kp' j = (gl_ks G K P O (fun i => !gl_mk G K P g k p i) n) j)) := by
  refine en_i (by decide) (Nat.le_of_ble_eq_true rfl) ?_
  intro pr e s m ar below meth c A Q C0 hK hret H locs ls hP hD hS hl
  obtain ⟨hx, hb, hml, hown, hts, hA⟩ := C0
  have hown : s.vm.findClass RX1 = some m.cls := hown
  have hP : va_P D vwCl (gm_W cI cZ h a n T G K P O nx kp) H := hP
  have hD : va_D A (gm_W cI cZ h a n T G K P O nx kp) := hD
  have hl : lv_has ls 5 [(0, .ref h), (1, .int g), (2, .int k), (3, .int p)] := hl
  refine lv_iload_n hx hb dX1_reach_0 rfl (lv_at hl 1 rfl) ?_
  refine ca_s (cM_bad l D _ g) ⟨hx, hb, hml, hown, hts⟩ (va_cwS 1 hts (lw_S q167 q168 q12 q169) rfl rfl rfl (by decide +kernel) ⟨by decide, by decide⟩) hK hP hS hA rfl hl.1 rfl (Nat.le_of_ble_eq_true rfl) dX1_reach_1 ⟨Nat.zero_le _, Nat.zero_le _⟩ (fun r H locs hq hP hS => ?_)
  subst hq
  refine kx_ifne (tgt := 21) hx hb dX1_reach_4 (by decide) (fun c1 => ?_) (fun c1 => ?_)
  · replace c1 := not_f c1
    refine lv_iconst (v := (-1)) hx hb dX1_reach_21 (by decide) ?_
    exact hret _ _ _ _ _ (n, T, G, K, P, O, nx, kp) dX1_reach_22 rfl hP hD hS (Or.inl ⟨ok3_f (Or.inl c1), rfl, rfl⟩)
  · replace c1 := not_t c1
    refine lv_iload_n hx hb dX1_reach_7 rfl (lv_at hl 2 rfl) ?_
    refine ca_s (cM_bad l D _ k) ⟨hx, hb, hml, hown, hts⟩ (va_cwS 1 hts (lw_S q167 q168 q12 q169) rfl rfl rfl (by decide +kernel) ⟨by decide, by decide⟩) hK hP hS hA rfl hl.1 rfl (Nat.le_of_ble_eq_true rfl) dX1_reach_8 ⟨Nat.zero_le _, Nat.zero_le _⟩ (fun r H locs hq hP hS => ?_)
    subst hq
    refine kx_ifne (tgt := 21) hx hb dX1_reach_11 (by decide) (fun c2 => ?_) (fun c2 => ?_)
    · replace c2 := not_f c2
      refine lv_iconst (v := (-1)) hx hb dX1_reach_21 (by decide) ?_
      exact hret _ _ _ _ _ (n, T, G, K, P, O, nx, kp) dX1_reach_22 rfl hP hD hS (Or.inl ⟨ok3_f (Or.inr (Or.inl c2)), rfl, rfl⟩)
    · replace c2 := not_t c2
      refine lv_iload_n hx hb dX1_reach_14 rfl (lv_at hl 3 rfl) ?_
      refine ca_s (cM_badPrivilege l D _ p) ⟨hx, hb, hml, hown, hts⟩ (va_cwS 1 hts (lw_S q170 q171 q12 q172) rfl rfl rfl (by decide +kernel) ⟨by decide, by decide⟩) hK hP hS hA rfl hl.1 rfl (Nat.le_of_ble_eq_true rfl) dX1_reach_15 ⟨Nat.zero_le _, Nat.zero_le _⟩ (fun r H locs hq hP hS => ?_)
      subst hq
      refine kx_ifeq (tgt := 23) hx hb dX1_reach_18 (by decide) (fun c3 => ?_) (fun c3 => ?_)
      · replace c3 := not_t c3
        refine lv_iconst (v := nI 0) hx hb dX1_reach_23 (by decide) ?_
        refine lv_istore (lv' := [(4, .int (nI 0)), (0, .ref h), (1, .int g), (2, .int k), (3, .int p)]) hx hb dX1_reach_24 hl (by decide) rfl (fun ls hl => ?_)
        have loop : ∀ (N i : Nat) (kp1 : Nat → Bool) (H : Heap) (locs : List Loc) (ls : Array Slot), i ≤ n → n < i + N → va_P D vwCl (gm_W cI cZ h a n T G K P O nx kp1) H → va_D A (gm_W cI cZ h a n T G K P O nx kp1) → va_S A s.heap H locs → lv_has ls 5 [(0, .ref h), (1, .int g), (2, .int k), (3, .int p), (4, .int (nI i))] → (∀ j, j < i → kp1 j = !gl_mk G K P g k p j) → W pr l e (rm_ 2) s m ar below meth c H locs 0 0 Q (F0 m 26 ls []) := by
          intro N
          induction N with
          | zero =>
            intro i kp1 H locs ls h1 h2
            exact absurd h2 (by omega)
          | succ N ih =>
            intro i kp1 H locs ls hi hN hP hD hS hl hv
            refine lv_iload hx hb dX1_reach_26 (lv_at hl 4 rfl) ?_
            refine lv_aload_n hx hb dX1_reach_28 rfl (lv_at hl 0 rfl) ?_
            refine gm_get hx hb hts hown hK hP 0 (by decide) q138 rfl rfl dX1_reach_29 ?_
            refine kx_ge (tgt := 86) hx hb dX1_reach_32 (by decide) (by omega) (by omega) (fun c0 => ?_) (fun c0 => ?_)
            · refine lv_aload_n hx hb dX1_reach_86 rfl (lv_at hl 0 rfl) ?_
              refine ca_i (cM_settle l D cI cZ h a _ n T G K P O nx kp1 hn) ⟨hx, hb, hml, hown, hts⟩ (cwV 0 hts (lw_V q185 q187 qs7 q12 q188) rfl rfl rfl (by decide +kernel) ⟨by decide, by decide⟩) hK hP hD hS hA (va_recv hK hP (ci := 1) (q0 := 0) rfl rfl) rfl hl.1 rfl (Nat.le_of_ble_eq_true rfl) dX1_reach_87 ⟨Nat.zero_le _, Nat.zero_le _⟩ (fun r v H locs hq hP hD hS => ?_)
              obtain ⟨rfl, rfl⟩ := hq
              have hP : va_P D vwCl (gm_W cI cZ h a n T G K P O nx (gl_ks G K P O kp1 n)) H := hP
              have hD : va_D A (gm_W cI cZ h a n T G K P O nx (gl_ks G K P O kp1 n)) := hD
              have hkk := gl_ks_congr (G := G) (K := K) (P := P) (O := O) (n := n) (a := kp1) (b := (fun i => !gl_mk G K P g k p i)) (fun j hj => hv j (by omega))
              have hgo : gl_cnt (fun x => !(gl_ks G K P O kp1 n) x) n = gl_cnt (fun x => !(gl_ks G K P O (fun i => !gl_mk G K P g k p i) n) x) n := gl_cnt_congr n (fun j hj => by rw [hkk j hj])
              exact hret _ _ _ _ _ (n, T, G, K, P, O, nx, gl_ks G K P O kp1 n) dX1_reach_90 rfl hP hD hS (Or.inr ⟨ok3_t c1 c2 c3, by rw [hgo], _, rfl, hkk⟩)
            · refine lv_aload_n hx hb dX1_reach_35 rfl (lv_at hl 0 rfl) ?_
              refine gm_get hx hb hts hown hK hP 7 (by decide) q145 rfl rfl dX1_reach_36 ?_
              refine lv_iload hx hb dX1_reach_39 (lv_at hl 4 rfl) ?_
              refine lv_aload_n hx hb dX1_reach_41 rfl (lv_at hl 0 rfl) ?_
              refine gm_get hx hb hts hown hK hP 2 (by decide) q140 rfl rfl dX1_reach_42 ?_
              refine lv_iload hx hb dX1_reach_45 (lv_at hl 4 rfl) ?_
              refine kx_ild hx hb hK hP 2 0 rfl rfl (by omega) (by decide) dX1_reach_47 ?_
              refine lv_iload_n hx hb dX1_reach_48 rfl (lv_at hl 1 rfl) ?_
              refine lv_icmp_ne (tgt := 74) hx hb dX1_reach_49 (by decide) (fun c4 => ?_) (fun c4 => ?_)
              · refine lv_iconst (v := nI 1) hx hb dX1_reach_74 (by decide) ?_
                refine lv_goto (tgt := 79) hx hb dX1_reach_75 (by decide) ?_
                refine kx_zst (v := true) hx hb hK hP hD hS 6 1 rfl rfl rfl (by omega) (by decide) dX1_reach_79 (fun H locs hP hD hS => ?_)
                have hP : va_P D vwCl (gm_W cI cZ h a n T G K P O nx (va_up kp1 i true)) H := hP
                have hD : va_D A (gm_W cI cZ h a n T G K P O nx (va_up kp1 i true)) := hD
                refine lv_iinc (v := nI (i + 1)) (lv' := [(4, .int (nI (i + 1))), (0, .ref h), (1, .int g), (2, .int k), (3, .int p)]) hx hb dX1_reach_80 hl (k := 4) rfl (kx_inc _) (by decide) rfl (fun ls hl => ?_)
                refine lv_goto (tgt := 26) hx hb dX1_reach_83 (by decide) ?_
                exact ih (i + 1) (va_up kp1 i true) H locs ls (by omega) (by omega) hP hD hS (lv_sub hl [1, 2, 3, 4, 0] rfl) (ki_up hv (by simp [gl_mk, c4]))
              · refine lv_aload_n hx hb dX1_reach_52 rfl (lv_at hl 0 rfl) ?_
                refine gm_get hx hb hts hown hK hP 3 (by decide) q141 rfl rfl dX1_reach_53 ?_
                refine lv_iload hx hb dX1_reach_56 (lv_at hl 4 rfl) ?_
                refine kx_ild hx hb hK hP 3 0 rfl rfl (by omega) (by decide) dX1_reach_58 ?_
                refine lv_iload_n hx hb dX1_reach_59 rfl (lv_at hl 2 rfl) ?_
                refine lv_icmp_ne (tgt := 74) hx hb dX1_reach_60 (by decide) (fun c5 => ?_) (fun c5 => ?_)
                · refine lv_iconst (v := nI 1) hx hb dX1_reach_74 (by decide) ?_
                  refine lv_goto (tgt := 79) hx hb dX1_reach_75 (by decide) ?_
                  refine kx_zst (v := true) hx hb hK hP hD hS 6 1 rfl rfl rfl (by omega) (by decide) dX1_reach_79 (fun H locs hP hD hS => ?_)
                  have hP : va_P D vwCl (gm_W cI cZ h a n T G K P O nx (va_up kp1 i true)) H := hP
                  have hD : va_D A (gm_W cI cZ h a n T G K P O nx (va_up kp1 i true)) := hD
                  refine lv_iinc (v := nI (i + 1)) (lv' := [(4, .int (nI (i + 1))), (0, .ref h), (1, .int g), (2, .int k), (3, .int p)]) hx hb dX1_reach_80 hl (k := 4) rfl (kx_inc _) (by decide) rfl (fun ls hl => ?_)
                  refine lv_goto (tgt := 26) hx hb dX1_reach_83 (by decide) ?_
                  exact ih (i + 1) (va_up kp1 i true) H locs ls (by omega) (by omega) hP hD hS (lv_sub hl [1, 2, 3, 4, 0] rfl) (ki_up hv (by simp [gl_mk, c5]))
                · refine lv_aload_n hx hb dX1_reach_63 rfl (lv_at hl 0 rfl) ?_
                  refine gm_get hx hb hts hown hK hP 4 (by decide) q142 rfl rfl dX1_reach_64 ?_
                  refine lv_iload hx hb dX1_reach_67 (lv_at hl 4 rfl) ?_
                  refine kx_ild hx hb hK hP 4 0 rfl rfl (by omega) (by decide) dX1_reach_69 ?_
                  refine lv_iload_n hx hb dX1_reach_70 rfl (lv_at hl 3 rfl) ?_
                  refine lv_icmp_eq (tgt := 78) hx hb dX1_reach_71 (by decide) (fun c6 => ?_) (fun c6 => ?_)
                  · refine lv_iconst (v := nI 0) hx hb dX1_reach_78 (by decide) ?_
                    refine kx_zst (v := false) hx hb hK hP hD hS 6 1 rfl rfl rfl (by omega) (by decide) dX1_reach_79 (fun H locs hP hD hS => ?_)
                    have hP : va_P D vwCl (gm_W cI cZ h a n T G K P O nx (va_up kp1 i false)) H := hP
                    have hD : va_D A (gm_W cI cZ h a n T G K P O nx (va_up kp1 i false)) := hD
                    refine lv_iinc (v := nI (i + 1)) (lv' := [(4, .int (nI (i + 1))), (0, .ref h), (1, .int g), (2, .int k), (3, .int p)]) hx hb dX1_reach_80 hl (k := 4) rfl (kx_inc _) (by decide) rfl (fun ls hl => ?_)
                    refine lv_goto (tgt := 26) hx hb dX1_reach_83 (by decide) ?_
                    exact ih (i + 1) (va_up kp1 i false) H locs ls (by omega) (by omega) hP hD hS (lv_sub hl [1, 2, 3, 4, 0] rfl) (ki_up hv (by rw [gl_mk_iff.mpr ⟨c4, c5, c6⟩]; rfl))
                  · refine lv_iconst (v := nI 1) hx hb dX1_reach_74 (by decide) ?_
                    refine lv_goto (tgt := 79) hx hb dX1_reach_75 (by decide) ?_
                    refine kx_zst (v := true) hx hb hK hP hD hS 6 1 rfl rfl rfl (by omega) (by decide) dX1_reach_79 (fun H locs hP hD hS => ?_)
                    have hP : va_P D vwCl (gm_W cI cZ h a n T G K P O nx (va_up kp1 i true)) H := hP
                    have hD : va_D A (gm_W cI cZ h a n T G K P O nx (va_up kp1 i true)) := hD
                    refine lv_iinc (v := nI (i + 1)) (lv' := [(4, .int (nI (i + 1))), (0, .ref h), (1, .int g), (2, .int k), (3, .int p)]) hx hb dX1_reach_80 hl (k := 4) rfl (kx_inc _) (by decide) rfl (fun ls hl => ?_)
                    refine lv_goto (tgt := 26) hx hb dX1_reach_83 (by decide) ?_
                    exact ih (i + 1) (va_up kp1 i true) H locs ls (by omega) (by omega) hP hD hS (lv_sub hl [1, 2, 3, 4, 0] rfl) (ki_up hv (by simp [gl_mk, c6]))
        exact loop (n + 1) 0 kp H locs ls (by omega) (by omega) hP hD hS (lv_sub hl [1, 2, 3, 4, 0] rfl) lt_0
      · replace c3 := not_f c3
        refine lv_iconst (v := (-1)) hx hb dX1_reach_21 (by decide) ?_
        exact hret _ _ _ _ _ (n, T, G, K, P, O, nx, kp) dX1_reach_22 rfl hP hD hS (Or.inl ⟨ok3_f (Or.inr (Or.inr c3)), rfl, rfl⟩)
set_option maxHeartbeats 4000000 in
set_option maxRecDepth 100000 in
theorem cM_revoke (l : Launch) (D : va_G) (cI cZ : ClassId) (h : Nat) (a : Nat → Nat) (sz n : Nat) (T G K P : Nat → Int32) (O : Nat → Bool) (nx : Nat) (kp : Nat → Bool) (g k p : Int32) (hn : n ≤ 48) : ct_i l D (ty_ cI cZ) yX1_revoke cX1_revoke 5 .int (rm_ 3) (gm_w cI cZ h a) (n, T, G, K, P, O, nx, kp) sz [.ref h, .int g, .int k, .int p] (fun r v => (gl_ok3 g k p = false ∧ r = -1 ∧ v = (n, T, G, K, P, O, nx, kp)) ∨ (gl_ok3 g k p = true ∧ r = nI (gl_cnt (fun x => !(gl_ks G K P O (fun i => !gl_mk G K P g k p i) n) x) n) ∧ ∃ kp' : Nat → Bool, v = (gl_cnt (gl_ks G K P O (fun i => !gl_mk G K P g k p i) n) n, gl_ca (gl_ks G K P O (fun i => !gl_mk G K P g k p i) n) T n, gl_ca (gl_ks G K P O (fun i => !gl_mk G K P g k p i) n) G n, gl_ca (gl_ks G K P O (fun i => !gl_mk G K P g k p i) n) K n, gl_ca (gl_ks G K P O (fun i => !gl_mk G K P g k p i) n) P n, gl_ca (gl_ks G K P O (fun i => !gl_mk G K P g k p i) n) O n, nx, kp'))) := by
  refine en_i (by decide) (Nat.le_of_ble_eq_true rfl) ?_
  intro pr e s m ar below meth c A Q C0 hK hret H locs ls hP hD hS hl
  obtain ⟨hx, hb, hml, hown, hts, hA⟩ := C0
  have hown : s.vm.findClass RX1 = some m.cls := hown
  have hP : va_P D vwCl (gm_W cI cZ h a n T G K P O nx kp) H := hP
  have hD : va_D A (gm_W cI cZ h a n T G K P O nx kp) := hD
  have hl : lv_has ls 5 [(0, .ref h), (1, .int g), (2, .int k), (3, .int p)] := hl
  refine lv_aload_n hx hb dX1_revoke_0 rfl (lv_at hl 0 rfl) ?_
  refine lv_iload_n hx hb dX1_revoke_1 rfl (lv_at hl 1 rfl) ?_
  refine lv_iload_n hx hb dX1_revoke_2 rfl (lv_at hl 2 rfl) ?_
  refine lv_iload_n hx hb dX1_revoke_3 rfl (lv_at hl 3 rfl) ?_
  refine ca_i (cM_reach l D cI cZ h a _ n T G K P O nx kp g k p hn) ⟨hx, hb, hml, hown, hts⟩ (cwV 3 hts (lw_V q181 q182 q183 q12 q184) rfl rfl rfl (by decide +kernel) ⟨by decide, by decide⟩) hK hP hD hS hA (va_recv hK hP (ci := 1) (q0 := 0) rfl rfl) rfl hl.1 rfl (Nat.le_of_ble_eq_true rfl) dX1_revoke_4 ⟨Nat.zero_le _, Nat.zero_le _⟩ (fun r v H locs hq hP hD hS => ?_)
  rcases hq with ⟨hok, rfl, rfl⟩ | ⟨hok, rfl, kp2, rfl, hk2⟩
  · have hP : va_P D vwCl (gm_W cI cZ h a n T G K P O nx kp) H := hP
    have hD : va_D A (gm_W cI cZ h a n T G K P O nx kp) := hD
    refine lv_istore (lv' := [(4, .int ((-1))), (0, .ref h), (1, .int g), (2, .int k), (3, .int p)]) hx hb dX1_revoke_7 hl (by decide) rfl (fun ls hl => ?_)
    refine lv_iload hx hb dX1_revoke_9 (lv_at hl 0 rfl) ?_
    refine lv_if_lt (tgt := 18) hx hb dX1_revoke_11 (by decide) (fun c1 => ?_) (fun c1 => ?_)
    · refine lv_iload hx hb dX1_revoke_18 (lv_at hl 0 rfl) ?_
      exact hret _ _ _ _ _ (n, T, G, K, P, O, nx, kp) dX1_revoke_20 rfl hP hD hS (Or.inl ⟨hok, rfl, rfl⟩)
    · exact absurd (by decide) c1
  · have hP : va_P D vwCl (gm_W cI cZ h a n T G K P O nx kp2) H := hP
    have hD : va_D A (gm_W cI cZ h a n T G K P O nx kp2) := hD
    refine lv_istore (lv' := [(4, .int (nI (gl_cnt (fun x => !(gl_ks G K P O (fun i => !gl_mk G K P g k p i) n) x) n))), (0, .ref h), (1, .int g), (2, .int k), (3, .int p)]) hx hb dX1_revoke_7 hl (by decide) rfl (fun ls hl => ?_)
    refine lv_iload hx hb dX1_revoke_9 (lv_at hl 0 rfl) ?_
    refine lv_if_lt (tgt := 18) hx hb dX1_revoke_11 (by decide) (fun c1 => ?_) (fun c1 => ?_)
    · exact absurd c1 (nI_pos (by have := gl_cnt_le (fun x => !(gl_ks G K P O (fun i => !gl_mk G K P g k p i) n) x) n; omega))
    · refine lv_aload_n hx hb dX1_revoke_14 rfl (lv_at hl 1 rfl) ?_
      refine ca_v (cM_drop l D cI cZ h a _ n T G K P O nx kp2 (gl_ks G K P O (fun i => !gl_mk G K P g k p i) n) hn (fun j hj => (hk2 j hj).symm)) ⟨hx, hb, hml, hown, hts⟩ (cwV 0 hts (lw_V q193 q195 qs9 q12 q196) rfl rfl rfl (by decide +kernel) ⟨by decide, by decide⟩) hK hP hD hS hA (va_recv hK hP (ci := 1) (q0 := 0) rfl rfl) rfl hl.1 rfl (Nat.le_of_ble_eq_true rfl) dX1_revoke_15 ⟨Nat.zero_le _, Nat.zero_le _⟩ (fun v H locs hq hP hD hS => ?_)
      obtain rfl := hq
      have hP : va_P D vwCl (gm_W cI cZ h a (gl_cnt (gl_ks G K P O (fun i => !gl_mk G K P g k p i) n) n) (gl_ca (gl_ks G K P O (fun i => !gl_mk G K P g k p i) n) T n) (gl_ca (gl_ks G K P O (fun i => !gl_mk G K P g k p i) n) G n) (gl_ca (gl_ks G K P O (fun i => !gl_mk G K P g k p i) n) K n) (gl_ca (gl_ks G K P O (fun i => !gl_mk G K P g k p i) n) P n) (gl_ca (gl_ks G K P O (fun i => !gl_mk G K P g k p i) n) O n) nx kp2) H := hP
      have hD : va_D A (gm_W cI cZ h a (gl_cnt (gl_ks G K P O (fun i => !gl_mk G K P g k p i) n) n) (gl_ca (gl_ks G K P O (fun i => !gl_mk G K P g k p i) n) T n) (gl_ca (gl_ks G K P O (fun i => !gl_mk G K P g k p i) n) G n) (gl_ca (gl_ks G K P O (fun i => !gl_mk G K P g k p i) n) K n) (gl_ca (gl_ks G K P O (fun i => !gl_mk G K P g k p i) n) P n) (gl_ca (gl_ks G K P O (fun i => !gl_mk G K P g k p i) n) O n) nx kp2) := hD
      refine lv_iload hx hb dX1_revoke_18 (lv_at hl 0 rfl) ?_
      exact hret _ _ _ _ _ (gl_cnt (gl_ks G K P O (fun i => !gl_mk G K P g k p i) n) n, gl_ca (gl_ks G K P O (fun i => !gl_mk G K P g k p i) n) T n, gl_ca (gl_ks G K P O (fun i => !gl_mk G K P g k p i) n) G n, gl_ca (gl_ks G K P O (fun i => !gl_mk G K P g k p i) n) K n, gl_ca (gl_ks G K P O (fun i => !gl_mk G K P g k p i) n) P n, gl_ca (gl_ks G K P O (fun i => !gl_mk G K P g k p i) n) O n, nx, kp2) dX1_revoke_20 rfl hP hD hS (Or.inr ⟨hok, rfl, kp2, rfl⟩)
set_option maxHeartbeats 4000000 in
set_option maxRecDepth 100000 in
theorem cM_expel (l : Launch) (D : va_G) (cI cZ : ClassId) (h : Nat) (a : Nat → Nat) (sz n : Nat) (T G K P : Nat → Int32) (O : Nat → Bool) (nx : Nat) (kp : Nat → Bool) (u : Int32) (hn : n ≤ 48) : ct_i l D (ty_ cI cZ) yX1_expel cX1_expel 3 .int (rm_ 2) (gm_w cI cZ h a) (n, T, G, K, P, O, nx, kp) sz [.ref h, .int u] (fun r v => (gl_xu u = false ∧ r = -1 ∧ v = (n, T, G, K, P, O, nx, kp)) ∨ (gl_xu u = true ∧ r = nI (gl_cnt (fun x => !(gl_ks G K P O (fun i => !gl_ex G K u i) n) x) n) ∧ ∃ kp' : Nat → Bool, v = (gl_cnt (gl_ks G K P O (fun i => !gl_ex G K u i) n) n, gl_ca (gl_ks G K P O (fun i => !gl_ex G K u i) n) T n, gl_ca (gl_ks G K P O (fun i => !gl_ex G K u i) n) G n, gl_ca (gl_ks G K P O (fun i => !gl_ex G K u i) n) K n, gl_ca (gl_ks G K P O (fun i => !gl_ex G K u i) n) P n, gl_ca (gl_ks G K P O (fun i => !gl_ex G K u i) n) O n, nx, kp'))) := by
  refine en_i (by decide) (Nat.le_of_ble_eq_true rfl) ?_
  intro pr e s m ar below meth c A Q C0 hK hret H locs ls hP hD hS hl
  obtain ⟨hx, hb, hml, hown, hts, hA⟩ := C0
  have hown : s.vm.findClass RX1 = some m.cls := hown
  have hP : va_P D vwCl (gm_W cI cZ h a n T G K P O nx kp) H := hP
  have hD : va_D A (gm_W cI cZ h a n T G K P O nx kp) := hD
  have hl : lv_has ls 3 [(0, .ref h), (1, .int u)] := hl
  refine lv_iload_n hx hb dX1_expel_0 rfl (lv_at hl 1 rfl) ?_
  refine lv_iconst (v := 1) hx hb dX1_expel_1 (by decide) ?_
  refine lv_icmp_lt (tgt := 11) hx hb dX1_expel_2 (by decide) (fun c1 => ?_) (fun c1 => ?_)
  · refine lv_iconst (v := (-1)) hx hb dX1_expel_11 (by decide) ?_
    exact hret _ _ _ _ _ (n, T, G, K, P, O, nx, kp) dX1_expel_12 rfl hP hD hS (Or.inl ⟨xu_lo c1, rfl, rfl⟩)
  · refine lv_iload_n hx hb dX1_expel_5 rfl (lv_at hl 1 rfl) ?_
    refine lv_bipush (v := 7) hx hb dX1_expel_6 (by decide) ?_
    refine lv_icmp_le (tgt := 13) hx hb dX1_expel_8 (by decide) (fun c2 => ?_) (fun c2 => ?_)
    · refine lv_iconst (v := nI 0) hx hb dX1_expel_13 (by decide) ?_
      refine lv_istore_n (lv' := [(2, .int (nI 0)), (0, .ref h), (1, .int u)]) hx hb dX1_expel_14 rfl hl (by decide) rfl (fun ls hl => ?_)
      have loop : ∀ (N i : Nat) (kp1 : Nat → Bool) (H : Heap) (locs : List Loc) (ls : Array Slot), i ≤ n → n < i + N → va_P D vwCl (gm_W cI cZ h a n T G K P O nx kp1) H → va_D A (gm_W cI cZ h a n T G K P O nx kp1) → va_S A s.heap H locs → lv_has ls 3 [(0, .ref h), (1, .int u), (2, .int (nI i))] → (∀ j, j < i → kp1 j = !gl_ex G K u j) → W pr l e (rm_ 2) s m ar below meth c H locs 0 0 Q (F0 m 15 ls []) := by
        intro N
        induction N with
        | zero =>
          intro i kp1 H locs ls h1 h2
          exact absurd h2 (by omega)
        | succ N ih =>
          intro i kp1 H locs ls hi hN hP hD hS hl hv
          refine lv_iload_n hx hb dX1_expel_15 rfl (lv_at hl 2 rfl) ?_
          refine lv_aload_n hx hb dX1_expel_16 rfl (lv_at hl 0 rfl) ?_
          refine gm_get hx hb hts hown hK hP 0 (by decide) q138 rfl rfl dX1_expel_17 ?_
          refine kx_ge (tgt := 60) hx hb dX1_expel_20 (by decide) (by omega) (by omega) (fun c0 => ?_) (fun c0 => ?_)
          · refine lv_aload_n hx hb dX1_expel_60 rfl (lv_at hl 0 rfl) ?_
            refine ca_i (cM_settle l D cI cZ h a _ n T G K P O nx kp1 hn) ⟨hx, hb, hml, hown, hts⟩ (cwV 0 hts (lw_V q185 q187 qs7 q12 q188) rfl rfl rfl (by decide +kernel) ⟨by decide, by decide⟩) hK hP hD hS hA (va_recv hK hP (ci := 1) (q0 := 0) rfl rfl) rfl hl.1 rfl (Nat.le_of_ble_eq_true rfl) dX1_expel_61 ⟨Nat.zero_le _, Nat.zero_le _⟩ (fun r v H locs hq hP hD hS => ?_)
            obtain ⟨rfl, rfl⟩ := hq
            have hP : va_P D vwCl (gm_W cI cZ h a n T G K P O nx (gl_ks G K P O kp1 n)) H := hP
            have hD : va_D A (gm_W cI cZ h a n T G K P O nx (gl_ks G K P O kp1 n)) := hD
            have hkk := gl_ks_congr (G := G) (K := K) (P := P) (O := O) (n := n) (a := kp1) (b := (fun i => !gl_ex G K u i)) (fun j hj => hv j (by omega))
            have hgo : gl_cnt (fun x => !(gl_ks G K P O kp1 n) x) n = gl_cnt (fun x => !(gl_ks G K P O (fun i => !gl_ex G K u i) n) x) n := gl_cnt_congr n (fun j hj => by rw [hkk j hj])
            refine lv_istore_n (lv' := [(2, .int (nI (gl_cnt (fun x => !(gl_ks G K P O kp1 n) x) n))), (0, .ref h), (1, .int u)]) hx hb dX1_expel_64 rfl hl (by decide) rfl (fun ls hl => ?_)
            refine lv_aload_n hx hb dX1_expel_65 rfl (lv_at hl 1 rfl) ?_
            refine ca_v (cM_drop l D cI cZ h a _ n T G K P O nx (gl_ks G K P O kp1 n) (gl_ks G K P O (fun i => !gl_ex G K u i) n) hn (fun j hj => (hkk j hj).symm)) ⟨hx, hb, hml, hown, hts⟩ (cwV 0 hts (lw_V q193 q195 qs9 q12 q196) rfl rfl rfl (by decide +kernel) ⟨by decide, by decide⟩) hK hP hD hS hA (va_recv hK hP (ci := 1) (q0 := 0) rfl rfl) rfl hl.1 rfl (Nat.le_of_ble_eq_true rfl) dX1_expel_66 ⟨Nat.zero_le _, Nat.zero_le _⟩ (fun v H locs hq hP hD hS => ?_)
            obtain rfl := hq
            have hP : va_P D vwCl (gm_W cI cZ h a (gl_cnt (gl_ks G K P O (fun i => !gl_ex G K u i) n) n) (gl_ca (gl_ks G K P O (fun i => !gl_ex G K u i) n) T n) (gl_ca (gl_ks G K P O (fun i => !gl_ex G K u i) n) G n) (gl_ca (gl_ks G K P O (fun i => !gl_ex G K u i) n) K n) (gl_ca (gl_ks G K P O (fun i => !gl_ex G K u i) n) P n) (gl_ca (gl_ks G K P O (fun i => !gl_ex G K u i) n) O n) nx (gl_ks G K P O kp1 n)) H := hP
            have hD : va_D A (gm_W cI cZ h a (gl_cnt (gl_ks G K P O (fun i => !gl_ex G K u i) n) n) (gl_ca (gl_ks G K P O (fun i => !gl_ex G K u i) n) T n) (gl_ca (gl_ks G K P O (fun i => !gl_ex G K u i) n) G n) (gl_ca (gl_ks G K P O (fun i => !gl_ex G K u i) n) K n) (gl_ca (gl_ks G K P O (fun i => !gl_ex G K u i) n) P n) (gl_ca (gl_ks G K P O (fun i => !gl_ex G K u i) n) O n) nx (gl_ks G K P O kp1 n)) := hD
            refine lv_iload_n hx hb dX1_expel_69 rfl (lv_at hl 0 rfl) ?_
            exact hret _ _ _ _ _ (gl_cnt (gl_ks G K P O (fun i => !gl_ex G K u i) n) n, gl_ca (gl_ks G K P O (fun i => !gl_ex G K u i) n) T n, gl_ca (gl_ks G K P O (fun i => !gl_ex G K u i) n) G n, gl_ca (gl_ks G K P O (fun i => !gl_ex G K u i) n) K n, gl_ca (gl_ks G K P O (fun i => !gl_ex G K u i) n) P n, gl_ca (gl_ks G K P O (fun i => !gl_ex G K u i) n) O n, nx, gl_ks G K P O kp1 n) dX1_expel_70 rfl hP hD hS (Or.inr ⟨xu_ok c1 c2, by rw [hgo], _, rfl⟩)
          · refine lv_aload_n hx hb dX1_expel_23 rfl (lv_at hl 0 rfl) ?_
            refine gm_get hx hb hts hown hK hP 7 (by decide) q145 rfl rfl dX1_expel_24 ?_
            refine lv_iload_n hx hb dX1_expel_27 rfl (lv_at hl 2 rfl) ?_
            refine lv_aload_n hx hb dX1_expel_28 rfl (lv_at hl 0 rfl) ?_
            refine gm_get hx hb hts hown hK hP 2 (by decide) q140 rfl rfl dX1_expel_29 ?_
            refine lv_iload_n hx hb dX1_expel_32 rfl (lv_at hl 2 rfl) ?_
            refine kx_ild hx hb hK hP 2 0 rfl rfl (by omega) (by decide) dX1_expel_33 ?_
            refine lv_iload_n hx hb dX1_expel_34 rfl (lv_at hl 1 rfl) ?_
            refine lv_icmp_eq (tgt := 52) hx hb dX1_expel_35 (by decide) (fun c3 => ?_) (fun c3 => ?_)
            · refine lv_iconst (v := nI 0) hx hb dX1_expel_52 (by decide) ?_
              refine kx_zst (v := false) hx hb hK hP hD hS 6 1 rfl rfl rfl (by omega) (by decide) dX1_expel_53 (fun H locs hP hD hS => ?_)
              have hP : va_P D vwCl (gm_W cI cZ h a n T G K P O nx (va_up kp1 i false)) H := hP
              have hD : va_D A (gm_W cI cZ h a n T G K P O nx (va_up kp1 i false)) := hD
              refine lv_iinc (v := nI (i + 1)) (lv' := [(2, .int (nI (i + 1))), (0, .ref h), (1, .int u)]) hx hb dX1_expel_54 hl (k := 2) rfl (kx_inc _) (by decide) rfl (fun ls hl => ?_)
              refine lv_goto (tgt := 15) hx hb dX1_expel_57 (by decide) ?_
              exact ih (i + 1) (va_up kp1 i false) H locs ls (by omega) (by omega) hP hD hS (lv_sub hl [1, 2, 0] rfl) (ki_up hv (by rw [gl_ex_iff.mpr (Or.inl c3)]; rfl))
            · refine lv_aload_n hx hb dX1_expel_38 rfl (lv_at hl 0 rfl) ?_
              refine gm_get hx hb hts hown hK hP 3 (by decide) q141 rfl rfl dX1_expel_39 ?_
              refine lv_iload_n hx hb dX1_expel_42 rfl (lv_at hl 2 rfl) ?_
              refine kx_ild hx hb hK hP 3 0 rfl rfl (by omega) (by decide) dX1_expel_43 ?_
              refine lv_iload_n hx hb dX1_expel_44 rfl (lv_at hl 1 rfl) ?_
              refine lv_icmp_eq (tgt := 52) hx hb dX1_expel_45 (by decide) (fun c4 => ?_) (fun c4 => ?_)
              · refine lv_iconst (v := nI 0) hx hb dX1_expel_52 (by decide) ?_
                refine kx_zst (v := false) hx hb hK hP hD hS 6 1 rfl rfl rfl (by omega) (by decide) dX1_expel_53 (fun H locs hP hD hS => ?_)
                have hP : va_P D vwCl (gm_W cI cZ h a n T G K P O nx (va_up kp1 i false)) H := hP
                have hD : va_D A (gm_W cI cZ h a n T G K P O nx (va_up kp1 i false)) := hD
                refine lv_iinc (v := nI (i + 1)) (lv' := [(2, .int (nI (i + 1))), (0, .ref h), (1, .int u)]) hx hb dX1_expel_54 hl (k := 2) rfl (kx_inc _) (by decide) rfl (fun ls hl => ?_)
                refine lv_goto (tgt := 15) hx hb dX1_expel_57 (by decide) ?_
                exact ih (i + 1) (va_up kp1 i false) H locs ls (by omega) (by omega) hP hD hS (lv_sub hl [1, 2, 0] rfl) (ki_up hv (by rw [gl_ex_iff.mpr (Or.inr c4)]; rfl))
              · refine lv_iconst (v := nI 1) hx hb dX1_expel_48 (by decide) ?_
                refine lv_goto (tgt := 53) hx hb dX1_expel_49 (by decide) ?_
                refine kx_zst (v := true) hx hb hK hP hD hS 6 1 rfl rfl rfl (by omega) (by decide) dX1_expel_53 (fun H locs hP hD hS => ?_)
                have hP : va_P D vwCl (gm_W cI cZ h a n T G K P O nx (va_up kp1 i true)) H := hP
                have hD : va_D A (gm_W cI cZ h a n T G K P O nx (va_up kp1 i true)) := hD
                refine lv_iinc (v := nI (i + 1)) (lv' := [(2, .int (nI (i + 1))), (0, .ref h), (1, .int u)]) hx hb dX1_expel_54 hl (k := 2) rfl (kx_inc _) (by decide) rfl (fun ls hl => ?_)
                refine lv_goto (tgt := 15) hx hb dX1_expel_57 (by decide) ?_
                exact ih (i + 1) (va_up kp1 i true) H locs ls (by omega) (by omega) hP hD hS (lv_sub hl [1, 2, 0] rfl) (ki_up hv (by simp [gl_ex, c3, c4]))
      exact loop (n + 1) 0 kp H locs ls (by omega) (by omega) hP hD hS (lv_sub hl [1, 2, 0] rfl) lt_0
    · refine lv_iconst (v := (-1)) hx hb dX1_expel_11 (by decide) ?_
      exact hret _ _ _ _ _ (n, T, G, K, P, O, nx, kp) dX1_expel_12 rfl hP hD hS (Or.inl ⟨xu_hi c2, rfl, rfl⟩)
end
section
/-! the constructors -/
theorem ra_int {U : State} {c1 c2 : ClassId} (h1 : va_RA U c1 .int) (h2 : va_RA U c2 .int) : c1 = c2 := by
  have a : U.vm.findClass ("[" ++ FieldType.int.toString) = some c1 := h1
  have b : U.vm.findClass ("[" ++ FieldType.int.toString) = some c2 := h2
  exact Option.some.inj (a.symm.trans b)
theorem ra_boolean {U : State} {c1 c2 : ClassId} (h1 : va_RA U c1 .boolean) (h2 : va_RA U c2 .boolean) : c1 = c2 := by
  have a : U.vm.findClass ("[" ++ FieldType.boolean.toString) = some c1 := h1
  have b : U.vm.findClass ("[" ++ FieldType.boolean.toString) = some c2 := h2
  exact Option.some.inj (a.symm.trans b)
def ad_8 (q1 q2 q3 q4 q5 q6 q7 q8 : Nat) : Nat → Nat
  | 1 => q1
  | 2 => q2
  | 3 => q3
  | 4 => q4
  | 5 => q5
  | 6 => q6
  | 7 => q7
  | _ => q8
def ad_6 (q1 q2 q3 q4 q5 q6 : Nat) : Nat → Nat
  | 1 => q1
  | 2 => q2
  | 3 => q3
  | 4 => q4
  | 5 => q5
  | _ => q6
def gx_0 (h : Nat) : va_W := [(h, .inr (0, [.int (nI 0), .int (nI 0), .null, .null, .null, .null, .null, .null, .int (nI 0), .null, .null]))]
def gx_u0 : gx_S := (0, 0, 0, fun _ => 0, fun _ => 0, fun _ => 0, fun _ => 0, fun _ => false, fun _ => false, fun _ => 0, fun _ => false)
def gm_0 (h : Nat) : va_W := [(h, .inr (1, [.int (nI 0), .null, .null, .null, .null, .null, .int (nI 0), .null]))]
def gm_u0 : gm_S := (0, fun _ => 0, fun _ => 0, fun _ => 0, fun _ => 0, fun _ => false, 0, fun _ => false)
set_option maxHeartbeats 4000000 in
set_option maxRecDepth 100000 in
theorem cX_init (l : Launch) (D : va_G) (h sz : Nat) : Met l yX0_init (ws_ yX0_init cX0_init 1 none) ({ frames := 1, cells := 8, slots := 336, locals := 25 }) (va_Pc [.ref h] (fun U => U.heap.size = sz ∧ va_P D vwCl (gx_0 h) U.heap ∧ va_K D vwCl [] U ∧ va_D (fun _ => True) (gx_0 h))) (va_Qv (fun _ : ClassId × ClassId × (Nat → Nat) => True) (fun u t => va_P D vwCl (gx_w u.1 u.2.1 h u.2.2 gx_u0) t.heap ∧ va_K D vwCl (ty_ u.1 u.2.1) t ∧ va_D (va_A (gx_0 h) sz) (gx_w u.1 u.2.1 h u.2.2 gx_u0)) (va_A (gx_0 h) sz)) 8 336 (va_A (gx_0 h) sz) := by
  refine Met.ofW (cc := cX0_init) (maxL := 1) (ret := none) (by decide) rfl ?_
  intro pr e s m args below meth c s₁ B hml hv
  obtain ⟨rfl, hsz, hP, hK, hD0⟩ := hv
  have hx := B.exec
  have hb := B.bytes
  have hr := B.returns
  have hts := atoms_spec (ws := ws_ yX0_init cX0_init 1 none) B.pre
  have hts : ∀ w ∈ lw_all, w.before _ s = true := fun w h => hts w (List.mem_cons_of_mem _ h)
  have hown : s.vm.findClass RX0 = some m.cls := findClass_of_methodNamed B.named
  have hlocks := B.notSynchronized
  have hin : meth.name = "<init>" := (name_of_methodNamed B.named B.method).1
  subst hsz
  have hD := hD0.self (sz := s.heap.size)
  generalize hAe : va_A (gx_0 h) s.heap.size = A at hD ⊢
  have hA : ∀ q : Nat, s.heap.size ≤ q → A q := fun q h => by rw [← hAe]; exact Or.inr h
  have hS : va_S A s.heap s.heap [] := va_S.rf
  have hP : va_P D vwCl [(h, .inr (0, [.int (nI 0), .int (nI 0), .null, .null, .null, .null, .null, .null, .int (nI 0), .null, .null]))] s.heap := hP
  have hD : va_D A [(h, .inr (0, [.int (nI 0), .int (nI 0), .null, .null, .null, .null, .null, .null, .int (nI 0), .null, .null]))] := hD
  have hl := lv_entry ([.ref h]) (n := 1) (Nat.le_of_ble_eq_true rfl)
  rw [lg_entry_eq]
  generalize (lg_sl ([.ref h]) ++ List.replicate (1 - (lg_sl ([.ref h])).length) Slot.unset).toArray = ls at hl ⊢
  have hl : lv_has ls 1 [(0, .ref h)] := hl
  refine lv_aload_n hx hb dX0_init_0 rfl (lv_at hl 0 rfl) ?_
  refine W.objInit hx hb hown (hts _ q18) (hts _ q19) (hts _ q20) rfl (by rw [hml]; exact hl.1) rfl dX0_init_1 (Nat.le_of_ble_eq_true rfl) (Nat.le_of_ble_eq_true rfl) ?_
  refine W.eq (g2 := F0 m 4 ls []) rfl ?_
  refine lv_aload_n hx hb dX0_init_4 rfl (lv_at hl 0 rfl) ?_
  refine lv_bipush (v := nI 48) hx hb dX0_init_5 (by decide) ?_
  refine va_newa (atype := .int) (ty := .int) (n := nI 48) (N' := 48) (a0 := (48, .inl (fun _ => 0))) hx hb (hts _ q55) rfl hK hP hD hS hA (fun _ => rfl) (by decide) (by decide) (by decide) (Nat.le_of_ble_eq_true rfl) (Nat.le_of_ble_eq_true rfl) dX0_init_7 (fun q1_ cI H hK hP hD hS => ?_)
  have hK : va_K D vwCl [(cI, .int)] s := hK.sub (tys' := [(cI, .int)]) [0] rfl
  have hP : va_P D vwCl [(h, .inr (0, [.int (nI 0), .int (nI 0), .null, .null, .null, .null, .null, .null, .int (nI 0), .null, .null])), (q1_, .inl (cI, 48, .inl (fun _ => 0)))] H := hP
  have hD : va_D A [(h, .inr (0, [.int (nI 0), .int (nI 0), .null, .null, .null, .null, .null, .null, .int (nI 0), .null, .null])), (q1_, .inl (cI, 48, .inl (fun _ => 0)))] := hD
  refine va_putF (D := D) (ci := 0) (v := .ref q1_) (ty := .array .int) (C := RX0) (T := TX0) (N := 11) hx hb hts in_X0 tyX0 tyX0_ok nmX0 hown hK hP hD hS 0 rfl rfl 2 (by decide) (hts _ q23) (fun _ h9 => h9) rfl hin rfl (by decide +kernel) rfl rfl (Nat.le_of_ble_eq_true rfl) dX0_init_9 (fun H locs hP hD hS => ?_)
  have hP : va_P D vwCl [(h, .inr (0, [.int (nI 0), .int (nI 0), .ref q1_, .null, .null, .null, .null, .null, .int (nI 0), .null, .null])), (q1_, .inl (cI, 48, .inl (fun _ => 0)))] H := hP
  have hD : va_D A [(h, .inr (0, [.int (nI 0), .int (nI 0), .ref q1_, .null, .null, .null, .null, .null, .int (nI 0), .null, .null])), (q1_, .inl (cI, 48, .inl (fun _ => 0)))] := hD
  refine lv_aload_n hx hb dX0_init_12 rfl (lv_at hl 0 rfl) ?_
  refine lv_bipush (v := nI 48) hx hb dX0_init_13 (by decide) ?_
  refine va_newa (atype := .int) (ty := .int) (n := nI 48) (N' := 48) (a0 := (48, .inl (fun _ => 0))) hx hb (hts _ q55) rfl hK hP hD hS hA (fun _ => rfl) (by decide) (by decide) (by decide) (Nat.le_of_ble_eq_true rfl) (Nat.le_of_ble_eq_true rfl) dX0_init_15 (fun q2_ c2 H hK hP hD hS => ?_)
  obtain rfl : cI = c2 := ra_int (hK.2 0 _ rfl).2 (hK.2 1 _ rfl).2
  have hK : va_K D vwCl [(cI, .int)] s := hK.sub (tys' := [(cI, .int)]) [0] rfl
  have hP : va_P D vwCl [(h, .inr (0, [.int (nI 0), .int (nI 0), .ref q1_, .null, .null, .null, .null, .null, .int (nI 0), .null, .null])), (q1_, .inl (cI, 48, .inl (fun _ => 0))), (q2_, .inl (cI, 48, .inl (fun _ => 0)))] H := hP
  have hD : va_D A [(h, .inr (0, [.int (nI 0), .int (nI 0), .ref q1_, .null, .null, .null, .null, .null, .int (nI 0), .null, .null])), (q1_, .inl (cI, 48, .inl (fun _ => 0))), (q2_, .inl (cI, 48, .inl (fun _ => 0)))] := hD
  refine va_putF (D := D) (ci := 0) (v := .ref q2_) (ty := .array .int) (C := RX0) (T := TX0) (N := 11) hx hb hts in_X0 tyX0 tyX0_ok nmX0 hown hK hP hD hS 0 rfl rfl 3 (by decide) (hts _ q24) (fun _ h9 => h9) rfl hin rfl (by decide +kernel) rfl rfl (Nat.le_of_ble_eq_true rfl) dX0_init_17 (fun H locs hP hD hS => ?_)
  have hP : va_P D vwCl [(h, .inr (0, [.int (nI 0), .int (nI 0), .ref q1_, .ref q2_, .null, .null, .null, .null, .int (nI 0), .null, .null])), (q1_, .inl (cI, 48, .inl (fun _ => 0))), (q2_, .inl (cI, 48, .inl (fun _ => 0)))] H := hP
  have hD : va_D A [(h, .inr (0, [.int (nI 0), .int (nI 0), .ref q1_, .ref q2_, .null, .null, .null, .null, .int (nI 0), .null, .null])), (q1_, .inl (cI, 48, .inl (fun _ => 0))), (q2_, .inl (cI, 48, .inl (fun _ => 0)))] := hD
  refine lv_aload_n hx hb dX0_init_20 rfl (lv_at hl 0 rfl) ?_
  refine lv_bipush (v := nI 48) hx hb dX0_init_21 (by decide) ?_
  refine va_newa (atype := .int) (ty := .int) (n := nI 48) (N' := 48) (a0 := (48, .inl (fun _ => 0))) hx hb (hts _ q55) rfl hK hP hD hS hA (fun _ => rfl) (by decide) (by decide) (by decide) (Nat.le_of_ble_eq_true rfl) (Nat.le_of_ble_eq_true rfl) dX0_init_23 (fun q3_ c2 H hK hP hD hS => ?_)
  obtain rfl : cI = c2 := ra_int (hK.2 0 _ rfl).2 (hK.2 1 _ rfl).2
  have hK : va_K D vwCl [(cI, .int)] s := hK.sub (tys' := [(cI, .int)]) [0] rfl
  have hP : va_P D vwCl [(h, .inr (0, [.int (nI 0), .int (nI 0), .ref q1_, .ref q2_, .null, .null, .null, .null, .int (nI 0), .null, .null])), (q1_, .inl (cI, 48, .inl (fun _ => 0))), (q2_, .inl (cI, 48, .inl (fun _ => 0))), (q3_, .inl (cI, 48, .inl (fun _ => 0)))] H := hP
  have hD : va_D A [(h, .inr (0, [.int (nI 0), .int (nI 0), .ref q1_, .ref q2_, .null, .null, .null, .null, .int (nI 0), .null, .null])), (q1_, .inl (cI, 48, .inl (fun _ => 0))), (q2_, .inl (cI, 48, .inl (fun _ => 0))), (q3_, .inl (cI, 48, .inl (fun _ => 0)))] := hD
  refine va_putF (D := D) (ci := 0) (v := .ref q3_) (ty := .array .int) (C := RX0) (T := TX0) (N := 11) hx hb hts in_X0 tyX0 tyX0_ok nmX0 hown hK hP hD hS 0 rfl rfl 4 (by decide) (hts _ q25) (fun _ h9 => h9) rfl hin rfl (by decide +kernel) rfl rfl (Nat.le_of_ble_eq_true rfl) dX0_init_25 (fun H locs hP hD hS => ?_)
  have hP : va_P D vwCl [(h, .inr (0, [.int (nI 0), .int (nI 0), .ref q1_, .ref q2_, .ref q3_, .null, .null, .null, .int (nI 0), .null, .null])), (q1_, .inl (cI, 48, .inl (fun _ => 0))), (q2_, .inl (cI, 48, .inl (fun _ => 0))), (q3_, .inl (cI, 48, .inl (fun _ => 0)))] H := hP
  have hD : va_D A [(h, .inr (0, [.int (nI 0), .int (nI 0), .ref q1_, .ref q2_, .ref q3_, .null, .null, .null, .int (nI 0), .null, .null])), (q1_, .inl (cI, 48, .inl (fun _ => 0))), (q2_, .inl (cI, 48, .inl (fun _ => 0))), (q3_, .inl (cI, 48, .inl (fun _ => 0)))] := hD
  refine lv_aload_n hx hb dX0_init_28 rfl (lv_at hl 0 rfl) ?_
  refine lv_bipush (v := nI 48) hx hb dX0_init_29 (by decide) ?_
  refine va_newa (atype := .int) (ty := .int) (n := nI 48) (N' := 48) (a0 := (48, .inl (fun _ => 0))) hx hb (hts _ q55) rfl hK hP hD hS hA (fun _ => rfl) (by decide) (by decide) (by decide) (Nat.le_of_ble_eq_true rfl) (Nat.le_of_ble_eq_true rfl) dX0_init_31 (fun q4_ c2 H hK hP hD hS => ?_)
  obtain rfl : cI = c2 := ra_int (hK.2 0 _ rfl).2 (hK.2 1 _ rfl).2
  have hK : va_K D vwCl [(cI, .int)] s := hK.sub (tys' := [(cI, .int)]) [0] rfl
  have hP : va_P D vwCl [(h, .inr (0, [.int (nI 0), .int (nI 0), .ref q1_, .ref q2_, .ref q3_, .null, .null, .null, .int (nI 0), .null, .null])), (q1_, .inl (cI, 48, .inl (fun _ => 0))), (q2_, .inl (cI, 48, .inl (fun _ => 0))), (q3_, .inl (cI, 48, .inl (fun _ => 0))), (q4_, .inl (cI, 48, .inl (fun _ => 0)))] H := hP
  have hD : va_D A [(h, .inr (0, [.int (nI 0), .int (nI 0), .ref q1_, .ref q2_, .ref q3_, .null, .null, .null, .int (nI 0), .null, .null])), (q1_, .inl (cI, 48, .inl (fun _ => 0))), (q2_, .inl (cI, 48, .inl (fun _ => 0))), (q3_, .inl (cI, 48, .inl (fun _ => 0))), (q4_, .inl (cI, 48, .inl (fun _ => 0)))] := hD
  refine va_putF (D := D) (ci := 0) (v := .ref q4_) (ty := .array .int) (C := RX0) (T := TX0) (N := 11) hx hb hts in_X0 tyX0 tyX0_ok nmX0 hown hK hP hD hS 0 rfl rfl 5 (by decide) (hts _ q26) (fun _ h9 => h9) rfl hin rfl (by decide +kernel) rfl rfl (Nat.le_of_ble_eq_true rfl) dX0_init_33 (fun H locs hP hD hS => ?_)
  have hP : va_P D vwCl [(h, .inr (0, [.int (nI 0), .int (nI 0), .ref q1_, .ref q2_, .ref q3_, .ref q4_, .null, .null, .int (nI 0), .null, .null])), (q1_, .inl (cI, 48, .inl (fun _ => 0))), (q2_, .inl (cI, 48, .inl (fun _ => 0))), (q3_, .inl (cI, 48, .inl (fun _ => 0))), (q4_, .inl (cI, 48, .inl (fun _ => 0)))] H := hP
  have hD : va_D A [(h, .inr (0, [.int (nI 0), .int (nI 0), .ref q1_, .ref q2_, .ref q3_, .ref q4_, .null, .null, .int (nI 0), .null, .null])), (q1_, .inl (cI, 48, .inl (fun _ => 0))), (q2_, .inl (cI, 48, .inl (fun _ => 0))), (q3_, .inl (cI, 48, .inl (fun _ => 0))), (q4_, .inl (cI, 48, .inl (fun _ => 0)))] := hD
  refine lv_aload_n hx hb dX0_init_36 rfl (lv_at hl 0 rfl) ?_
  refine lv_bipush (v := nI 48) hx hb dX0_init_37 (by decide) ?_
  refine va_newa (atype := .boolean) (ty := .boolean) (n := nI 48) (N' := 48) (a0 := (48, .inl (bI (fun _ => false)))) hx hb (hts _ q56) rfl hK hP hD hS hA (fun _ => rfl) (by decide) (by decide) (by decide) (Nat.le_of_ble_eq_true rfl) (Nat.le_of_ble_eq_true rfl) dX0_init_39 (fun q5_ cZ H hK hP hD hS => ?_)
  have hK : va_K D vwCl [(cI, .int), (cZ, .boolean)] s := hK.sub (tys' := [(cI, .int), (cZ, .boolean)]) [0, 1] rfl
  have hP : va_P D vwCl [(h, .inr (0, [.int (nI 0), .int (nI 0), .ref q1_, .ref q2_, .ref q3_, .ref q4_, .null, .null, .int (nI 0), .null, .null])), (q1_, .inl (cI, 48, .inl (fun _ => 0))), (q2_, .inl (cI, 48, .inl (fun _ => 0))), (q3_, .inl (cI, 48, .inl (fun _ => 0))), (q4_, .inl (cI, 48, .inl (fun _ => 0))), (q5_, .inl (cZ, 48, .inl (bI (fun _ => false))))] H := hP
  have hD : va_D A [(h, .inr (0, [.int (nI 0), .int (nI 0), .ref q1_, .ref q2_, .ref q3_, .ref q4_, .null, .null, .int (nI 0), .null, .null])), (q1_, .inl (cI, 48, .inl (fun _ => 0))), (q2_, .inl (cI, 48, .inl (fun _ => 0))), (q3_, .inl (cI, 48, .inl (fun _ => 0))), (q4_, .inl (cI, 48, .inl (fun _ => 0))), (q5_, .inl (cZ, 48, .inl (bI (fun _ => false))))] := hD
  refine va_putF (D := D) (ci := 0) (v := .ref q5_) (ty := .array .boolean) (C := RX0) (T := TX0) (N := 11) hx hb hts in_X0 tyX0 tyX0_ok nmX0 hown hK hP hD hS 0 rfl rfl 6 (by decide) (hts _ q27) (fun _ h9 => h9) rfl hin rfl (by decide +kernel) rfl rfl (Nat.le_of_ble_eq_true rfl) dX0_init_41 (fun H locs hP hD hS => ?_)
  have hP : va_P D vwCl [(h, .inr (0, [.int (nI 0), .int (nI 0), .ref q1_, .ref q2_, .ref q3_, .ref q4_, .ref q5_, .null, .int (nI 0), .null, .null])), (q1_, .inl (cI, 48, .inl (fun _ => 0))), (q2_, .inl (cI, 48, .inl (fun _ => 0))), (q3_, .inl (cI, 48, .inl (fun _ => 0))), (q4_, .inl (cI, 48, .inl (fun _ => 0))), (q5_, .inl (cZ, 48, .inl (bI (fun _ => false))))] H := hP
  have hD : va_D A [(h, .inr (0, [.int (nI 0), .int (nI 0), .ref q1_, .ref q2_, .ref q3_, .ref q4_, .ref q5_, .null, .int (nI 0), .null, .null])), (q1_, .inl (cI, 48, .inl (fun _ => 0))), (q2_, .inl (cI, 48, .inl (fun _ => 0))), (q3_, .inl (cI, 48, .inl (fun _ => 0))), (q4_, .inl (cI, 48, .inl (fun _ => 0))), (q5_, .inl (cZ, 48, .inl (bI (fun _ => false))))] := hD
  refine lv_aload_n hx hb dX0_init_44 rfl (lv_at hl 0 rfl) ?_
  refine lv_bipush (v := nI 48) hx hb dX0_init_45 (by decide) ?_
  refine va_newa (atype := .boolean) (ty := .boolean) (n := nI 48) (N' := 48) (a0 := (48, .inl (bI (fun _ => false)))) hx hb (hts _ q56) rfl hK hP hD hS hA (fun _ => rfl) (by decide) (by decide) (by decide) (Nat.le_of_ble_eq_true rfl) (Nat.le_of_ble_eq_true rfl) dX0_init_47 (fun q6_ c2 H hK hP hD hS => ?_)
  obtain rfl : cZ = c2 := ra_boolean (hK.2 1 _ rfl).2 (hK.2 2 _ rfl).2
  have hK : va_K D vwCl [(cI, .int), (cZ, .boolean)] s := hK.sub (tys' := [(cI, .int), (cZ, .boolean)]) [0, 1] rfl
  have hP : va_P D vwCl [(h, .inr (0, [.int (nI 0), .int (nI 0), .ref q1_, .ref q2_, .ref q3_, .ref q4_, .ref q5_, .null, .int (nI 0), .null, .null])), (q1_, .inl (cI, 48, .inl (fun _ => 0))), (q2_, .inl (cI, 48, .inl (fun _ => 0))), (q3_, .inl (cI, 48, .inl (fun _ => 0))), (q4_, .inl (cI, 48, .inl (fun _ => 0))), (q5_, .inl (cZ, 48, .inl (bI (fun _ => false)))), (q6_, .inl (cZ, 48, .inl (bI (fun _ => false))))] H := hP
  have hD : va_D A [(h, .inr (0, [.int (nI 0), .int (nI 0), .ref q1_, .ref q2_, .ref q3_, .ref q4_, .ref q5_, .null, .int (nI 0), .null, .null])), (q1_, .inl (cI, 48, .inl (fun _ => 0))), (q2_, .inl (cI, 48, .inl (fun _ => 0))), (q3_, .inl (cI, 48, .inl (fun _ => 0))), (q4_, .inl (cI, 48, .inl (fun _ => 0))), (q5_, .inl (cZ, 48, .inl (bI (fun _ => false)))), (q6_, .inl (cZ, 48, .inl (bI (fun _ => false))))] := hD
  refine va_putF (D := D) (ci := 0) (v := .ref q6_) (ty := .array .boolean) (C := RX0) (T := TX0) (N := 11) hx hb hts in_X0 tyX0 tyX0_ok nmX0 hown hK hP hD hS 0 rfl rfl 7 (by decide) (hts _ q28) (fun _ h9 => h9) rfl hin rfl (by decide +kernel) rfl rfl (Nat.le_of_ble_eq_true rfl) dX0_init_49 (fun H locs hP hD hS => ?_)
  have hP : va_P D vwCl [(h, .inr (0, [.int (nI 0), .int (nI 0), .ref q1_, .ref q2_, .ref q3_, .ref q4_, .ref q5_, .ref q6_, .int (nI 0), .null, .null])), (q1_, .inl (cI, 48, .inl (fun _ => 0))), (q2_, .inl (cI, 48, .inl (fun _ => 0))), (q3_, .inl (cI, 48, .inl (fun _ => 0))), (q4_, .inl (cI, 48, .inl (fun _ => 0))), (q5_, .inl (cZ, 48, .inl (bI (fun _ => false)))), (q6_, .inl (cZ, 48, .inl (bI (fun _ => false))))] H := hP
  have hD : va_D A [(h, .inr (0, [.int (nI 0), .int (nI 0), .ref q1_, .ref q2_, .ref q3_, .ref q4_, .ref q5_, .ref q6_, .int (nI 0), .null, .null])), (q1_, .inl (cI, 48, .inl (fun _ => 0))), (q2_, .inl (cI, 48, .inl (fun _ => 0))), (q3_, .inl (cI, 48, .inl (fun _ => 0))), (q4_, .inl (cI, 48, .inl (fun _ => 0))), (q5_, .inl (cZ, 48, .inl (bI (fun _ => false)))), (q6_, .inl (cZ, 48, .inl (bI (fun _ => false))))] := hD
  refine lv_aload_n hx hb dX0_init_52 rfl (lv_at hl 0 rfl) ?_
  refine lv_bipush (v := nI 24) hx hb dX0_init_53 (by decide) ?_
  refine va_newa (atype := .int) (ty := .int) (n := nI 24) (N' := 24) (a0 := (24, .inl (fun _ => 0))) hx hb (hts _ q55) rfl hK hP hD hS hA (fun _ => rfl) (by decide) (by decide) (by decide) (Nat.le_of_ble_eq_true rfl) (Nat.le_of_ble_eq_true rfl) dX0_init_55 (fun q7_ c2 H hK hP hD hS => ?_)
  obtain rfl : cI = c2 := ra_int (hK.2 0 _ rfl).2 (hK.2 2 _ rfl).2
  have hK : va_K D vwCl [(cI, .int), (cZ, .boolean)] s := hK.sub (tys' := [(cI, .int), (cZ, .boolean)]) [0, 1] rfl
  have hP : va_P D vwCl [(h, .inr (0, [.int (nI 0), .int (nI 0), .ref q1_, .ref q2_, .ref q3_, .ref q4_, .ref q5_, .ref q6_, .int (nI 0), .null, .null])), (q1_, .inl (cI, 48, .inl (fun _ => 0))), (q2_, .inl (cI, 48, .inl (fun _ => 0))), (q3_, .inl (cI, 48, .inl (fun _ => 0))), (q4_, .inl (cI, 48, .inl (fun _ => 0))), (q5_, .inl (cZ, 48, .inl (bI (fun _ => false)))), (q6_, .inl (cZ, 48, .inl (bI (fun _ => false)))), (q7_, .inl (cI, 24, .inl (fun _ => 0)))] H := hP
  have hD : va_D A [(h, .inr (0, [.int (nI 0), .int (nI 0), .ref q1_, .ref q2_, .ref q3_, .ref q4_, .ref q5_, .ref q6_, .int (nI 0), .null, .null])), (q1_, .inl (cI, 48, .inl (fun _ => 0))), (q2_, .inl (cI, 48, .inl (fun _ => 0))), (q3_, .inl (cI, 48, .inl (fun _ => 0))), (q4_, .inl (cI, 48, .inl (fun _ => 0))), (q5_, .inl (cZ, 48, .inl (bI (fun _ => false)))), (q6_, .inl (cZ, 48, .inl (bI (fun _ => false)))), (q7_, .inl (cI, 24, .inl (fun _ => 0)))] := hD
  refine va_putF (D := D) (ci := 0) (v := .ref q7_) (ty := .array .int) (C := RX0) (T := TX0) (N := 11) hx hb hts in_X0 tyX0 tyX0_ok nmX0 hown hK hP hD hS 0 rfl rfl 9 (by decide) (hts _ q30) (fun _ h9 => h9) rfl hin rfl (by decide +kernel) rfl rfl (Nat.le_of_ble_eq_true rfl) dX0_init_57 (fun H locs hP hD hS => ?_)
  have hP : va_P D vwCl [(h, .inr (0, [.int (nI 0), .int (nI 0), .ref q1_, .ref q2_, .ref q3_, .ref q4_, .ref q5_, .ref q6_, .int (nI 0), .ref q7_, .null])), (q1_, .inl (cI, 48, .inl (fun _ => 0))), (q2_, .inl (cI, 48, .inl (fun _ => 0))), (q3_, .inl (cI, 48, .inl (fun _ => 0))), (q4_, .inl (cI, 48, .inl (fun _ => 0))), (q5_, .inl (cZ, 48, .inl (bI (fun _ => false)))), (q6_, .inl (cZ, 48, .inl (bI (fun _ => false)))), (q7_, .inl (cI, 24, .inl (fun _ => 0)))] H := hP
  have hD : va_D A [(h, .inr (0, [.int (nI 0), .int (nI 0), .ref q1_, .ref q2_, .ref q3_, .ref q4_, .ref q5_, .ref q6_, .int (nI 0), .ref q7_, .null])), (q1_, .inl (cI, 48, .inl (fun _ => 0))), (q2_, .inl (cI, 48, .inl (fun _ => 0))), (q3_, .inl (cI, 48, .inl (fun _ => 0))), (q4_, .inl (cI, 48, .inl (fun _ => 0))), (q5_, .inl (cZ, 48, .inl (bI (fun _ => false)))), (q6_, .inl (cZ, 48, .inl (bI (fun _ => false)))), (q7_, .inl (cI, 24, .inl (fun _ => 0)))] := hD
  refine lv_aload_n hx hb dX0_init_60 rfl (lv_at hl 0 rfl) ?_
  refine lv_bipush (v := nI 24) hx hb dX0_init_61 (by decide) ?_
  refine va_newa (atype := .boolean) (ty := .boolean) (n := nI 24) (N' := 24) (a0 := (24, .inl (bI (fun _ => false)))) hx hb (hts _ q56) rfl hK hP hD hS hA (fun _ => rfl) (by decide) (by decide) (by decide) (Nat.le_of_ble_eq_true rfl) (Nat.le_of_ble_eq_true rfl) dX0_init_63 (fun q8_ c2 H hK hP hD hS => ?_)
  obtain rfl : cZ = c2 := ra_boolean (hK.2 1 _ rfl).2 (hK.2 2 _ rfl).2
  have hK : va_K D vwCl [(cI, .int), (cZ, .boolean)] s := hK.sub (tys' := [(cI, .int), (cZ, .boolean)]) [0, 1] rfl
  have hP : va_P D vwCl [(h, .inr (0, [.int (nI 0), .int (nI 0), .ref q1_, .ref q2_, .ref q3_, .ref q4_, .ref q5_, .ref q6_, .int (nI 0), .ref q7_, .null])), (q1_, .inl (cI, 48, .inl (fun _ => 0))), (q2_, .inl (cI, 48, .inl (fun _ => 0))), (q3_, .inl (cI, 48, .inl (fun _ => 0))), (q4_, .inl (cI, 48, .inl (fun _ => 0))), (q5_, .inl (cZ, 48, .inl (bI (fun _ => false)))), (q6_, .inl (cZ, 48, .inl (bI (fun _ => false)))), (q7_, .inl (cI, 24, .inl (fun _ => 0))), (q8_, .inl (cZ, 24, .inl (bI (fun _ => false))))] H := hP
  have hD : va_D A [(h, .inr (0, [.int (nI 0), .int (nI 0), .ref q1_, .ref q2_, .ref q3_, .ref q4_, .ref q5_, .ref q6_, .int (nI 0), .ref q7_, .null])), (q1_, .inl (cI, 48, .inl (fun _ => 0))), (q2_, .inl (cI, 48, .inl (fun _ => 0))), (q3_, .inl (cI, 48, .inl (fun _ => 0))), (q4_, .inl (cI, 48, .inl (fun _ => 0))), (q5_, .inl (cZ, 48, .inl (bI (fun _ => false)))), (q6_, .inl (cZ, 48, .inl (bI (fun _ => false)))), (q7_, .inl (cI, 24, .inl (fun _ => 0))), (q8_, .inl (cZ, 24, .inl (bI (fun _ => false))))] := hD
  refine va_putF (D := D) (ci := 0) (v := .ref q8_) (ty := .array .boolean) (C := RX0) (T := TX0) (N := 11) hx hb hts in_X0 tyX0 tyX0_ok nmX0 hown hK hP hD hS 0 rfl rfl 10 (by decide) (hts _ q31) (fun _ h9 => h9) rfl hin rfl (by decide +kernel) rfl rfl (Nat.le_of_ble_eq_true rfl) dX0_init_65 (fun H locs hP hD hS => ?_)
  have hP : va_P D vwCl [(h, .inr (0, [.int (nI 0), .int (nI 0), .ref q1_, .ref q2_, .ref q3_, .ref q4_, .ref q5_, .ref q6_, .int (nI 0), .ref q7_, .ref q8_])), (q1_, .inl (cI, 48, .inl (fun _ => 0))), (q2_, .inl (cI, 48, .inl (fun _ => 0))), (q3_, .inl (cI, 48, .inl (fun _ => 0))), (q4_, .inl (cI, 48, .inl (fun _ => 0))), (q5_, .inl (cZ, 48, .inl (bI (fun _ => false)))), (q6_, .inl (cZ, 48, .inl (bI (fun _ => false)))), (q7_, .inl (cI, 24, .inl (fun _ => 0))), (q8_, .inl (cZ, 24, .inl (bI (fun _ => false))))] H := hP
  have hD : va_D A [(h, .inr (0, [.int (nI 0), .int (nI 0), .ref q1_, .ref q2_, .ref q3_, .ref q4_, .ref q5_, .ref q6_, .int (nI 0), .ref q7_, .ref q8_])), (q1_, .inl (cI, 48, .inl (fun _ => 0))), (q2_, .inl (cI, 48, .inl (fun _ => 0))), (q3_, .inl (cI, 48, .inl (fun _ => 0))), (q4_, .inl (cI, 48, .inl (fun _ => 0))), (q5_, .inl (cZ, 48, .inl (bI (fun _ => false)))), (q6_, .inl (cZ, 48, .inl (bI (fun _ => false)))), (q7_, .inl (cI, 24, .inl (fun _ => 0))), (q8_, .inl (cZ, 24, .inl (bI (fun _ => false))))] := hD
  refine W.widen (k := 8) (n := 336) (by decide) (by decide) ?_
  exact W.vret hx hb hr (fun t ht hW => ⟨⟨(cI, cZ, ad_8 q1_ q2_ q3_ q4_ q5_ q6_ q7_ q8_), rfl, trivial, by rw [ht]; exact hP, va_K.moved hW.alike hK, hD⟩, hS.F ht⟩) hS.2.2 dX0_init_68
set_option maxHeartbeats 4000000 in
set_option maxRecDepth 100000 in
theorem cM_init (l : Launch) (D : va_G) (h sz : Nat) : Met l yX1_init (ws_ yX1_init cX1_init 1 none) ({ frames := 1, cells := 6, slots := 288, locals := 25 }) (va_Pc [.ref h] (fun U => U.heap.size = sz ∧ va_P D vwCl (gm_0 h) U.heap ∧ va_K D vwCl [] U ∧ va_D (fun _ => True) (gm_0 h))) (va_Qv (fun _ : ClassId × ClassId × (Nat → Nat) => True) (fun u t => va_P D vwCl (gm_w u.1 u.2.1 h u.2.2 gm_u0) t.heap ∧ va_K D vwCl (ty_ u.1 u.2.1) t ∧ va_D (va_A (gm_0 h) sz) (gm_w u.1 u.2.1 h u.2.2 gm_u0)) (va_A (gm_0 h) sz)) 6 288 (va_A (gm_0 h) sz) := by
  refine Met.ofW (cc := cX1_init) (maxL := 1) (ret := none) (by decide) rfl ?_
  intro pr e s m args below meth c s₁ B hml hv
  obtain ⟨rfl, hsz, hP, hK, hD0⟩ := hv
  have hx := B.exec
  have hb := B.bytes
  have hr := B.returns
  have hts := atoms_spec (ws := ws_ yX1_init cX1_init 1 none) B.pre
  have hts : ∀ w ∈ lw_all, w.before _ s = true := fun w h => hts w (List.mem_cons_of_mem _ h)
  have hown : s.vm.findClass RX1 = some m.cls := findClass_of_methodNamed B.named
  have hlocks := B.notSynchronized
  have hin : meth.name = "<init>" := (name_of_methodNamed B.named B.method).1
  subst hsz
  have hD := hD0.self (sz := s.heap.size)
  generalize hAe : va_A (gm_0 h) s.heap.size = A at hD ⊢
  have hA : ∀ q : Nat, s.heap.size ≤ q → A q := fun q h => by rw [← hAe]; exact Or.inr h
  have hS : va_S A s.heap s.heap [] := va_S.rf
  have hP : va_P D vwCl [(h, .inr (1, [.int (nI 0), .null, .null, .null, .null, .null, .int (nI 0), .null]))] s.heap := hP
  have hD : va_D A [(h, .inr (1, [.int (nI 0), .null, .null, .null, .null, .null, .int (nI 0), .null]))] := hD
  have hl := lv_entry ([.ref h]) (n := 1) (Nat.le_of_ble_eq_true rfl)
  rw [lg_entry_eq]
  generalize (lg_sl ([.ref h]) ++ List.replicate (1 - (lg_sl ([.ref h])).length) Slot.unset).toArray = ls at hl ⊢
  have hl : lv_has ls 1 [(0, .ref h)] := hl
  refine lv_aload_n hx hb dX1_init_0 rfl (lv_at hl 0 rfl) ?_
  refine W.objInit hx hb hown (hts _ q137) (hts _ q19) (hts _ q20) rfl (by rw [hml]; exact hl.1) rfl dX1_init_1 (Nat.le_of_ble_eq_true rfl) (Nat.le_of_ble_eq_true rfl) ?_
  refine W.eq (g2 := F0 m 4 ls []) rfl ?_
  refine lv_aload_n hx hb dX1_init_4 rfl (lv_at hl 0 rfl) ?_
  refine lv_bipush (v := nI 48) hx hb dX1_init_5 (by decide) ?_
  refine va_newa (atype := .int) (ty := .int) (n := nI 48) (N' := 48) (a0 := (48, .inl (fun _ => 0))) hx hb (hts _ q55) rfl hK hP hD hS hA (fun _ => rfl) (by decide) (by decide) (by decide) (Nat.le_of_ble_eq_true rfl) (Nat.le_of_ble_eq_true rfl) dX1_init_7 (fun q1_ cI H hK hP hD hS => ?_)
  have hK : va_K D vwCl [(cI, .int)] s := hK.sub (tys' := [(cI, .int)]) [0] rfl
  have hP : va_P D vwCl [(h, .inr (1, [.int (nI 0), .null, .null, .null, .null, .null, .int (nI 0), .null])), (q1_, .inl (cI, 48, .inl (fun _ => 0)))] H := hP
  have hD : va_D A [(h, .inr (1, [.int (nI 0), .null, .null, .null, .null, .null, .int (nI 0), .null])), (q1_, .inl (cI, 48, .inl (fun _ => 0)))] := hD
  refine va_putF (D := D) (ci := 1) (v := .ref q1_) (ty := .array .int) (C := RX1) (T := TX1) (N := 8) hx hb hts in_X1 tyX1 tyX1_ok nmX1 hown hK hP hD hS 0 rfl rfl 1 (by decide) (hts _ q139) (fun _ h9 => h9) rfl hin rfl (by decide +kernel) rfl rfl (Nat.le_of_ble_eq_true rfl) dX1_init_9 (fun H locs hP hD hS => ?_)
  have hP : va_P D vwCl [(h, .inr (1, [.int (nI 0), .ref q1_, .null, .null, .null, .null, .int (nI 0), .null])), (q1_, .inl (cI, 48, .inl (fun _ => 0)))] H := hP
  have hD : va_D A [(h, .inr (1, [.int (nI 0), .ref q1_, .null, .null, .null, .null, .int (nI 0), .null])), (q1_, .inl (cI, 48, .inl (fun _ => 0)))] := hD
  refine lv_aload_n hx hb dX1_init_12 rfl (lv_at hl 0 rfl) ?_
  refine lv_bipush (v := nI 48) hx hb dX1_init_13 (by decide) ?_
  refine va_newa (atype := .int) (ty := .int) (n := nI 48) (N' := 48) (a0 := (48, .inl (fun _ => 0))) hx hb (hts _ q55) rfl hK hP hD hS hA (fun _ => rfl) (by decide) (by decide) (by decide) (Nat.le_of_ble_eq_true rfl) (Nat.le_of_ble_eq_true rfl) dX1_init_15 (fun q2_ c2 H hK hP hD hS => ?_)
  obtain rfl : cI = c2 := ra_int (hK.2 0 _ rfl).2 (hK.2 1 _ rfl).2
  have hK : va_K D vwCl [(cI, .int)] s := hK.sub (tys' := [(cI, .int)]) [0] rfl
  have hP : va_P D vwCl [(h, .inr (1, [.int (nI 0), .ref q1_, .null, .null, .null, .null, .int (nI 0), .null])), (q1_, .inl (cI, 48, .inl (fun _ => 0))), (q2_, .inl (cI, 48, .inl (fun _ => 0)))] H := hP
  have hD : va_D A [(h, .inr (1, [.int (nI 0), .ref q1_, .null, .null, .null, .null, .int (nI 0), .null])), (q1_, .inl (cI, 48, .inl (fun _ => 0))), (q2_, .inl (cI, 48, .inl (fun _ => 0)))] := hD
  refine va_putF (D := D) (ci := 1) (v := .ref q2_) (ty := .array .int) (C := RX1) (T := TX1) (N := 8) hx hb hts in_X1 tyX1 tyX1_ok nmX1 hown hK hP hD hS 0 rfl rfl 2 (by decide) (hts _ q140) (fun _ h9 => h9) rfl hin rfl (by decide +kernel) rfl rfl (Nat.le_of_ble_eq_true rfl) dX1_init_17 (fun H locs hP hD hS => ?_)
  have hP : va_P D vwCl [(h, .inr (1, [.int (nI 0), .ref q1_, .ref q2_, .null, .null, .null, .int (nI 0), .null])), (q1_, .inl (cI, 48, .inl (fun _ => 0))), (q2_, .inl (cI, 48, .inl (fun _ => 0)))] H := hP
  have hD : va_D A [(h, .inr (1, [.int (nI 0), .ref q1_, .ref q2_, .null, .null, .null, .int (nI 0), .null])), (q1_, .inl (cI, 48, .inl (fun _ => 0))), (q2_, .inl (cI, 48, .inl (fun _ => 0)))] := hD
  refine lv_aload_n hx hb dX1_init_20 rfl (lv_at hl 0 rfl) ?_
  refine lv_bipush (v := nI 48) hx hb dX1_init_21 (by decide) ?_
  refine va_newa (atype := .int) (ty := .int) (n := nI 48) (N' := 48) (a0 := (48, .inl (fun _ => 0))) hx hb (hts _ q55) rfl hK hP hD hS hA (fun _ => rfl) (by decide) (by decide) (by decide) (Nat.le_of_ble_eq_true rfl) (Nat.le_of_ble_eq_true rfl) dX1_init_23 (fun q3_ c2 H hK hP hD hS => ?_)
  obtain rfl : cI = c2 := ra_int (hK.2 0 _ rfl).2 (hK.2 1 _ rfl).2
  have hK : va_K D vwCl [(cI, .int)] s := hK.sub (tys' := [(cI, .int)]) [0] rfl
  have hP : va_P D vwCl [(h, .inr (1, [.int (nI 0), .ref q1_, .ref q2_, .null, .null, .null, .int (nI 0), .null])), (q1_, .inl (cI, 48, .inl (fun _ => 0))), (q2_, .inl (cI, 48, .inl (fun _ => 0))), (q3_, .inl (cI, 48, .inl (fun _ => 0)))] H := hP
  have hD : va_D A [(h, .inr (1, [.int (nI 0), .ref q1_, .ref q2_, .null, .null, .null, .int (nI 0), .null])), (q1_, .inl (cI, 48, .inl (fun _ => 0))), (q2_, .inl (cI, 48, .inl (fun _ => 0))), (q3_, .inl (cI, 48, .inl (fun _ => 0)))] := hD
  refine va_putF (D := D) (ci := 1) (v := .ref q3_) (ty := .array .int) (C := RX1) (T := TX1) (N := 8) hx hb hts in_X1 tyX1 tyX1_ok nmX1 hown hK hP hD hS 0 rfl rfl 3 (by decide) (hts _ q141) (fun _ h9 => h9) rfl hin rfl (by decide +kernel) rfl rfl (Nat.le_of_ble_eq_true rfl) dX1_init_25 (fun H locs hP hD hS => ?_)
  have hP : va_P D vwCl [(h, .inr (1, [.int (nI 0), .ref q1_, .ref q2_, .ref q3_, .null, .null, .int (nI 0), .null])), (q1_, .inl (cI, 48, .inl (fun _ => 0))), (q2_, .inl (cI, 48, .inl (fun _ => 0))), (q3_, .inl (cI, 48, .inl (fun _ => 0)))] H := hP
  have hD : va_D A [(h, .inr (1, [.int (nI 0), .ref q1_, .ref q2_, .ref q3_, .null, .null, .int (nI 0), .null])), (q1_, .inl (cI, 48, .inl (fun _ => 0))), (q2_, .inl (cI, 48, .inl (fun _ => 0))), (q3_, .inl (cI, 48, .inl (fun _ => 0)))] := hD
  refine lv_aload_n hx hb dX1_init_28 rfl (lv_at hl 0 rfl) ?_
  refine lv_bipush (v := nI 48) hx hb dX1_init_29 (by decide) ?_
  refine va_newa (atype := .int) (ty := .int) (n := nI 48) (N' := 48) (a0 := (48, .inl (fun _ => 0))) hx hb (hts _ q55) rfl hK hP hD hS hA (fun _ => rfl) (by decide) (by decide) (by decide) (Nat.le_of_ble_eq_true rfl) (Nat.le_of_ble_eq_true rfl) dX1_init_31 (fun q4_ c2 H hK hP hD hS => ?_)
  obtain rfl : cI = c2 := ra_int (hK.2 0 _ rfl).2 (hK.2 1 _ rfl).2
  have hK : va_K D vwCl [(cI, .int)] s := hK.sub (tys' := [(cI, .int)]) [0] rfl
  have hP : va_P D vwCl [(h, .inr (1, [.int (nI 0), .ref q1_, .ref q2_, .ref q3_, .null, .null, .int (nI 0), .null])), (q1_, .inl (cI, 48, .inl (fun _ => 0))), (q2_, .inl (cI, 48, .inl (fun _ => 0))), (q3_, .inl (cI, 48, .inl (fun _ => 0))), (q4_, .inl (cI, 48, .inl (fun _ => 0)))] H := hP
  have hD : va_D A [(h, .inr (1, [.int (nI 0), .ref q1_, .ref q2_, .ref q3_, .null, .null, .int (nI 0), .null])), (q1_, .inl (cI, 48, .inl (fun _ => 0))), (q2_, .inl (cI, 48, .inl (fun _ => 0))), (q3_, .inl (cI, 48, .inl (fun _ => 0))), (q4_, .inl (cI, 48, .inl (fun _ => 0)))] := hD
  refine va_putF (D := D) (ci := 1) (v := .ref q4_) (ty := .array .int) (C := RX1) (T := TX1) (N := 8) hx hb hts in_X1 tyX1 tyX1_ok nmX1 hown hK hP hD hS 0 rfl rfl 4 (by decide) (hts _ q142) (fun _ h9 => h9) rfl hin rfl (by decide +kernel) rfl rfl (Nat.le_of_ble_eq_true rfl) dX1_init_33 (fun H locs hP hD hS => ?_)
  have hP : va_P D vwCl [(h, .inr (1, [.int (nI 0), .ref q1_, .ref q2_, .ref q3_, .ref q4_, .null, .int (nI 0), .null])), (q1_, .inl (cI, 48, .inl (fun _ => 0))), (q2_, .inl (cI, 48, .inl (fun _ => 0))), (q3_, .inl (cI, 48, .inl (fun _ => 0))), (q4_, .inl (cI, 48, .inl (fun _ => 0)))] H := hP
  have hD : va_D A [(h, .inr (1, [.int (nI 0), .ref q1_, .ref q2_, .ref q3_, .ref q4_, .null, .int (nI 0), .null])), (q1_, .inl (cI, 48, .inl (fun _ => 0))), (q2_, .inl (cI, 48, .inl (fun _ => 0))), (q3_, .inl (cI, 48, .inl (fun _ => 0))), (q4_, .inl (cI, 48, .inl (fun _ => 0)))] := hD
  refine lv_aload_n hx hb dX1_init_36 rfl (lv_at hl 0 rfl) ?_
  refine lv_bipush (v := nI 48) hx hb dX1_init_37 (by decide) ?_
  refine va_newa (atype := .boolean) (ty := .boolean) (n := nI 48) (N' := 48) (a0 := (48, .inl (bI (fun _ => false)))) hx hb (hts _ q56) rfl hK hP hD hS hA (fun _ => rfl) (by decide) (by decide) (by decide) (Nat.le_of_ble_eq_true rfl) (Nat.le_of_ble_eq_true rfl) dX1_init_39 (fun q5_ cZ H hK hP hD hS => ?_)
  have hK : va_K D vwCl [(cI, .int), (cZ, .boolean)] s := hK.sub (tys' := [(cI, .int), (cZ, .boolean)]) [0, 1] rfl
  have hP : va_P D vwCl [(h, .inr (1, [.int (nI 0), .ref q1_, .ref q2_, .ref q3_, .ref q4_, .null, .int (nI 0), .null])), (q1_, .inl (cI, 48, .inl (fun _ => 0))), (q2_, .inl (cI, 48, .inl (fun _ => 0))), (q3_, .inl (cI, 48, .inl (fun _ => 0))), (q4_, .inl (cI, 48, .inl (fun _ => 0))), (q5_, .inl (cZ, 48, .inl (bI (fun _ => false))))] H := hP
  have hD : va_D A [(h, .inr (1, [.int (nI 0), .ref q1_, .ref q2_, .ref q3_, .ref q4_, .null, .int (nI 0), .null])), (q1_, .inl (cI, 48, .inl (fun _ => 0))), (q2_, .inl (cI, 48, .inl (fun _ => 0))), (q3_, .inl (cI, 48, .inl (fun _ => 0))), (q4_, .inl (cI, 48, .inl (fun _ => 0))), (q5_, .inl (cZ, 48, .inl (bI (fun _ => false))))] := hD
  refine va_putF (D := D) (ci := 1) (v := .ref q5_) (ty := .array .boolean) (C := RX1) (T := TX1) (N := 8) hx hb hts in_X1 tyX1 tyX1_ok nmX1 hown hK hP hD hS 0 rfl rfl 5 (by decide) (hts _ q143) (fun _ h9 => h9) rfl hin rfl (by decide +kernel) rfl rfl (Nat.le_of_ble_eq_true rfl) dX1_init_41 (fun H locs hP hD hS => ?_)
  have hP : va_P D vwCl [(h, .inr (1, [.int (nI 0), .ref q1_, .ref q2_, .ref q3_, .ref q4_, .ref q5_, .int (nI 0), .null])), (q1_, .inl (cI, 48, .inl (fun _ => 0))), (q2_, .inl (cI, 48, .inl (fun _ => 0))), (q3_, .inl (cI, 48, .inl (fun _ => 0))), (q4_, .inl (cI, 48, .inl (fun _ => 0))), (q5_, .inl (cZ, 48, .inl (bI (fun _ => false))))] H := hP
  have hD : va_D A [(h, .inr (1, [.int (nI 0), .ref q1_, .ref q2_, .ref q3_, .ref q4_, .ref q5_, .int (nI 0), .null])), (q1_, .inl (cI, 48, .inl (fun _ => 0))), (q2_, .inl (cI, 48, .inl (fun _ => 0))), (q3_, .inl (cI, 48, .inl (fun _ => 0))), (q4_, .inl (cI, 48, .inl (fun _ => 0))), (q5_, .inl (cZ, 48, .inl (bI (fun _ => false))))] := hD
  refine lv_aload_n hx hb dX1_init_44 rfl (lv_at hl 0 rfl) ?_
  refine lv_bipush (v := nI 48) hx hb dX1_init_45 (by decide) ?_
  refine va_newa (atype := .boolean) (ty := .boolean) (n := nI 48) (N' := 48) (a0 := (48, .inl (bI (fun _ => false)))) hx hb (hts _ q56) rfl hK hP hD hS hA (fun _ => rfl) (by decide) (by decide) (by decide) (Nat.le_of_ble_eq_true rfl) (Nat.le_of_ble_eq_true rfl) dX1_init_47 (fun q6_ c2 H hK hP hD hS => ?_)
  obtain rfl : cZ = c2 := ra_boolean (hK.2 1 _ rfl).2 (hK.2 2 _ rfl).2
  have hK : va_K D vwCl [(cI, .int), (cZ, .boolean)] s := hK.sub (tys' := [(cI, .int), (cZ, .boolean)]) [0, 1] rfl
  have hP : va_P D vwCl [(h, .inr (1, [.int (nI 0), .ref q1_, .ref q2_, .ref q3_, .ref q4_, .ref q5_, .int (nI 0), .null])), (q1_, .inl (cI, 48, .inl (fun _ => 0))), (q2_, .inl (cI, 48, .inl (fun _ => 0))), (q3_, .inl (cI, 48, .inl (fun _ => 0))), (q4_, .inl (cI, 48, .inl (fun _ => 0))), (q5_, .inl (cZ, 48, .inl (bI (fun _ => false)))), (q6_, .inl (cZ, 48, .inl (bI (fun _ => false))))] H := hP
  have hD : va_D A [(h, .inr (1, [.int (nI 0), .ref q1_, .ref q2_, .ref q3_, .ref q4_, .ref q5_, .int (nI 0), .null])), (q1_, .inl (cI, 48, .inl (fun _ => 0))), (q2_, .inl (cI, 48, .inl (fun _ => 0))), (q3_, .inl (cI, 48, .inl (fun _ => 0))), (q4_, .inl (cI, 48, .inl (fun _ => 0))), (q5_, .inl (cZ, 48, .inl (bI (fun _ => false)))), (q6_, .inl (cZ, 48, .inl (bI (fun _ => false))))] := hD
  refine va_putF (D := D) (ci := 1) (v := .ref q6_) (ty := .array .boolean) (C := RX1) (T := TX1) (N := 8) hx hb hts in_X1 tyX1 tyX1_ok nmX1 hown hK hP hD hS 0 rfl rfl 7 (by decide) (hts _ q145) (fun _ h9 => h9) rfl hin rfl (by decide +kernel) rfl rfl (Nat.le_of_ble_eq_true rfl) dX1_init_49 (fun H locs hP hD hS => ?_)
  have hP : va_P D vwCl [(h, .inr (1, [.int (nI 0), .ref q1_, .ref q2_, .ref q3_, .ref q4_, .ref q5_, .int (nI 0), .ref q6_])), (q1_, .inl (cI, 48, .inl (fun _ => 0))), (q2_, .inl (cI, 48, .inl (fun _ => 0))), (q3_, .inl (cI, 48, .inl (fun _ => 0))), (q4_, .inl (cI, 48, .inl (fun _ => 0))), (q5_, .inl (cZ, 48, .inl (bI (fun _ => false)))), (q6_, .inl (cZ, 48, .inl (bI (fun _ => false))))] H := hP
  have hD : va_D A [(h, .inr (1, [.int (nI 0), .ref q1_, .ref q2_, .ref q3_, .ref q4_, .ref q5_, .int (nI 0), .ref q6_])), (q1_, .inl (cI, 48, .inl (fun _ => 0))), (q2_, .inl (cI, 48, .inl (fun _ => 0))), (q3_, .inl (cI, 48, .inl (fun _ => 0))), (q4_, .inl (cI, 48, .inl (fun _ => 0))), (q5_, .inl (cZ, 48, .inl (bI (fun _ => false)))), (q6_, .inl (cZ, 48, .inl (bI (fun _ => false))))] := hD
  refine W.widen (k := 6) (n := 288) (by decide) (by decide) ?_
  exact W.vret hx hb hr (fun t ht hW => ⟨⟨(cI, cZ, ad_6 q1_ q2_ q3_ q4_ q5_ q6_), rfl, trivial, by rw [ht]; exact hP, va_K.moved hW.alike hK, hD⟩, hS.F ht⟩) hS.2.2 dX1_init_52
end
section
set_option maxRecDepth 100000
/-! THE CLAIM OUT OF ONE WALK OF THE LAW'S BODY. Your part is whole_start (and what it stands on); all else here is the same for every law, but numbers. -/
def R_law : String := "GrantLedgerLaw"
def lw_P (b : Addr) (xs : List Int32) (args : Array Value) (s : State) : Prop := args = #[.ref b] ∧ s.IntsAt b xs ∧ xs.length ≤ 320 ∧ (Jvm.Cond.and given_1 narrow_1).before args s = true
def lw_Q (_ : Array Value) (s : State) (o : Outcome) (t : State) : Prop := o = .returned (some (.int 1)) ∧ Framed s o t [] 600000 7290000
def lw_Z (below : List Frame) (a : Array Value) (s : State) : State → Prop := fun t => ∃ o, t.status = .running ∧ Ended t below o ∧ lw_Q a s o t
/-- the law's own end, with 1 on the stack, nothing written that was there before, its room as the claim has it -/
theorem lw_ret {p : Program} {l : Launch} {e : Env} {s : State} {m : MethodId} {below : List Frame} {meth : Method} {c : Code} {b : Nat} (hx : p.tables.exec = Jvm.exec) (hb : c.code = code) (hr : meth.sig.returnType = ret) (hlocks : meth.locks = false) {pc : Nat} {H : Heap} {ls : Array Slot} (hdg : decode code pc = .ok (.ireturn, 1)) : W p l e room_1 s m #[Value.ref b] below meth c H [] 600000 7290000 (lw_Z below #[Value.ref b] s) (F0 m pc ls [.int 1]) := by
  intro T hT X
  obtain ⟨fs, hret, hrun, hended, hW, hframe⟩ := X.leave (v := some (.int 1)) (hlocks := hlocks) (fun h => by rw [hr] at h; cases h)
  have hmeth' : T.vm.method? m = some meth := X.method'
  refine ⟨T.setFrames fs, ?_, .returned (some (.int 1)), hrun, hended, rfl, ⟨_, rfl⟩, hW, hframe⟩
  jvm_step X.here [X.here.top, hx, hb, hdg, hmeth', hr, ret, narrow_b1]
  (try refine ⟨rfl, ?_⟩); (try refine ⟨rfl, ?_⟩)
  first | (intro acts; rw [hret _ acts rfl rfl rfl]) | rw [hret _ _ rfl rfl rfl]
  exact Steps.refl _
/-- what holds at the law's entry: the machine, the code, the tables' words (any of lw_tbl by 'hts w (by decide +kernel)'), the script of L ints xs at the cell b, what the Statement gives of the start (any of its parts by flat_of_before) -/
def lw_At (p : Program) (s : State) (m : MethodId) (meth : Method) (c : Code) (b L : Nat) (xs : Nat → Int32) : Prop :=
  p.tables.exec = Jvm.exec ∧ c.code = code ∧ meth.sig.returnType = ret ∧ c.maxLocals = 4 ∧ s.vm.findClass R_law = some m.cls ∧ (∀ w ∈ lw_tbl, w.before #[Value.ref b] s = true) ∧ va_X b L xs s s.heap ∧ b < s.heap.size ∧ meth.locks = false ∧ (Jvm.Cond.and given_1 narrow_1).before #[Value.ref b] s = true
end
section
/-! the law's calls: two objects side by side; and the plain law, call by call -/
set_option maxRecDepth 100000
def ap_ (w1 w2 : va_W) : Prop := ∀ (i j : Nat) (p q : Nat × va_E), w1[i]? = some p → w2[j]? = some q → p.1 ≠ q.1
theorem ap_.symm {w1 w2 : va_W} (h : ap_ w1 w2) : ap_ w2 w1 := fun i j p q hp hq e => h j i q p hq hp e.symm
theorem P_left {D : va_G} {cl : List vw_C} {w1 w2 : va_W} {H : Heap} (h : va_P D cl (w1 ++ w2) H) : va_P D cl w1 H := fun k q hk => h k q (by rw [List.getElem?_append_left (List.getElem?_eq_some_iff.mp hk).1]; exact hk)
theorem P_right {D : va_G} {cl : List vw_C} {w1 w2 : va_W} {H : Heap} (h : va_P D cl (w1 ++ w2) H) : va_P D cl w2 H := fun k q hk => h (w1.length + k) q (by rw [List.getElem?_append_right (by omega)]; rw [show w1.length + k - w1.length = k by omega]; exact hk)
theorem D_left {A : Nat → Prop} {w1 w2 : va_W} (h : va_D A (w1 ++ w2)) : va_D A w1 :=
  ⟨fun i j p q hi hj e => h.1 i j p q (by rw [List.getElem?_append_left (List.getElem?_eq_some_iff.mp hi).1]; exact hi) (by rw [List.getElem?_append_left (List.getElem?_eq_some_iff.mp hj).1]; exact hj) e,
   fun k q hk => h.2 k q (by rw [List.getElem?_append_left (List.getElem?_eq_some_iff.mp hk).1]; exact hk)⟩
theorem D_right {A : Nat → Prop} {w1 w2 : va_W} (h : va_D A (w1 ++ w2)) : va_D A w2 := by
  have e : ∀ (k : Nat) (q : Nat × va_E), w2[k]? = some q → (w1 ++ w2)[w1.length + k]? = some q := fun k q hk => by
    rw [List.getElem?_append_right (by omega), show w1.length + k - w1.length = k by omega]; exact hk
  exact ⟨fun i j p q hi hj eq => by have := h.1 _ _ p q (e i p hi) (e j q hj) eq; omega, fun k q hk => h.2 _ q (e k q hk)⟩
theorem D_ap {A : Nat → Prop} {w1 w2 : va_W} (h : va_D A (w1 ++ w2)) : ap_ w1 w2 := by
  intro i j p q hi hj eq
  have h1 := (List.getElem?_eq_some_iff.mp hi).1
  have := h.1 i (w1.length + j) p q (by rw [List.getElem?_append_left h1]; exact hi) (by rw [List.getElem?_append_right (by omega), show w1.length + j - w1.length = j by omega]; exact hj) eq
  omega
/-- what a call leaves of the rest of the world -/
theorem ap_rest {D : va_G} {A : Nat → Prop} {w0 w1 wr : va_W} {H H1 : Heap} (hPr : va_P D vwCl wr H) (hap : ap_ w0 wr) (hk : ∀ q : Nat, q < H.size → ¬ va_A w0 H.size q → H1[q]? = H[q]?) (hD1 : va_D (va_A w0 H.size) w1) : va_P D vwCl wr H1 ∧ ap_ w1 wr := by
  constructor
  · refine hPr.kept fun k q h => hk q.1 ((hPr k q h).lt) ?_
    rintro (⟨k2, e2, h2⟩ | h2)
    · exact hap k2 k (q.1, e2) q h2 h rfl
    · exact absurd ((hPr k q h).lt) (Nat.not_lt.mpr h2)
  · intro i j p q hi hj e
    rcases hD1.2 i p hi with ⟨k2, e2, h2⟩ | h2
    · exact hap k2 j (p.1, e2) q h2 hj e
    · have := (hPr j q hj).lt
      omega
section LC
variable {p : Program} {l : Launch} {e : Env} {R : Room} {s : State} {m : MethodId} {args : Array Value} {below : List Frame} {meth : Method} {c : Code} {H : Heap} {locs : List Loc} {cells slots : Nat} {Q : State → Prop}
variable {cc bytes : ByteArray} {pc : Nat} {ls : Array Slot} {rest st0 As : List Value} {D : va_G} {A : Nat → Prop} {b : Nat} {tys : List (ClassId × FieldType)} {w0 wr : va_W}
variable {own C : String} {index n nL L mc ms : Nat} {y : MethodName} {rt : FieldType} {rm : Room} {St : Type} {w : St → va_W} {u0 : St}
/-- a call on one object, another beside it -/
theorem ca_2 {post : Int32 → St → Prop} (hM : ct_i l D tys y bytes L rt rm w u0 H.size (.ref b :: As) post) (S : CallFix p m c cc nL s args lw_all own) (cw : CallW R s args own C index y bytes L (some rt) (ws_ y bytes L (some rt)) rm 0 0 n)
    (hK : va_K D vwCl tys s) (hP : va_P D vwCl (w u0) H) (hD : va_D A (w u0)) (hPr : va_P D vwCl wr H) (hap : ap_ (w u0) wr) (hS : va_S A s.heap H locs) (hA : ∀ q, s.heap.size ≤ q → A q) (hv : ∃ cell : Cell, H[b]? = some cell ∧ cell.vm.isStatics = false ∧ s.vm.findClass C = some cell.cls)
    (hn : As.length = n) (hsize : ls.size = nL) (hstack : st0 = As.reverse ++ .ref b :: rest) (hW : (rest.map fun v => v.category).sum ≤ 8) (hdg : decode cc pc = .ok (.invokevirtual index, 3)) (hf : cells ≤ R.cells ∧ slots ≤ R.slots)
    (kk : ∀ (r : Int32) (u : St) (H1 : Heap) (locs1 : List Loc), post r u → va_P D vwCl (w u) H1 → va_D A (w u) → va_P D vwCl wr H1 → ap_ (w u) wr → va_S A s.heap H1 locs1 → W p l e R s m args below meth c H1 locs1 cells slots Q (F0 m (pc + 3) ls (.int r :: rest))) :
    W p l e R s m args below meth c H locs cells slots Q (F0 m pc ls st0) := by
  have hF := ca_fr hD hS hA
  refine va_calli (va_runV (As := As) (rest := rest) S hM cw ⟨fun a U g mk q => ?_, hv, fun U hU hW => ?_⟩ rfl hn hsize hstack (lv_room hW) hdg hf) hS (fun q _ h => hF q h) hF (fun r u t H1 locs1 ht hvm hw hB hz hk hS1 => ?_)
  · obtain ⟨q0, q1, qP, qK, qD⟩ := q
    exact ⟨q0, q1, qP, va_K.moved (u := U) (U := U.calling g mk a) (Vm.Alike.refl U.vm) qK, qD⟩
  · exact ⟨rfl, by rw [hU], by rw [hU]; exact hP, va_K.moved hW.alike hK, hD.weaken (fun _ _ _ _ => trivial)⟩
  · obtain ⟨hP1, hD1⟩ := hB
    rw [ht] at hP1
    obtain ⟨h1, h2⟩ := ap_rest (A := A) hPr hap hk hD1
    exact kk r u H1 locs1 hw hP1 (hD1.weaken (fun _ _ _ h => hF _ h)) h1 h2 hS1
/-- a constructor's call, another object beside it -/
theorem ca_n {ty : St → List (ClassId × FieldType)} (hM : Met l y (ws_ y bytes L none) rm (va_Pc [.ref b] (fun U => U.heap.size = H.size ∧ va_P D vwCl w0 U.heap ∧ va_K D vwCl [] U ∧ va_D (fun _ => True) w0)) (va_Qv (fun _ : St => True) (fun u t => va_P D vwCl (w u) t.heap ∧ va_K D vwCl (ty u) t ∧ va_D (va_A w0 H.size) (w u)) (va_A w0 H.size)) mc ms (va_A w0 H.size)) (S : CallFix p m c cc nL s args lw_all own) (cw : CallB R s args own index y bytes L none (ws_ y bytes L none) rm mc ms 0 ∧ y.name = "<init>" ∧ (Cond.instanceMethod y).before args s = true)
    (hK : va_K D vwCl tys s) (hP : va_P D vwCl w0 H) (hD : va_D A w0) (hPr : va_P D vwCl wr H) (hap : ap_ w0 wr) (hS : va_S A s.heap H locs) (hA : ∀ q, s.heap.size ≤ q → A q)
    (hsize : ls.size = nL) (hW : (rest.map fun v => v.category).sum ≤ 8) (hdg : decode cc pc = .ok (.invokespecial index, 3)) (hf : cells + mc ≤ R.cells ∧ slots + ms ≤ R.slots)
    (kk : ∀ (u : St) (H1 : Heap) (locs1 : List Loc), va_P D vwCl (w u) H1 → va_D A (w u) → va_K D vwCl (ty u) s → va_P D vwCl wr H1 → ap_ (w u) wr → va_S A s.heap H1 locs1 → W p l e R s m args below meth c H1 locs1 (cells + mc) (slots + ms) Q (F0 m (pc + 3) ls rest)) :
    W p l e R s m args below meth c H locs cells slots Q (F0 m pc ls (.ref b :: rest)) := by
  have hF := ca_fr hD hS hA
  refine va_callv (va_runI (As := []) (rest := rest) S hM cw ⟨fun a U g mk q => ?_, fun U hU hW => ?_⟩ rfl rfl hsize rfl (lv_room hW) hdg hf) hS (fun q _ h => hF q h) hF (fun u t H1 locs1 ht hvm hw hB hz hk hS1 => ?_)
  · obtain ⟨q0, q1, qP, qK, qD⟩ := q
    exact ⟨q0, q1, qP, va_K.moved (u := U) (U := U.calling g mk a) (Vm.Alike.refl U.vm) qK, qD⟩
  · exact ⟨rfl, by rw [hU], by rw [hU]; exact hP, va_K.moved hW.alike (hK.sub (tys' := []) [] rfl), hD.weaken (fun _ _ _ _ => trivial)⟩
  · obtain ⟨hP1, hK1, hD1⟩ := hB
    rw [ht] at hP1
    obtain ⟨h1, h2⟩ := ap_rest (A := A) hPr hap hk hD1
    exact kk u H1 locs1 hP1 (hD1.weaken (fun _ _ _ h => hF _ h)) (va_K.moved hvm.symm hK1) h1 h2 hS1
end LC
/-- the two objects in the heap -/
def li_ (D : va_G) (A : Nat → Prop) (cI cZ : ClassId) (ox om : Nat) (ax am : Nat → Nat) (u : gx_S) (v : gm_S) (H : Heap) : Prop :=
  va_P D vwCl (gx_w cI cZ ox ax u) H ∧ va_D A (gx_w cI cZ ox ax u) ∧ va_P D vwCl (gm_w cI cZ om am v) H ∧ va_D A (gm_w cI cZ om am v) ∧ ap_ (gx_w cI cZ ox ax u) (gm_w cI cZ om am v)
section LI
variable {p : Program} {l : Launch} {e : Env} {R : Room} {s : State} {m : MethodId} {args : Array Value} {below : List Frame} {meth : Method} {c : Code} {H H0 : Heap} {locs : List Loc} {cells slots : Nat} {Q : State → Prop}
variable {cc bytes : ByteArray} {pc : Nat} {ls : Array Slot} {rest st0 As : List Value} {D : va_G} {A : Nat → Prop} {cI cZ : ClassId} {ox om : Nat} {ax am : Nat → Nat} {u0 : gx_S} {v0 : gm_S}
variable {own : String} {index n nL L : Nat} {y : MethodName} {rt : FieldType} {rm : Room}
theorem lx_i {post : Int32 → gx_S → Prop} (hM : ct_i l D (ty_ cI cZ) y bytes L rt rm (gx_w cI cZ ox ax) u0 H.size (.ref ox :: As) post) (S : CallFix p m c cc nL s args lw_all own) (cw : CallW R s args own RX0 index y bytes L (some rt) (ws_ y bytes L (some rt)) rm 0 0 n)
    (hK : va_K D vwCl (ty_ cI cZ) s) (hI : li_ D A cI cZ ox om ax am u0 v0 H) (hS : va_S A s.heap H locs) (hA : ∀ q, s.heap.size ≤ q → A q)
    (hn : As.length = n) (hsize : ls.size = nL) (hstack : st0 = As.reverse ++ .ref ox :: rest) (hW : (rest.map fun v => v.category).sum ≤ 8) (hdg : decode cc pc = .ok (.invokevirtual index, 3)) (hf : cells ≤ R.cells ∧ slots ≤ R.slots)
    (kk : ∀ (r : Int32) (u : gx_S) (H1 : Heap) (locs1 : List Loc), post r u → li_ D A cI cZ ox om ax am u v0 H1 → va_S A s.heap H1 locs1 → W p l e R s m args below meth c H1 locs1 cells slots Q (F0 m (pc + 3) ls (.int r :: rest))) :
    W p l e R s m args below meth c H locs cells slots Q (F0 m pc ls st0) := by
  obtain ⟨h1, h2, h3, h4, h5⟩ := hI
  exact ca_2 hM S cw hK h1 h2 h3 h5 hS hA (va_recv hK h1 (ci := 0) (q0 := 0) (q := (RX0, TX0, 11)) rfl rfl) hn hsize hstack hW hdg hf (fun r u H1 locs1 hq a1 a2 a3 a4 a5 => kk r u H1 locs1 hq ⟨a1, a2, a3, h4, a4⟩ a5)
theorem lm_i {post : Int32 → gm_S → Prop} (hM : ct_i l D (ty_ cI cZ) y bytes L rt rm (gm_w cI cZ om am) v0 H.size (.ref om :: As) post) (S : CallFix p m c cc nL s args lw_all own) (cw : CallW R s args own RX1 index y bytes L (some rt) (ws_ y bytes L (some rt)) rm 0 0 n)
    (hK : va_K D vwCl (ty_ cI cZ) s) (hI : li_ D A cI cZ ox om ax am u0 v0 H) (hS : va_S A s.heap H locs) (hA : ∀ q, s.heap.size ≤ q → A q)
    (hn : As.length = n) (hsize : ls.size = nL) (hstack : st0 = As.reverse ++ .ref om :: rest) (hW : (rest.map fun v => v.category).sum ≤ 8) (hdg : decode cc pc = .ok (.invokevirtual index, 3)) (hf : cells ≤ R.cells ∧ slots ≤ R.slots)
    (kk : ∀ (r : Int32) (v : gm_S) (H1 : Heap) (locs1 : List Loc), post r v → li_ D A cI cZ ox om ax am u0 v H1 → va_S A s.heap H1 locs1 → W p l e R s m args below meth c H1 locs1 cells slots Q (F0 m (pc + 3) ls (.int r :: rest))) :
    W p l e R s m args below meth c H locs cells slots Q (F0 m pc ls st0) := by
  obtain ⟨h1, h2, h3, h4, h5⟩ := hI
  exact ca_2 hM S cw hK h3 h4 h1 h5.symm hS hA (va_recv hK h3 (ci := 1) (q0 := 0) (q := (RX1, TX1, 8)) rfl rfl) hn hsize hstack hW hdg hf (fun r v H1 locs1 hq a1 a2 a3 a4 a5 => kk r v H1 locs1 hq ⟨a3, h2, a1, a2, a4.symm⟩ a5)
/-- the script at a place that is a number -/
theorem kx_sld (hexec : p.tables.exec = Jvm.exec) (hb : c.code = cc) {b N : Nat} {xs : Nat → Int32} (hX : va_X b N xs s H0) (hbl : b < H0.size) (hbA : ¬ A b) (hS : va_S A H0 H locs) {i : Nat} (hi : i < N) (hN : N < 2 ^ 31) (hdg : decode cc pc = .ok (.iaload, 1))
    (kk : W p l e R s m args below meth c H locs cells slots Q (F0 m (pc + 1) ls (.int (xs i) :: rest))) : W p l e R s m args below meth c H locs cells slots Q (F0 m pc ls (.int (nI i) :: .ref b :: rest)) := by
  refine va_sld hexec hb hX hbl hbA hS (vp_in_nI hi hN) hdg ?_
  rw [nI_clamp (Nat.lt_trans hi hN)]
  exact kk
end LI
theorem kx_inc5 (i : Nat) : nI i + Int32.ofInt 5 = nI (i + 5) := nI_add i 5
theorem lw_more {i L : Nat} (hi : i ≤ 400) (hL : L ≤ 320) (h : ¬ nI L - nI 5 < nI i) : i + 5 ≤ L := by
  rw [Int32.lt_iff_toInt_lt, pk_sub_toInt (by omega) (by omega), nI_toInt (by omega)] at h
  omega
theorem nI_out {j : Nat} (h1 : 10 ≤ j) (h2 : j < 16) : (nI j).toInt < 0 ∨ 9 < (nI j).toInt := by
  rw [nI_toInt (by omega)]
  omega
/-! the two states belong together -/
def gl_nx (i : Nat) (u : gx_S) (v : gm_S) : Prop := ∃ (c n : Nat) (T G K P : Nat → Int32) (O F : Nat → Bool) (Qu : Nat → Int32) (U kp : Nat → Bool), u = (c, n, 0, T, G, K, P, O, F, Qu, U) ∧ v = (n, T, G, K, P, O, c, kp) ∧ gl_WF c n T G K P O ∧ c ≤ i ∧ (∀ j, j < n → F j = false) ∧ ∀ x, x < 24 → U x = false
theorem nx_0 : gl_nx 0 gx_u0 gm_u0 := ⟨0, 0, _, _, _, _, _, _, _, _, _, rfl, rfl, ⟨by omega, fun i hi => absurd hi (Nat.not_lt_zero _), fun i j _ hj => absurd hj (Nat.not_lt_zero _), fun i hi => absurd hi (Nat.not_lt_zero _), fun i hi => absurd hi (Nat.not_lt_zero _), fun i hi => absurd hi (Nat.not_lt_zero _), fun i hi => absurd hi (Nat.not_lt_zero _)⟩, Nat.le_refl _, fun j hj => absurd hj (Nat.not_lt_zero _), fun _ _ => rfl⟩
theorem nx_mono {i j : Nat} {u : gx_S} {v : gm_S} (h : gl_nx i u v) (hij : i ≤ j) : gl_nx j u v := by
  obtain ⟨c, n, T, G, K, P, O, F, Qu, U, kp, h1, h2, h3, h4, h5⟩ := h
  exact ⟨c, n, T, G, K, P, O, F, Qu, U, kp, h1, h2, h3, Nat.le_trans h4 hij, h5⟩
section NX
variable {i c n : Nat} {T G K P : Nat → Int32} {O F : Nat → Bool} {Qu : Nat → Int32} {U kp : Nat → Bool} {r1 r2 : Int32} {u : gx_S} {v : gm_S}
theorem nx_grant {g k p : Int32} {o : Bool} (hW : gl_WF c n T G K P O) (hi : i < 400) (hc : c ≤ i) (hF : ∀ j, j < n → F j = false) (hU : ∀ x, x < 24 → U x = false)
    (h1 : (gl_gc n K P O g k p = 0 ∧ r1 = -1 ∧ u = (c, n, 0, T, G, K, P, O, F, Qu, U)) ∨ (gl_gc n K P O g k p = 1 ∧ r1 = -2 ∧ u = (c, n, 0, T, G, K, P, O, F, Qu, U)) ∨ (gl_gc n K P O g k p = 2 ∧ r1 = nI c ∧ u = (c + 1, n + 1, 0, va_up T n (nI c), va_up G n g, va_up K n k, va_up P n p, va_up O n o, va_up F n false, Qu, U)))
    (h2 : (gl_gc n K P O g k p = 0 ∧ r2 = -1 ∧ v = (n, T, G, K, P, O, c, kp)) ∨ (gl_gc n K P O g k p = 1 ∧ r2 = -2 ∧ v = (n, T, G, K, P, O, c, kp)) ∨ (gl_gc n K P O g k p = 2 ∧ r2 = nI c ∧ v = (n + 1, va_up T n (nI c), va_up G n g, va_up K n k, va_up P n p, va_up O n o, c + 1, kp))) : r1 = r2 ∧ gl_nx (i + 5) u v := by
  rcases h1 with ⟨a, rfl, rfl⟩ | ⟨a, rfl, rfl⟩ | ⟨a, rfl, rfl⟩ <;> rcases h2 with ⟨b, rfl, rfl⟩ | ⟨b, rfl, rfl⟩ | ⟨b, rfl, rfl⟩
  · exact ⟨rfl, c, n, T, G, K, P, O, F, Qu, U, kp, rfl, rfl, hW, by omega, hF, hU⟩
  · omega
  · omega
  · omega
  · exact ⟨rfl, c, n, T, G, K, P, O, F, Qu, U, kp, rfl, rfl, hW, by omega, hF, hU⟩
  · omega
  · omega
  · omega
  · exact ⟨rfl, _, _, _, _, _, _, _, _, _, _, _, rfl, rfl, hW.grant (by omega) a, by omega, fun j hj => by
      by_cases e : j = n
      · rw [e, up_s]
      · rw [up_n _ _ e]; exact hF j (by omega), hU⟩
theorem nx_take {q : Nat → Bool} {F' : Nat → Bool} {Qu' : Nat → Int32} {U' kp' : Nat → Bool} (hW : gl_WF c n T G K P O) (hc : c ≤ i) (hq : ∀ i, i < n → q i = true → gl_fd G K P O q i = true) (hU : ∀ x, x < 24 → U' x = false) (hF : ∀ j, j < gl_cnt q n → F' j = false) :
    nI (n - gl_cnt q n) = nI (gl_cnt (fun x => !q x) n) ∧ gl_nx (i + 5) (c, gl_cnt q n, 0, gl_ca q T n, gl_ca q G n, gl_ca q K n, gl_ca q P n, gl_ca q O n, F', Qu', U') (gl_cnt q n, gl_ca q T n, gl_ca q G n, gl_ca q K n, gl_ca q P n, gl_ca q O n, c, kp') := by
  refine ⟨by rw [show n - gl_cnt q n = gl_cnt (fun x => !q x) n by have := gl_cnt_not q n; omega], ?_⟩
  exact ⟨_, _, _, _, _, _, _, _, _, _, _, rfl, rfl, hW.take hq, by omega, hF, hU⟩
theorem ks_fd {init : Nat → Bool} : ∀ i, i < n → gl_ks G K P O init n i = true → gl_fd G K P O (gl_ks G K P O init n) i = true := by
  intro i hi h
  rw [gl_ks_eq hi, Bool.and_eq_true] at h
  exact h.2
theorem nx_revoke {ok : Bool} {init : Nat → Bool} (hW : gl_WF c n T G K P O) (hc : c ≤ i) (hF : ∀ j, j < n → F j = false) (hU : ∀ x, x < 24 → U x = false)
    (h1 : (ok = false ∧ r1 = -1 ∧ u = (c, n, 0, T, G, K, P, O, F, Qu, U)) ∨ (ok = true ∧ r1 = nI (n - gl_cnt (gl_ks G K P O init n) n) ∧ ∃ (F' : Nat → Bool) (Qu' : Nat → Int32) (U' : Nat → Bool), u = (c, gl_cnt (gl_ks G K P O init n) n, 0, gl_ca (gl_ks G K P O init n) T n, gl_ca (gl_ks G K P O init n) G n, gl_ca (gl_ks G K P O init n) K n, gl_ca (gl_ks G K P O init n) P n, gl_ca (gl_ks G K P O init n) O n, F', Qu', U') ∧ (∀ x, x < 24 → U' x = false) ∧ ∀ j, j < gl_cnt (gl_ks G K P O init n) n → F' j = false))
    (h2 : (ok = false ∧ r2 = -1 ∧ v = (n, T, G, K, P, O, c, kp)) ∨ (ok = true ∧ r2 = nI (gl_cnt (fun x => !(gl_ks G K P O init n) x) n) ∧ ∃ kp' : Nat → Bool, v = (gl_cnt (gl_ks G K P O init n) n, gl_ca (gl_ks G K P O init n) T n, gl_ca (gl_ks G K P O init n) G n, gl_ca (gl_ks G K P O init n) K n, gl_ca (gl_ks G K P O init n) P n, gl_ca (gl_ks G K P O init n) O n, c, kp'))) : r1 = r2 ∧ gl_nx (i + 5) u v := by
  rcases h1 with ⟨a, rfl, rfl⟩ | ⟨a, rfl, F', Qu', U', rfl, hU', hF'⟩ <;> rcases h2 with ⟨b, rfl, rfl⟩ | ⟨b, rfl, kp', rfl⟩
  · exact ⟨rfl, c, n, T, G, K, P, O, F, Qu, U, kp, rfl, rfl, hW, by omega, hF, hU⟩
  · rw [a] at b; cases b
  · rw [a] at b; cases b
  · exact nx_take hW hc ks_fd hU' hF'
theorem nx_reach {ok : Bool} {x : Nat} {f : Nat → Bool} (hW : gl_WF c n T G K P O) (hc : c ≤ i) (hF : ∀ j, j < n → F j = false) (hU : ∀ x, x < 24 → U x = false)
    (h1 : (ok = false ∧ r1 = -1 ∧ u = (c, n, 0, T, G, K, P, O, F, Qu, U)) ∨ (ok = true ∧ r1 = nI x ∧ ∃ (F' : Nat → Bool) (Qu' : Nat → Int32) (U' : Nat → Bool), u = (c, n, 0, T, G, K, P, O, F', Qu', U') ∧ (∀ x, x < 24 → U' x = false) ∧ ∀ j, j < n → F' j = false))
    (h2 : (ok = false ∧ r2 = -1 ∧ v = (n, T, G, K, P, O, c, kp)) ∨ (ok = true ∧ r2 = nI x ∧ ∃ kp' : Nat → Bool, v = (n, T, G, K, P, O, c, kp') ∧ ∀ j, j < n → kp' j = f j)) : r1 = r2 ∧ gl_nx (i + 5) u v := by
  rcases h1 with ⟨a, rfl, rfl⟩ | ⟨a, rfl, F', Qu', U', rfl, hU', hF'⟩ <;> rcases h2 with ⟨b, rfl, rfl⟩ | ⟨b, rfl, kp', rfl, hk⟩
  · exact ⟨rfl, c, n, T, G, K, P, O, F, Qu, U, kp, rfl, rfl, hW, by omega, hF, hU⟩
  · rw [a] at b; cases b
  · rw [a] at b; cases b
  · exact ⟨rfl, c, n, T, G, K, P, O, F', Qu', U', kp', rfl, rfl, hW, by omega, hF', hU'⟩
theorem nx_look {x : Int32} (hW : gl_WF c n T G K P O) (hc : c ≤ i) (hF : ∀ j, j < n → F j = false) (hU : ∀ x, x < 24 → U x = false)
    (h1 : u = (c, n, 0, T, G, K, P, O, F, Qu, U) ∧ r1 = x) (h2 : v = (n, T, G, K, P, O, c, kp) ∧ r2 = x) : r1 = r2 ∧ gl_nx (i + 5) u v := by
  obtain ⟨rfl, rfl⟩ := h1
  obtain ⟨rfl, rfl⟩ := h2
  exact ⟨rfl, c, n, T, G, K, P, O, F, Qu, U, kp, rfl, rfl, hW, by omega, hF, hU⟩
theorem nx_may {x : Int32} (hW : gl_WF c n T G K P O) (hc : c ≤ i) (hU : ∀ x, x < 24 → U x = false)
    (h1 : ∃ F' : Nat → Bool, u = (c, n, 0, T, G, K, P, O, F', Qu, U) ∧ (∀ j, j < n → F' j = false) ∧ r1 = x) (h2 : v = (n, T, G, K, P, O, c, kp) ∧ r2 = x) : r1 = r2 ∧ gl_nx (i + 5) u v := by
  obtain ⟨F', rfl, hF, rfl⟩ := h1
  obtain ⟨rfl, rfl⟩ := h2
  exact ⟨rfl, c, n, T, G, K, P, O, F', Qu, U, kp, rfl, rfl, hW, by omega, hF, hU⟩
end NX
end
section
/-! the law's loop -/
set_option maxHeartbeats 4000000 in
set_option maxRecDepth 100000 in
theorem law_loop {p : Program} {l : Launch} {e : Env} {s : State} {m : MethodId} {below : List Frame} {meth : Method} {c : Code} {D : va_G} {cI cZ : ClassId} {ox om : Nat} {ax am : Nat → Nat} {b L : Nat} {xs : Nat → Int32} (hL : L ≤ 320) (C0 : lw_At p s m meth c b L xs) (hK : va_K D vwCl (ty_ cI cZ) s) :
    ∀ (N i : Nat) (u : gx_S) (v : gm_S) (H : Heap) (locs : List Loc) (ls : Array Slot), i ≤ 330 → 330 < i + N → gl_nx i u v → li_ D (fun q : Nat => s.heap.size ≤ q) cI cZ ox om ax am u v H → va_S (fun q : Nat => s.heap.size ≤ q) s.heap H locs → lv_has ls 4 [(0, .ref b), (1, .ref ox), (2, .ref om), (3, .int (nI i))] → W p l e room_1 s m #[Value.ref b] below meth c H locs 16 643 (lw_Z below #[Value.ref b] s) (F0 m 18 ls []) := by
  obtain ⟨hx, hb, hr0, hml, hown, hts0, hX, hbl, hlocks, hgv⟩ := C0
  have hts : ∀ w ∈ lw_all, w.before #[Value.ref b] s = true := fun w h => hts0 w (lw_all_tbl h)
  have hA : ∀ q : Nat, s.heap.size ≤ q → (fun q : Nat => s.heap.size ≤ q) q := fun _ h => h
  have hbA : ¬ (fun q : Nat => s.heap.size ≤ q) b := Nat.not_le.mpr hbl
  intro N
  induction N with
  | zero =>
    intro i u v H locs ls h1 h2
    exact absurd h2 (by omega)
  | succ N ih =>
    intro i u v H locs ls hi hN hnx hI hS hl
    obtain ⟨c0, n, T, G, K, P, O, F, Qu, U, kp, rfl, rfl, hW, hc, hF, hU⟩ := id hnx
    have hn : n ≤ 48 := hW.1
    refine lv_iload_n hx hb dL_law_18 rfl (lv_at hl 3 rfl) ?_
    refine lv_aload_n hx hb dL_law_19 rfl (lv_at hl 0 rfl) ?_
    refine va_slen hx hb hX hbl hbA hS dL_law_20 ?_
    refine kx_top (v := nI L) rfl ?_
    refine lv_iconst (v := nI 5) hx hb dL_law_21 (by decide) ?_
    refine lv_isub hx hb dL_law_22 ?_
    refine lv_icmp_gt (tgt := 440) hx hb dL_law_23 (by decide) (fun c_ => ?_) (fun c_ => ?_)
    · refine lv_iconst (v := 1) hx hb dL_law_440 (by decide) ?_
      refine va_forget (fun q hq => hS.2.2 q hq) ?_
      refine W.widen (k := 600000) (n := 7290000) (Nat.le_of_ble_eq_true rfl) (Nat.le_of_ble_eq_true rfl) ?_
      exact lw_ret hx hb hr0 hlocks dL_law_441
    · have hlt := lw_more (by omega) hL c_
      refine lv_aload_n hx hb dL_law_26 rfl (lv_at hl 0 rfl) ?_
      refine lv_iload_n hx hb dL_law_27 rfl (lv_at hl 3 rfl) ?_
      refine kx_sld hx hb hX hbl hbA hS (by omega) (by omega) dL_law_28 ?_
      refine lv_bipush (v := 15) hx hb dL_law_29 (by decide) ?_
      refine lv_iand hx hb dL_law_31 ?_
      obtain ⟨j, hj, ej⟩ := pk_andE (xs i) (m := 15) 4 (by decide)
      refine kx_top ej ?_
      have hj : j = 0 ∨ j = 1 ∨ j = 2 ∨ j = 3 ∨ j = 4 ∨ j = 5 ∨ j = 6 ∨ j = 7 ∨ j = 8 ∨ j = 9 ∨ (10 ≤ j ∧ j < 16) := by omega
      rcases hj with rfl | rfl | rfl | rfl | rfl | rfl | rfl | rfl | rfl | rfl | hj
      · refine lv_tableIn (tgt := 88) hx hb dL_law_32 (by decide) (by decide) rfl (by decide) ?_
        refine lv_aload_n hx hb dL_law_88 rfl (lv_at hl 1 rfl) ?_
        refine lv_aload_n hx hb dL_law_89 rfl (lv_at hl 0 rfl) ?_
        refine lv_iload_n hx hb dL_law_90 rfl (lv_at hl 3 rfl) ?_
        refine lv_iconst (v := nI 1) hx hb dL_law_91 (by decide) ?_
        refine kx_iadd (v := nI (i + 1)) hx hb dL_law_92 (nI_add _ _) ?_
        refine kx_sld hx hb hX hbl hbA hS (by omega) (by omega) dL_law_93 ?_
        refine lv_aload_n hx hb dL_law_94 rfl (lv_at hl 0 rfl) ?_
        refine lv_iload_n hx hb dL_law_95 rfl (lv_at hl 3 rfl) ?_
        refine lv_iconst (v := nI 2) hx hb dL_law_96 (by decide) ?_
        refine kx_iadd (v := nI (i + 2)) hx hb dL_law_97 (nI_add _ _) ?_
        refine kx_sld hx hb hX hbl hbA hS (by omega) (by omega) dL_law_98 ?_
        refine lv_aload_n hx hb dL_law_99 rfl (lv_at hl 0 rfl) ?_
        refine lv_iload_n hx hb dL_law_100 rfl (lv_at hl 3 rfl) ?_
        refine lv_iconst (v := nI 3) hx hb dL_law_101 (by decide) ?_
        refine kx_iadd (v := nI (i + 3)) hx hb dL_law_102 (nI_add _ _) ?_
        refine kx_sld hx hb hX hbl hbA hS (by omega) (by omega) dL_law_103 ?_
        refine lv_aload_n hx hb dL_law_104 rfl (lv_at hl 0 rfl) ?_
        refine lv_iload_n hx hb dL_law_105 rfl (lv_at hl 3 rfl) ?_
        refine lv_iconst (v := nI 4) hx hb dL_law_106 (by decide) ?_
        refine kx_iadd (v := nI (i + 4)) hx hb dL_law_107 (nI_add _ _) ?_
        refine kx_sld hx hb hX hbl hbA hS (by omega) (by omega) dL_law_108 ?_
        refine lv_if_eq (tgt := 116) hx hb dL_law_109 (by decide) (fun c4 => ?_) (fun c4 => ?_)
        · refine lv_iconst (v := bZ false) hx hb dL_law_116 (by decide) ?_
          refine lx_i (cX_grant l D cI cZ ox ax _ c0 n 0 T G K P O F Qu U (xs (i + 1)) (xs (i + 2)) (xs (i + 3)) false hW (by omega) hF) ⟨hx, hb, hml, hown, hts⟩ (cwV 4 hts (lw_V q57 q58 q59 q11 q60) rfl rfl rfl (by decide +kernel) ⟨by decide, by decide⟩) hK hI hS hA rfl hl.1 rfl (Nat.le_of_ble_eq_true rfl) dL_law_117 ⟨Nat.le_of_ble_eq_true rfl, Nat.le_of_ble_eq_true rfl⟩ (fun r1 u H locs h1 hI hS => ?_)
          refine lv_aload_n hx hb dL_law_120 rfl (lv_at hl 2 rfl) ?_
          refine lv_aload_n hx hb dL_law_121 rfl (lv_at hl 0 rfl) ?_
          refine lv_iload_n hx hb dL_law_122 rfl (lv_at hl 3 rfl) ?_
          refine lv_iconst (v := nI 1) hx hb dL_law_123 (by decide) ?_
          refine kx_iadd (v := nI (i + 1)) hx hb dL_law_124 (nI_add _ _) ?_
          refine kx_sld hx hb hX hbl hbA hS (by omega) (by omega) dL_law_125 ?_
          refine lv_aload_n hx hb dL_law_126 rfl (lv_at hl 0 rfl) ?_
          refine lv_iload_n hx hb dL_law_127 rfl (lv_at hl 3 rfl) ?_
          refine lv_iconst (v := nI 2) hx hb dL_law_128 (by decide) ?_
          refine kx_iadd (v := nI (i + 2)) hx hb dL_law_129 (nI_add _ _) ?_
          refine kx_sld hx hb hX hbl hbA hS (by omega) (by omega) dL_law_130 ?_
          refine lv_aload_n hx hb dL_law_131 rfl (lv_at hl 0 rfl) ?_
          refine lv_iload_n hx hb dL_law_132 rfl (lv_at hl 3 rfl) ?_
          refine lv_iconst (v := nI 3) hx hb dL_law_133 (by decide) ?_
          refine kx_iadd (v := nI (i + 3)) hx hb dL_law_134 (nI_add _ _) ?_
          refine kx_sld hx hb hX hbl hbA hS (by omega) (by omega) dL_law_135 ?_
          refine lv_aload_n hx hb dL_law_136 rfl (lv_at hl 0 rfl) ?_
          refine lv_iload_n hx hb dL_law_137 rfl (lv_at hl 3 rfl) ?_
          refine lv_iconst (v := nI 4) hx hb dL_law_138 (by decide) ?_
          refine kx_iadd (v := nI (i + 4)) hx hb dL_law_139 (nI_add _ _) ?_
          refine kx_sld hx hb hX hbl hbA hS (by omega) (by omega) dL_law_140 ?_
          refine lv_if_eq (tgt := 148) hx hb dL_law_141 (by decide) (fun c5 => ?_) (fun c5 => ?_)
          · refine lv_iconst (v := bZ false) hx hb dL_law_148 (by decide) ?_
            refine lm_i (cM_grant l D cI cZ om am _ n T G K P O c0 kp (xs (i + 1)) (xs (i + 2)) (xs (i + 3)) false hn) ⟨hx, hb, hml, hown, hts⟩ (cwV 4 hts (lw_V q163 q164 q165 q12 q166) rfl rfl rfl (by decide +kernel) ⟨by decide, by decide⟩) hK hI hS hA rfl hl.1 rfl (Nat.le_of_ble_eq_true rfl) dL_law_149 ⟨Nat.le_of_ble_eq_true rfl, Nat.le_of_ble_eq_true rfl⟩ (fun r2 v H locs h2 hI hS => ?_)
            obtain ⟨hr, hn2⟩ := nx_grant (i := i) hW (by omega) hc hF hU h1 h2
            refine lv_icmp_eq (tgt := 434) hx hb dL_law_152 (by decide) (fun cc => ?_) (fun cc => ?_)
            · refine lv_iinc (v := nI (i + 5)) (lv' := [(3, .int (nI (i + 5))), (0, .ref b), (1, .ref ox), (2, .ref om)]) hx hb dL_law_434 hl (k := 3) rfl (kx_inc5 _) (by decide) rfl (fun ls hl => ?_)
              refine lv_goto (tgt := 18) hx hb dL_law_437 (by decide) ?_
              exact ih (i + 5) u v H locs ls (by omega) (by omega) hn2 hI hS (lv_sub hl [1, 2, 3, 0] rfl)
            · exact absurd hr cc
          · exact absurd c4 c5
        · refine lv_iconst (v := bZ true) hx hb dL_law_112 (by decide) ?_
          refine lv_goto (tgt := 117) hx hb dL_law_113 (by decide) ?_
          refine lx_i (cX_grant l D cI cZ ox ax _ c0 n 0 T G K P O F Qu U (xs (i + 1)) (xs (i + 2)) (xs (i + 3)) true hW (by omega) hF) ⟨hx, hb, hml, hown, hts⟩ (cwV 4 hts (lw_V q57 q58 q59 q11 q60) rfl rfl rfl (by decide +kernel) ⟨by decide, by decide⟩) hK hI hS hA rfl hl.1 rfl (Nat.le_of_ble_eq_true rfl) dL_law_117 ⟨Nat.le_of_ble_eq_true rfl, Nat.le_of_ble_eq_true rfl⟩ (fun r1 u H locs h1 hI hS => ?_)
          refine lv_aload_n hx hb dL_law_120 rfl (lv_at hl 2 rfl) ?_
          refine lv_aload_n hx hb dL_law_121 rfl (lv_at hl 0 rfl) ?_
          refine lv_iload_n hx hb dL_law_122 rfl (lv_at hl 3 rfl) ?_
          refine lv_iconst (v := nI 1) hx hb dL_law_123 (by decide) ?_
          refine kx_iadd (v := nI (i + 1)) hx hb dL_law_124 (nI_add _ _) ?_
          refine kx_sld hx hb hX hbl hbA hS (by omega) (by omega) dL_law_125 ?_
          refine lv_aload_n hx hb dL_law_126 rfl (lv_at hl 0 rfl) ?_
          refine lv_iload_n hx hb dL_law_127 rfl (lv_at hl 3 rfl) ?_
          refine lv_iconst (v := nI 2) hx hb dL_law_128 (by decide) ?_
          refine kx_iadd (v := nI (i + 2)) hx hb dL_law_129 (nI_add _ _) ?_
          refine kx_sld hx hb hX hbl hbA hS (by omega) (by omega) dL_law_130 ?_
          refine lv_aload_n hx hb dL_law_131 rfl (lv_at hl 0 rfl) ?_
          refine lv_iload_n hx hb dL_law_132 rfl (lv_at hl 3 rfl) ?_
          refine lv_iconst (v := nI 3) hx hb dL_law_133 (by decide) ?_
          refine kx_iadd (v := nI (i + 3)) hx hb dL_law_134 (nI_add _ _) ?_
          refine kx_sld hx hb hX hbl hbA hS (by omega) (by omega) dL_law_135 ?_
          refine lv_aload_n hx hb dL_law_136 rfl (lv_at hl 0 rfl) ?_
          refine lv_iload_n hx hb dL_law_137 rfl (lv_at hl 3 rfl) ?_
          refine lv_iconst (v := nI 4) hx hb dL_law_138 (by decide) ?_
          refine kx_iadd (v := nI (i + 4)) hx hb dL_law_139 (nI_add _ _) ?_
          refine kx_sld hx hb hX hbl hbA hS (by omega) (by omega) dL_law_140 ?_
          refine lv_if_eq (tgt := 148) hx hb dL_law_141 (by decide) (fun c5 => ?_) (fun c5 => ?_)
          · exact absurd c5 c4
          · refine lv_iconst (v := bZ true) hx hb dL_law_144 (by decide) ?_
            refine lv_goto (tgt := 149) hx hb dL_law_145 (by decide) ?_
            refine lm_i (cM_grant l D cI cZ om am _ n T G K P O c0 kp (xs (i + 1)) (xs (i + 2)) (xs (i + 3)) true hn) ⟨hx, hb, hml, hown, hts⟩ (cwV 4 hts (lw_V q163 q164 q165 q12 q166) rfl rfl rfl (by decide +kernel) ⟨by decide, by decide⟩) hK hI hS hA rfl hl.1 rfl (Nat.le_of_ble_eq_true rfl) dL_law_149 ⟨Nat.le_of_ble_eq_true rfl, Nat.le_of_ble_eq_true rfl⟩ (fun r2 v H locs h2 hI hS => ?_)
            obtain ⟨hr, hn2⟩ := nx_grant (i := i) hW (by omega) hc hF hU h1 h2
            refine lv_icmp_eq (tgt := 434) hx hb dL_law_152 (by decide) (fun cc => ?_) (fun cc => ?_)
            · refine lv_iinc (v := nI (i + 5)) (lv' := [(3, .int (nI (i + 5))), (0, .ref b), (1, .ref ox), (2, .ref om)]) hx hb dL_law_434 hl (k := 3) rfl (kx_inc5 _) (by decide) rfl (fun ls hl => ?_)
              refine lv_goto (tgt := 18) hx hb dL_law_437 (by decide) ?_
              exact ih (i + 5) u v H locs ls (by omega) (by omega) hn2 hI hS (lv_sub hl [1, 2, 3, 0] rfl)
            · exact absurd hr cc
      · refine lv_tableIn (tgt := 157) hx hb dL_law_32 (by decide) (by decide) rfl (by decide) ?_
        refine lv_aload_n hx hb dL_law_157 rfl (lv_at hl 1 rfl) ?_
        refine lv_aload_n hx hb dL_law_158 rfl (lv_at hl 0 rfl) ?_
        refine lv_iload_n hx hb dL_law_159 rfl (lv_at hl 3 rfl) ?_
        refine lv_iconst (v := nI 1) hx hb dL_law_160 (by decide) ?_
        refine kx_iadd (v := nI (i + 1)) hx hb dL_law_161 (nI_add _ _) ?_
        refine kx_sld hx hb hX hbl hbA hS (by omega) (by omega) dL_law_162 ?_
        refine lv_aload_n hx hb dL_law_163 rfl (lv_at hl 0 rfl) ?_
        refine lv_iload_n hx hb dL_law_164 rfl (lv_at hl 3 rfl) ?_
        refine lv_iconst (v := nI 2) hx hb dL_law_165 (by decide) ?_
        refine kx_iadd (v := nI (i + 2)) hx hb dL_law_166 (nI_add _ _) ?_
        refine kx_sld hx hb hX hbl hbA hS (by omega) (by omega) dL_law_167 ?_
        refine lv_aload_n hx hb dL_law_168 rfl (lv_at hl 0 rfl) ?_
        refine lv_iload_n hx hb dL_law_169 rfl (lv_at hl 3 rfl) ?_
        refine lv_iconst (v := nI 3) hx hb dL_law_170 (by decide) ?_
        refine kx_iadd (v := nI (i + 3)) hx hb dL_law_171 (nI_add _ _) ?_
        refine kx_sld hx hb hX hbl hbA hS (by omega) (by omega) dL_law_172 ?_
        refine lx_i (cX_revoke l D cI cZ ox ax _ c0 n T G K P O F Qu U (xs (i + 1)) (xs (i + 2)) (xs (i + 3)) hW (by omega) hU) ⟨hx, hb, hml, hown, hts⟩ (cwV 3 hts (lw_V q71 q72 q73 q11 q74) rfl rfl rfl (by decide +kernel) ⟨by decide, by decide⟩) hK hI hS hA rfl hl.1 rfl (Nat.le_of_ble_eq_true rfl) dL_law_173 ⟨Nat.le_of_ble_eq_true rfl, Nat.le_of_ble_eq_true rfl⟩ (fun r1 u H locs h1 hI hS => ?_)
        refine lv_aload_n hx hb dL_law_176 rfl (lv_at hl 2 rfl) ?_
        refine lv_aload_n hx hb dL_law_177 rfl (lv_at hl 0 rfl) ?_
        refine lv_iload_n hx hb dL_law_178 rfl (lv_at hl 3 rfl) ?_
        refine lv_iconst (v := nI 1) hx hb dL_law_179 (by decide) ?_
        refine kx_iadd (v := nI (i + 1)) hx hb dL_law_180 (nI_add _ _) ?_
        refine kx_sld hx hb hX hbl hbA hS (by omega) (by omega) dL_law_181 ?_
        refine lv_aload_n hx hb dL_law_182 rfl (lv_at hl 0 rfl) ?_
        refine lv_iload_n hx hb dL_law_183 rfl (lv_at hl 3 rfl) ?_
        refine lv_iconst (v := nI 2) hx hb dL_law_184 (by decide) ?_
        refine kx_iadd (v := nI (i + 2)) hx hb dL_law_185 (nI_add _ _) ?_
        refine kx_sld hx hb hX hbl hbA hS (by omega) (by omega) dL_law_186 ?_
        refine lv_aload_n hx hb dL_law_187 rfl (lv_at hl 0 rfl) ?_
        refine lv_iload_n hx hb dL_law_188 rfl (lv_at hl 3 rfl) ?_
        refine lv_iconst (v := nI 3) hx hb dL_law_189 (by decide) ?_
        refine kx_iadd (v := nI (i + 3)) hx hb dL_law_190 (nI_add _ _) ?_
        refine kx_sld hx hb hX hbl hbA hS (by omega) (by omega) dL_law_191 ?_
        refine lm_i (cM_revoke l D cI cZ om am _ n T G K P O c0 kp (xs (i + 1)) (xs (i + 2)) (xs (i + 3)) hn) ⟨hx, hb, hml, hown, hts⟩ (cwV 3 hts (lw_V q177 q178 q179 q12 q180) rfl rfl rfl (by decide +kernel) ⟨by decide, by decide⟩) hK hI hS hA rfl hl.1 rfl (Nat.le_of_ble_eq_true rfl) dL_law_192 ⟨Nat.le_of_ble_eq_true rfl, Nat.le_of_ble_eq_true rfl⟩ (fun r2 v H locs h2 hI hS => ?_)
        obtain ⟨hr, hn2⟩ := nx_revoke (i := i) hW hc hF hU h1 h2
        refine lv_icmp_eq (tgt := 434) hx hb dL_law_195 (by decide) (fun cc => ?_) (fun cc => ?_)
        · refine lv_iinc (v := nI (i + 5)) (lv' := [(3, .int (nI (i + 5))), (0, .ref b), (1, .ref ox), (2, .ref om)]) hx hb dL_law_434 hl (k := 3) rfl (kx_inc5 _) (by decide) rfl (fun ls hl => ?_)
          refine lv_goto (tgt := 18) hx hb dL_law_437 (by decide) ?_
          exact ih (i + 5) u v H locs ls (by omega) (by omega) hn2 hI hS (lv_sub hl [1, 2, 3, 0] rfl)
        · exact absurd hr cc
      · refine lv_tableIn (tgt := 200) hx hb dL_law_32 (by decide) (by decide) rfl (by decide) ?_
        refine lv_aload_n hx hb dL_law_200 rfl (lv_at hl 1 rfl) ?_
        refine lv_aload_n hx hb dL_law_201 rfl (lv_at hl 0 rfl) ?_
        refine lv_iload_n hx hb dL_law_202 rfl (lv_at hl 3 rfl) ?_
        refine lv_iconst (v := nI 1) hx hb dL_law_203 (by decide) ?_
        refine kx_iadd (v := nI (i + 1)) hx hb dL_law_204 (nI_add _ _) ?_
        refine kx_sld hx hb hX hbl hbA hS (by omega) (by omega) dL_law_205 ?_
        refine lx_i (cX_expel l D cI cZ ox ax _ c0 n T G K P O F Qu U (xs (i + 1)) hW (by omega) hU) ⟨hx, hb, hml, hown, hts⟩ (cwV 1 hts (lw_V q99 q100 q101 q11 q102) rfl rfl rfl (by decide +kernel) ⟨by decide, by decide⟩) hK hI hS hA rfl hl.1 rfl (Nat.le_of_ble_eq_true rfl) dL_law_206 ⟨Nat.le_of_ble_eq_true rfl, Nat.le_of_ble_eq_true rfl⟩ (fun r1 u H locs h1 hI hS => ?_)
        refine lv_aload_n hx hb dL_law_209 rfl (lv_at hl 2 rfl) ?_
        refine lv_aload_n hx hb dL_law_210 rfl (lv_at hl 0 rfl) ?_
        refine lv_iload_n hx hb dL_law_211 rfl (lv_at hl 3 rfl) ?_
        refine lv_iconst (v := nI 1) hx hb dL_law_212 (by decide) ?_
        refine kx_iadd (v := nI (i + 1)) hx hb dL_law_213 (nI_add _ _) ?_
        refine kx_sld hx hb hX hbl hbA hS (by omega) (by omega) dL_law_214 ?_
        refine lm_i (cM_expel l D cI cZ om am _ n T G K P O c0 kp (xs (i + 1)) hn) ⟨hx, hb, hml, hown, hts⟩ (cwV 1 hts (lw_V q197 q198 q199 q12 q200) rfl rfl rfl (by decide +kernel) ⟨by decide, by decide⟩) hK hI hS hA rfl hl.1 rfl (Nat.le_of_ble_eq_true rfl) dL_law_215 ⟨Nat.le_of_ble_eq_true rfl, Nat.le_of_ble_eq_true rfl⟩ (fun r2 v H locs h2 hI hS => ?_)
        obtain ⟨hr, hn2⟩ := nx_revoke (i := i) hW hc hF hU h1 h2
        refine lv_icmp_eq (tgt := 434) hx hb dL_law_218 (by decide) (fun cc => ?_) (fun cc => ?_)
        · refine lv_iinc (v := nI (i + 5)) (lv' := [(3, .int (nI (i + 5))), (0, .ref b), (1, .ref ox), (2, .ref om)]) hx hb dL_law_434 hl (k := 3) rfl (kx_inc5 _) (by decide) rfl (fun ls hl => ?_)
          refine lv_goto (tgt := 18) hx hb dL_law_437 (by decide) ?_
          exact ih (i + 5) u v H locs ls (by omega) (by omega) hn2 hI hS (lv_sub hl [1, 2, 3, 0] rfl)
        · exact absurd hr cc
      · refine lv_tableIn (tgt := 223) hx hb dL_law_32 (by decide) (by decide) rfl (by decide) ?_
        refine lv_aload_n hx hb dL_law_223 rfl (lv_at hl 1 rfl) ?_
        refine lv_aload_n hx hb dL_law_224 rfl (lv_at hl 0 rfl) ?_
        refine lv_iload_n hx hb dL_law_225 rfl (lv_at hl 3 rfl) ?_
        refine lv_iconst (v := nI 1) hx hb dL_law_226 (by decide) ?_
        refine kx_iadd (v := nI (i + 1)) hx hb dL_law_227 (nI_add _ _) ?_
        refine kx_sld hx hb hX hbl hbA hS (by omega) (by omega) dL_law_228 ?_
        refine lv_aload_n hx hb dL_law_229 rfl (lv_at hl 0 rfl) ?_
        refine lv_iload_n hx hb dL_law_230 rfl (lv_at hl 3 rfl) ?_
        refine lv_iconst (v := nI 2) hx hb dL_law_231 (by decide) ?_
        refine kx_iadd (v := nI (i + 2)) hx hb dL_law_232 (nI_add _ _) ?_
        refine kx_sld hx hb hX hbl hbA hS (by omega) (by omega) dL_law_233 ?_
        refine lx_i (cX_holds l D cI cZ ox ax _ c0 n 0 T G K P O F Qu U (xs (i + 1)) (xs (i + 2)) hn) ⟨hx, hb, hml, hown, hts⟩ (cwV 2 hts (lw_V q103 q104 q105 q11 q106) rfl rfl rfl (by decide +kernel) ⟨by decide, by decide⟩) hK hI hS hA rfl hl.1 rfl (Nat.le_of_ble_eq_true rfl) dL_law_234 ⟨Nat.le_of_ble_eq_true rfl, Nat.le_of_ble_eq_true rfl⟩ (fun r1 u H locs h1 hI hS => ?_)
        refine lv_aload_n hx hb dL_law_237 rfl (lv_at hl 2 rfl) ?_
        refine lv_aload_n hx hb dL_law_238 rfl (lv_at hl 0 rfl) ?_
        refine lv_iload_n hx hb dL_law_239 rfl (lv_at hl 3 rfl) ?_
        refine lv_iconst (v := nI 1) hx hb dL_law_240 (by decide) ?_
        refine kx_iadd (v := nI (i + 1)) hx hb dL_law_241 (nI_add _ _) ?_
        refine kx_sld hx hb hX hbl hbA hS (by omega) (by omega) dL_law_242 ?_
        refine lv_aload_n hx hb dL_law_243 rfl (lv_at hl 0 rfl) ?_
        refine lv_iload_n hx hb dL_law_244 rfl (lv_at hl 3 rfl) ?_
        refine lv_iconst (v := nI 2) hx hb dL_law_245 (by decide) ?_
        refine kx_iadd (v := nI (i + 2)) hx hb dL_law_246 (nI_add _ _) ?_
        refine kx_sld hx hb hX hbl hbA hS (by omega) (by omega) dL_law_247 ?_
        refine lm_i (cM_holds l D cI cZ om am _ n T G K P O c0 kp (xs (i + 1)) (xs (i + 2)) hn) ⟨hx, hb, hml, hown, hts⟩ (cwV 2 hts (lw_V q201 q202 q203 q12 q204) rfl rfl rfl (by decide +kernel) ⟨by decide, by decide⟩) hK hI hS hA rfl hl.1 rfl (Nat.le_of_ble_eq_true rfl) dL_law_248 ⟨Nat.le_of_ble_eq_true rfl, Nat.le_of_ble_eq_true rfl⟩ (fun r2 v H locs h2 hI hS => ?_)
        obtain ⟨hr, hn2⟩ := nx_look (i := i) hW hc hF hU h1 h2
        refine lv_icmp_eq (tgt := 434) hx hb dL_law_251 (by decide) (fun cc => ?_) (fun cc => ?_)
        · refine lv_iinc (v := nI (i + 5)) (lv' := [(3, .int (nI (i + 5))), (0, .ref b), (1, .ref ox), (2, .ref om)]) hx hb dL_law_434 hl (k := 3) rfl (kx_inc5 _) (by decide) rfl (fun ls hl => ?_)
          refine lv_goto (tgt := 18) hx hb dL_law_437 (by decide) ?_
          exact ih (i + 5) u v H locs ls (by omega) (by omega) hn2 hI hS (lv_sub hl [1, 2, 3, 0] rfl)
        · exact absurd hr cc
      · refine lv_tableIn (tgt := 256) hx hb dL_law_32 (by decide) (by decide) rfl (by decide) ?_
        refine lv_aload_n hx hb dL_law_256 rfl (lv_at hl 1 rfl) ?_
        refine lv_aload_n hx hb dL_law_257 rfl (lv_at hl 0 rfl) ?_
        refine lv_iload_n hx hb dL_law_258 rfl (lv_at hl 3 rfl) ?_
        refine lv_iconst (v := nI 1) hx hb dL_law_259 (by decide) ?_
        refine kx_iadd (v := nI (i + 1)) hx hb dL_law_260 (nI_add _ _) ?_
        refine kx_sld hx hb hX hbl hbA hS (by omega) (by omega) dL_law_261 ?_
        refine lv_aload_n hx hb dL_law_262 rfl (lv_at hl 0 rfl) ?_
        refine lv_iload_n hx hb dL_law_263 rfl (lv_at hl 3 rfl) ?_
        refine lv_iconst (v := nI 2) hx hb dL_law_264 (by decide) ?_
        refine kx_iadd (v := nI (i + 2)) hx hb dL_law_265 (nI_add _ _) ?_
        refine kx_sld hx hb hX hbl hbA hS (by omega) (by omega) dL_law_266 ?_
        refine lx_i (cX_may l D cI cZ ox ax _ c0 n 0 T G K P O F Qu U (xs (i + 1)) (xs (i + 2)) hn hF (fun j hj => hW.pos (by omega) hj)) ⟨hx, hb, hml, hown, hts⟩ (cwV 2 hts (lw_V q111 q112 q113 q11 q114) rfl rfl rfl (by decide +kernel) ⟨by decide, by decide⟩) hK hI hS hA rfl hl.1 rfl (Nat.le_of_ble_eq_true rfl) dL_law_267 ⟨Nat.le_of_ble_eq_true rfl, Nat.le_of_ble_eq_true rfl⟩ (fun r1 u H locs h1 hI hS => ?_)
        refine lv_aload_n hx hb dL_law_270 rfl (lv_at hl 2 rfl) ?_
        refine lv_aload_n hx hb dL_law_271 rfl (lv_at hl 0 rfl) ?_
        refine lv_iload_n hx hb dL_law_272 rfl (lv_at hl 3 rfl) ?_
        refine lv_iconst (v := nI 1) hx hb dL_law_273 (by decide) ?_
        refine kx_iadd (v := nI (i + 1)) hx hb dL_law_274 (nI_add _ _) ?_
        refine kx_sld hx hb hX hbl hbA hS (by omega) (by omega) dL_law_275 ?_
        refine lv_aload_n hx hb dL_law_276 rfl (lv_at hl 0 rfl) ?_
        refine lv_iload_n hx hb dL_law_277 rfl (lv_at hl 3 rfl) ?_
        refine lv_iconst (v := nI 2) hx hb dL_law_278 (by decide) ?_
        refine kx_iadd (v := nI (i + 2)) hx hb dL_law_279 (nI_add _ _) ?_
        refine kx_sld hx hb hX hbl hbA hS (by omega) (by omega) dL_law_280 ?_
        refine lm_i (cM_may l D cI cZ om am _ n T G K P O c0 kp (xs (i + 1)) (xs (i + 2)) hn) ⟨hx, hb, hml, hown, hts⟩ (cwV 2 hts (lw_V q209 q174 q175 q12 q176) rfl rfl rfl (by decide +kernel) ⟨by decide, by decide⟩) hK hI hS hA rfl hl.1 rfl (Nat.le_of_ble_eq_true rfl) dL_law_281 ⟨Nat.le_of_ble_eq_true rfl, Nat.le_of_ble_eq_true rfl⟩ (fun r2 v H locs h2 hI hS => ?_)
        obtain ⟨hr, hn2⟩ := nx_may (i := i) hW hc hU h1 h2
        refine lv_icmp_eq (tgt := 434) hx hb dL_law_284 (by decide) (fun cc => ?_) (fun cc => ?_)
        · refine lv_iinc (v := nI (i + 5)) (lv' := [(3, .int (nI (i + 5))), (0, .ref b), (1, .ref ox), (2, .ref om)]) hx hb dL_law_434 hl (k := 3) rfl (kx_inc5 _) (by decide) rfl (fun ls hl => ?_)
          refine lv_goto (tgt := 18) hx hb dL_law_437 (by decide) ?_
          exact ih (i + 5) u v H locs ls (by omega) (by omega) hn2 hI hS (lv_sub hl [1, 2, 3, 0] rfl)
        · exact absurd hr cc
      · refine lv_tableIn (tgt := 289) hx hb dL_law_32 (by decide) (by decide) rfl (by decide) ?_
        refine lv_aload_n hx hb dL_law_289 rfl (lv_at hl 1 rfl) ?_
        refine lv_aload_n hx hb dL_law_290 rfl (lv_at hl 0 rfl) ?_
        refine lv_iload_n hx hb dL_law_291 rfl (lv_at hl 3 rfl) ?_
        refine lv_iconst (v := nI 1) hx hb dL_law_292 (by decide) ?_
        refine kx_iadd (v := nI (i + 1)) hx hb dL_law_293 (nI_add _ _) ?_
        refine kx_sld hx hb hX hbl hbA hS (by omega) (by omega) dL_law_294 ?_
        refine lv_aload_n hx hb dL_law_295 rfl (lv_at hl 0 rfl) ?_
        refine lv_iload_n hx hb dL_law_296 rfl (lv_at hl 3 rfl) ?_
        refine lv_iconst (v := nI 2) hx hb dL_law_297 (by decide) ?_
        refine kx_iadd (v := nI (i + 2)) hx hb dL_law_298 (nI_add _ _) ?_
        refine kx_sld hx hb hX hbl hbA hS (by omega) (by omega) dL_law_299 ?_
        refine lx_i (cX_received l D cI cZ ox ax _ c0 n 0 T G K P O F Qu U (xs (i + 1)) (xs (i + 2)) hn) ⟨hx, hb, hml, hown, hts⟩ (cwV 2 hts (lw_V q115 q108 q109 q11 q110) rfl rfl rfl (by decide +kernel) ⟨by decide, by decide⟩) hK hI hS hA rfl hl.1 rfl (Nat.le_of_ble_eq_true rfl) dL_law_300 ⟨Nat.le_of_ble_eq_true rfl, Nat.le_of_ble_eq_true rfl⟩ (fun r1 u H locs h1 hI hS => ?_)
        refine lv_aload_n hx hb dL_law_303 rfl (lv_at hl 2 rfl) ?_
        refine lv_aload_n hx hb dL_law_304 rfl (lv_at hl 0 rfl) ?_
        refine lv_iload_n hx hb dL_law_305 rfl (lv_at hl 3 rfl) ?_
        refine lv_iconst (v := nI 1) hx hb dL_law_306 (by decide) ?_
        refine kx_iadd (v := nI (i + 1)) hx hb dL_law_307 (nI_add _ _) ?_
        refine kx_sld hx hb hX hbl hbA hS (by omega) (by omega) dL_law_308 ?_
        refine lv_aload_n hx hb dL_law_309 rfl (lv_at hl 0 rfl) ?_
        refine lv_iload_n hx hb dL_law_310 rfl (lv_at hl 3 rfl) ?_
        refine lv_iconst (v := nI 2) hx hb dL_law_311 (by decide) ?_
        refine kx_iadd (v := nI (i + 2)) hx hb dL_law_312 (nI_add _ _) ?_
        refine kx_sld hx hb hX hbl hbA hS (by omega) (by omega) dL_law_313 ?_
        refine lm_i (cM_received l D cI cZ om am _ n T G K P O c0 kp (xs (i + 1)) (xs (i + 2)) hn) ⟨hx, hb, hml, hown, hts⟩ (cwV 2 hts (lw_V q210 q206 q207 q12 q208) rfl rfl rfl (by decide +kernel) ⟨by decide, by decide⟩) hK hI hS hA rfl hl.1 rfl (Nat.le_of_ble_eq_true rfl) dL_law_314 ⟨Nat.le_of_ble_eq_true rfl, Nat.le_of_ble_eq_true rfl⟩ (fun r2 v H locs h2 hI hS => ?_)
        obtain ⟨hr, hn2⟩ := nx_look (i := i) hW hc hF hU h1 h2
        refine lv_icmp_eq (tgt := 434) hx hb dL_law_317 (by decide) (fun cc => ?_) (fun cc => ?_)
        · refine lv_iinc (v := nI (i + 5)) (lv' := [(3, .int (nI (i + 5))), (0, .ref b), (1, .ref ox), (2, .ref om)]) hx hb dL_law_434 hl (k := 3) rfl (kx_inc5 _) (by decide) rfl (fun ls hl => ?_)
          refine lv_goto (tgt := 18) hx hb dL_law_437 (by decide) ?_
          exact ih (i + 5) u v H locs ls (by omega) (by omega) hn2 hI hS (lv_sub hl [1, 2, 3, 0] rfl)
        · exact absurd hr cc
      · refine lv_tableIn (tgt := 322) hx hb dL_law_32 (by decide) (by decide) rfl (by decide) ?_
        refine lv_aload_n hx hb dL_law_322 rfl (lv_at hl 1 rfl) ?_
        refine lv_aload_n hx hb dL_law_323 rfl (lv_at hl 0 rfl) ?_
        refine lv_iload_n hx hb dL_law_324 rfl (lv_at hl 3 rfl) ?_
        refine lv_iconst (v := nI 1) hx hb dL_law_325 (by decide) ?_
        refine kx_iadd (v := nI (i + 1)) hx hb dL_law_326 (nI_add _ _) ?_
        refine kx_sld hx hb hX hbl hbA hS (by omega) (by omega) dL_law_327 ?_
        refine lv_aload_n hx hb dL_law_328 rfl (lv_at hl 0 rfl) ?_
        refine lv_iload_n hx hb dL_law_329 rfl (lv_at hl 3 rfl) ?_
        refine lv_iconst (v := nI 2) hx hb dL_law_330 (by decide) ?_
        refine kx_iadd (v := nI (i + 2)) hx hb dL_law_331 (nI_add _ _) ?_
        refine kx_sld hx hb hX hbl hbA hS (by omega) (by omega) dL_law_332 ?_
        refine lx_i (cX_given l D cI cZ ox ax _ c0 n 0 T G K P O F Qu U (xs (i + 1)) (xs (i + 2)) hn) ⟨hx, hb, hml, hown, hts⟩ (cwV 2 hts (lw_V q116 q117 q118 q11 q119) rfl rfl rfl (by decide +kernel) ⟨by decide, by decide⟩) hK hI hS hA rfl hl.1 rfl (Nat.le_of_ble_eq_true rfl) dL_law_333 ⟨Nat.le_of_ble_eq_true rfl, Nat.le_of_ble_eq_true rfl⟩ (fun r1 u H locs h1 hI hS => ?_)
        refine lv_aload_n hx hb dL_law_336 rfl (lv_at hl 2 rfl) ?_
        refine lv_aload_n hx hb dL_law_337 rfl (lv_at hl 0 rfl) ?_
        refine lv_iload_n hx hb dL_law_338 rfl (lv_at hl 3 rfl) ?_
        refine lv_iconst (v := nI 1) hx hb dL_law_339 (by decide) ?_
        refine kx_iadd (v := nI (i + 1)) hx hb dL_law_340 (nI_add _ _) ?_
        refine kx_sld hx hb hX hbl hbA hS (by omega) (by omega) dL_law_341 ?_
        refine lv_aload_n hx hb dL_law_342 rfl (lv_at hl 0 rfl) ?_
        refine lv_iload_n hx hb dL_law_343 rfl (lv_at hl 3 rfl) ?_
        refine lv_iconst (v := nI 2) hx hb dL_law_344 (by decide) ?_
        refine kx_iadd (v := nI (i + 2)) hx hb dL_law_345 (nI_add _ _) ?_
        refine kx_sld hx hb hX hbl hbA hS (by omega) (by omega) dL_law_346 ?_
        refine lm_i (cM_given l D cI cZ om am _ n T G K P O c0 kp (xs (i + 1)) (xs (i + 2)) hn) ⟨hx, hb, hml, hown, hts⟩ (cwV 2 hts (lw_V q211 q212 q213 q12 q214) rfl rfl rfl (by decide +kernel) ⟨by decide, by decide⟩) hK hI hS hA rfl hl.1 rfl (Nat.le_of_ble_eq_true rfl) dL_law_347 ⟨Nat.le_of_ble_eq_true rfl, Nat.le_of_ble_eq_true rfl⟩ (fun r2 v H locs h2 hI hS => ?_)
        obtain ⟨hr, hn2⟩ := nx_look (i := i) hW hc hF hU h1 h2
        refine lv_icmp_eq (tgt := 434) hx hb dL_law_350 (by decide) (fun cc => ?_) (fun cc => ?_)
        · refine lv_iinc (v := nI (i + 5)) (lv' := [(3, .int (nI (i + 5))), (0, .ref b), (1, .ref ox), (2, .ref om)]) hx hb dL_law_434 hl (k := 3) rfl (kx_inc5 _) (by decide) rfl (fun ls hl => ?_)
          refine lv_goto (tgt := 18) hx hb dL_law_437 (by decide) ?_
          exact ih (i + 5) u v H locs ls (by omega) (by omega) hn2 hI hS (lv_sub hl [1, 2, 3, 0] rfl)
        · exact absurd hr cc
      · refine lv_tableIn (tgt := 355) hx hb dL_law_32 (by decide) (by decide) rfl (by decide) ?_
        refine lv_aload_n hx hb dL_law_355 rfl (lv_at hl 1 rfl) ?_
        refine lv_aload_n hx hb dL_law_356 rfl (lv_at hl 0 rfl) ?_
        refine lv_iload_n hx hb dL_law_357 rfl (lv_at hl 3 rfl) ?_
        refine lv_iconst (v := nI 1) hx hb dL_law_358 (by decide) ?_
        refine kx_iadd (v := nI (i + 1)) hx hb dL_law_359 (nI_add _ _) ?_
        refine kx_sld hx hb hX hbl hbA hS (by omega) (by omega) dL_law_360 ?_
        refine lx_i (cX_stands l D cI cZ ox ax _ c0 n 0 T G K P O F Qu U (xs (i + 1)) hW) ⟨hx, hb, hml, hown, hts⟩ (cwV 1 hts (lw_V q120 q121 q122 q11 q123) rfl rfl rfl (by decide +kernel) ⟨by decide, by decide⟩) hK hI hS hA rfl hl.1 rfl (Nat.le_of_ble_eq_true rfl) dL_law_361 ⟨Nat.le_of_ble_eq_true rfl, Nat.le_of_ble_eq_true rfl⟩ (fun r1 u H locs h1 hI hS => ?_)
        refine lv_aload_n hx hb dL_law_364 rfl (lv_at hl 2 rfl) ?_
        refine lv_aload_n hx hb dL_law_365 rfl (lv_at hl 0 rfl) ?_
        refine lv_iload_n hx hb dL_law_366 rfl (lv_at hl 3 rfl) ?_
        refine lv_iconst (v := nI 1) hx hb dL_law_367 (by decide) ?_
        refine kx_iadd (v := nI (i + 1)) hx hb dL_law_368 (nI_add _ _) ?_
        refine kx_sld hx hb hX hbl hbA hS (by omega) (by omega) dL_law_369 ?_
        refine lm_i (cM_stands l D cI cZ om am _ n T G K P O c0 kp (xs (i + 1)) hn) ⟨hx, hb, hml, hown, hts⟩ (cwV 1 hts (lw_V q215 q216 q217 q12 q218) rfl rfl rfl (by decide +kernel) ⟨by decide, by decide⟩) hK hI hS hA rfl hl.1 rfl (Nat.le_of_ble_eq_true rfl) dL_law_370 ⟨Nat.le_of_ble_eq_true rfl, Nat.le_of_ble_eq_true rfl⟩ (fun r2 v H locs h2 hI hS => ?_)
        obtain ⟨hr, hn2⟩ := nx_look (i := i) hW hc hF hU h1 h2
        refine lv_icmp_eq (tgt := 434) hx hb dL_law_373 (by decide) (fun cc => ?_) (fun cc => ?_)
        · refine lv_iinc (v := nI (i + 5)) (lv' := [(3, .int (nI (i + 5))), (0, .ref b), (1, .ref ox), (2, .ref om)]) hx hb dL_law_434 hl (k := 3) rfl (kx_inc5 _) (by decide) rfl (fun ls hl => ?_)
          refine lv_goto (tgt := 18) hx hb dL_law_437 (by decide) ?_
          exact ih (i + 5) u v H locs ls (by omega) (by omega) hn2 hI hS (lv_sub hl [1, 2, 3, 0] rfl)
        · exact absurd hr cc
      · refine lv_tableIn (tgt := 378) hx hb dL_law_32 (by decide) (by decide) rfl (by decide) ?_
        refine lv_aload_n hx hb dL_law_378 rfl (lv_at hl 1 rfl) ?_
        refine lv_aload_n hx hb dL_law_379 rfl (lv_at hl 0 rfl) ?_
        refine lv_iload_n hx hb dL_law_380 rfl (lv_at hl 3 rfl) ?_
        refine lv_iconst (v := nI 1) hx hb dL_law_381 (by decide) ?_
        refine kx_iadd (v := nI (i + 1)) hx hb dL_law_382 (nI_add _ _) ?_
        refine kx_sld hx hb hX hbl hbA hS (by omega) (by omega) dL_law_383 ?_
        refine lv_aload_n hx hb dL_law_384 rfl (lv_at hl 0 rfl) ?_
        refine lv_iload_n hx hb dL_law_385 rfl (lv_at hl 3 rfl) ?_
        refine lv_iconst (v := nI 2) hx hb dL_law_386 (by decide) ?_
        refine kx_iadd (v := nI (i + 2)) hx hb dL_law_387 (nI_add _ _) ?_
        refine kx_sld hx hb hX hbl hbA hS (by omega) (by omega) dL_law_388 ?_
        refine lv_aload_n hx hb dL_law_389 rfl (lv_at hl 0 rfl) ?_
        refine lv_iload_n hx hb dL_law_390 rfl (lv_at hl 3 rfl) ?_
        refine lv_iconst (v := nI 3) hx hb dL_law_391 (by decide) ?_
        refine kx_iadd (v := nI (i + 3)) hx hb dL_law_392 (nI_add _ _) ?_
        refine kx_sld hx hb hX hbl hbA hS (by omega) (by omega) dL_law_393 ?_
        refine lx_i (cX_reach l D cI cZ ox ax _ c0 n T G K P O F Qu U (xs (i + 1)) (xs (i + 2)) (xs (i + 3)) hW (by omega) hU) ⟨hx, hb, hml, hown, hts⟩ (cwV 3 hts (lw_V q124 q125 q126 q11 q127) rfl rfl rfl (by decide +kernel) ⟨by decide, by decide⟩) hK hI hS hA rfl hl.1 rfl (Nat.le_of_ble_eq_true rfl) dL_law_394 ⟨Nat.le_of_ble_eq_true rfl, Nat.le_of_ble_eq_true rfl⟩ (fun r1 u H locs h1 hI hS => ?_)
        refine lv_aload_n hx hb dL_law_397 rfl (lv_at hl 2 rfl) ?_
        refine lv_aload_n hx hb dL_law_398 rfl (lv_at hl 0 rfl) ?_
        refine lv_iload_n hx hb dL_law_399 rfl (lv_at hl 3 rfl) ?_
        refine lv_iconst (v := nI 1) hx hb dL_law_400 (by decide) ?_
        refine kx_iadd (v := nI (i + 1)) hx hb dL_law_401 (nI_add _ _) ?_
        refine kx_sld hx hb hX hbl hbA hS (by omega) (by omega) dL_law_402 ?_
        refine lv_aload_n hx hb dL_law_403 rfl (lv_at hl 0 rfl) ?_
        refine lv_iload_n hx hb dL_law_404 rfl (lv_at hl 3 rfl) ?_
        refine lv_iconst (v := nI 2) hx hb dL_law_405 (by decide) ?_
        refine kx_iadd (v := nI (i + 2)) hx hb dL_law_406 (nI_add _ _) ?_
        refine kx_sld hx hb hX hbl hbA hS (by omega) (by omega) dL_law_407 ?_
        refine lv_aload_n hx hb dL_law_408 rfl (lv_at hl 0 rfl) ?_
        refine lv_iload_n hx hb dL_law_409 rfl (lv_at hl 3 rfl) ?_
        refine lv_iconst (v := nI 3) hx hb dL_law_410 (by decide) ?_
        refine kx_iadd (v := nI (i + 3)) hx hb dL_law_411 (nI_add _ _) ?_
        refine kx_sld hx hb hX hbl hbA hS (by omega) (by omega) dL_law_412 ?_
        refine lm_i (cM_reach l D cI cZ om am _ n T G K P O c0 kp (xs (i + 1)) (xs (i + 2)) (xs (i + 3)) hn) ⟨hx, hb, hml, hown, hts⟩ (cwV 3 hts (lw_V q219 q182 q183 q12 q184) rfl rfl rfl (by decide +kernel) ⟨by decide, by decide⟩) hK hI hS hA rfl hl.1 rfl (Nat.le_of_ble_eq_true rfl) dL_law_413 ⟨Nat.le_of_ble_eq_true rfl, Nat.le_of_ble_eq_true rfl⟩ (fun r2 v H locs h2 hI hS => ?_)
        obtain ⟨hr, hn2⟩ := nx_reach (i := i) hW hc hF hU h1 h2
        refine lv_icmp_eq (tgt := 434) hx hb dL_law_416 (by decide) (fun cc => ?_) (fun cc => ?_)
        · refine lv_iinc (v := nI (i + 5)) (lv' := [(3, .int (nI (i + 5))), (0, .ref b), (1, .ref ox), (2, .ref om)]) hx hb dL_law_434 hl (k := 3) rfl (kx_inc5 _) (by decide) rfl (fun ls hl => ?_)
          refine lv_goto (tgt := 18) hx hb dL_law_437 (by decide) ?_
          exact ih (i + 5) u v H locs ls (by omega) (by omega) hn2 hI hS (lv_sub hl [1, 2, 3, 0] rfl)
        · exact absurd hr cc
      · refine lv_tableIn (tgt := 421) hx hb dL_law_32 (by decide) (by decide) rfl (by decide) ?_
        refine lv_aload_n hx hb dL_law_421 rfl (lv_at hl 1 rfl) ?_
        refine lx_i (cX_standing l D cI cZ ox ax _ c0 n 0 T G K P O F Qu U) ⟨hx, hb, hml, hown, hts⟩ (cwV 0 hts (lw_V q128 q129 q130 q11 q131) rfl rfl rfl (by decide +kernel) ⟨by decide, by decide⟩) hK hI hS hA rfl hl.1 rfl (Nat.le_of_ble_eq_true rfl) dL_law_422 ⟨Nat.le_of_ble_eq_true rfl, Nat.le_of_ble_eq_true rfl⟩ (fun r1 u H locs h1 hI hS => ?_)
        refine lv_aload_n hx hb dL_law_425 rfl (lv_at hl 2 rfl) ?_
        refine lm_i (cM_standing l D cI cZ om am _ n T G K P O c0 kp) ⟨hx, hb, hml, hown, hts⟩ (cwV 0 hts (lw_V q220 q221 q222 q12 q223) rfl rfl rfl (by decide +kernel) ⟨by decide, by decide⟩) hK hI hS hA rfl hl.1 rfl (Nat.le_of_ble_eq_true rfl) dL_law_426 ⟨Nat.le_of_ble_eq_true rfl, Nat.le_of_ble_eq_true rfl⟩ (fun r2 v H locs h2 hI hS => ?_)
        obtain ⟨hr, hn2⟩ := nx_look (i := i) hW hc hF hU h1 h2
        refine lv_icmp_eq (tgt := 434) hx hb dL_law_429 (by decide) (fun cc => ?_) (fun cc => ?_)
        · refine lv_iinc (v := nI (i + 5)) (lv' := [(3, .int (nI (i + 5))), (0, .ref b), (1, .ref ox), (2, .ref om)]) hx hb dL_law_434 hl (k := 3) rfl (kx_inc5 _) (by decide) rfl (fun ls hl => ?_)
          refine lv_goto (tgt := 18) hx hb dL_law_437 (by decide) ?_
          exact ih (i + 5) u v H locs ls (by omega) (by omega) hn2 hI hS (lv_sub hl [1, 2, 3, 0] rfl)
        · exact absurd hr cc
      · refine lv_tableOut (tgt := 434) hx hb dL_law_32 (nI_out hj.1 hj.2) (by decide) ?_
        refine lv_iinc (v := nI (i + 5)) (lv' := [(3, .int (nI (i + 5))), (0, .ref b), (1, .ref ox), (2, .ref om)]) hx hb dL_law_434 hl (k := 3) rfl (kx_inc5 _) (by decide) rfl (fun ls hl => ?_)
        refine lv_goto (tgt := 18) hx hb dL_law_437 (by decide) ?_
        exact ih (i + 5) _ _ H locs ls (by omega) (by omega) (nx_mono hnx (by omega)) hI hS (lv_sub hl [1, 2, 3, 0] rfl)
end
section
/-! the law, from its entry -/
set_option maxHeartbeats 4000000 in
set_option maxRecDepth 100000 in
theorem whole_start {p : Program} {e : Env} {s : State} {m : MethodId} {below : List Frame} {meth : Method} {c : Code} (l : Launch) {b L : Nat} {xs : Nat → Int32} (hL : L ≤ 320) (C0 : lw_At p s m meth c b L xs) : W p l e room_1 s m #[Value.ref b] below meth c s.heap [] 0 0 (lw_Z below #[Value.ref b] s) (entryFrame m ([Value.ref b] : List Value).toArray 4) := by
  obtain ⟨hx, hb, hr0, hml, hown, hts0, hX, hbl, hlocks, hgv⟩ := id C0
  have hts : ∀ w ∈ lw_all, w.before #[Value.ref b] s = true := fun w h => hts0 w (lw_all_tbl h)
  have hA : ∀ q : Nat, s.heap.size ≤ q → (fun q : Nat => s.heap.size ≤ q) q := fun _ h => h
  obtain ⟨c0_, iS0, hKn0⟩ := u_known (C := RX0) (T := TX0) (N := 11) (n := 11) hts in_X0 (hts _ q14)
  obtain ⟨c1_, iS1, hKn1⟩ := u_known (C := RX1) (T := TX1) (N := 8) (n := 8) hts in_X1 (hts _ q133)
  obtain ⟨dC, dI, hKc⟩ : ∃ (dC : Nat → ClassId) (dI : Nat → Nat → Nat), ∀ (k : Nat) (q : vw_C), vwCl[k]? = some q → u_Kn s q.1 q.2.1 q.2.2 (dC k) (dI k) := by
    refine ⟨fun k => if k = 0 then c0_ else c1_, fun k => if k = 0 then iS0 else iS1, ?_⟩
    intro k q hq
    match k, hq with
    | 0, hq => cases hq; exact hKn0
    | 1, hq => cases hq; exact hKn1
    | k + 2, hq => simp [vwCl] at hq
  obtain ⟨D, hDe⟩ : ∃ D : va_G, D = (dC, dI) := ⟨_, rfl⟩
  have hS : va_S (fun q : Nat => s.heap.size ≤ q) s.heap s.heap [] := va_S.rf
  have hK : va_K D vwCl [] s := by rw [hDe]; exact ⟨hKc, fun k q h => by simp at h⟩
  have hP : va_P D vwCl [] s.heap := fun k q h => by simp at h
  have hD : va_D (fun q : Nat => s.heap.size ≤ q) [] := ⟨fun i j p q h => by simp at h, fun k q h => by simp at h⟩
  have hl := lv_entry ([.ref b]) (n := 4) (Nat.le_of_ble_eq_true rfl)
  rw [lg_entry_eq]
  generalize (lg_sl ([.ref b]) ++ List.replicate (4 - (lg_sl ([.ref b])).length) Slot.unset).toArray = ls at hl ⊢
  have hl : lv_has ls 4 [(0, .ref b)] := hl
  refine va_new (ci := 0) (fs := [.int (nI 0), .int (nI 0), .null, .null, .null, .null, .null, .null, .int (nI 0), .null, .null]) (C := RX0) (T := TX0) (N := 11) hx hb hts in_X0 tyX0 tyX0_ok hown (hts _ q13) (hts _ q14) (hts _ q11) hK hP hD hS hA rfl (fun j hj => by rcases (show j = 0 ∨ j = 1 ∨ j = 2 ∨ j = 3 ∨ j = 4 ∨ j = 5 ∨ j = 6 ∨ j = 7 ∨ j = 8 ∨ j = 9 ∨ j = 10 by omega) with rfl | rfl | rfl | rfl | rfl | rfl | rfl | rfl | rfl | rfl | rfl <;> rfl) (Nat.le_of_ble_eq_true rfl) (Nat.le_of_ble_eq_true rfl) dL_law_0 (fun ox H hP hD hS => ?_)
  have hP : va_P D vwCl (gx_0 ox) H := hP
  have hD : va_D (fun q : Nat => s.heap.size ≤ q) (gx_0 ox) := hD
  refine lv_dup hx hb dL_law_3 rfl ?_
  refine ca_n (wr := []) (cX_init l D ox H.size) ⟨hx, hb, hml, hown, hts⟩ (cwI 0 hts (lw_meth q17) rfl rfl rfl (hts _ q11) (hts _ q15) (hts _ q16) rfl (by decide +kernel) ⟨Nat.le_of_ble_eq_true rfl, Nat.le_of_ble_eq_true rfl⟩) hK hP hD (fun k q h => by simp at h) (fun i j p q _ h => by simp at h) hS hA hl.1 (Nat.le_of_ble_eq_true rfl) dL_law_4 ⟨Nat.le_of_ble_eq_true rfl, Nat.le_of_ble_eq_true rfl⟩ (fun u H locs hPX hDX hKX _ _ hS => ?_)
  obtain ⟨cI, cZ, ax⟩ := u
  have hPX : va_P D vwCl (gx_w cI cZ ox ax gx_u0) H := hPX
  have hDX : va_D (fun q : Nat => s.heap.size ≤ q) (gx_w cI cZ ox ax gx_u0) := hDX
  have hKX : va_K D vwCl (ty_ cI cZ) s := hKX
  refine lv_astore_n (lv' := [(1, .ref ox), (0, .ref b)]) hx hb dL_law_7 rfl hl (by decide) rfl (fun ls hl => ?_)
  refine va_new (ci := 1) (fs := [.int (nI 0), .null, .null, .null, .null, .null, .int (nI 0), .null]) (C := RX1) (T := TX1) (N := 8) hx hb hts in_X1 tyX1 tyX1_ok hown (hts _ q132) (hts _ q133) (hts _ q12) hKX hPX hDX hS hA rfl (fun j hj => by rcases (show j = 0 ∨ j = 1 ∨ j = 2 ∨ j = 3 ∨ j = 4 ∨ j = 5 ∨ j = 6 ∨ j = 7 by omega) with rfl | rfl | rfl | rfl | rfl | rfl | rfl | rfl <;> rfl) (Nat.le_of_ble_eq_true rfl) (Nat.le_of_ble_eq_true rfl) dL_law_8 (fun om H hP hD hS => ?_)
  have hPX := P_left hP
  have hDX := D_left hD
  have hPM : va_P D vwCl (gm_0 om) H := P_right hP
  have hDM : va_D (fun q : Nat => s.heap.size ≤ q) (gm_0 om) := D_right hD
  have hap : ap_ (gm_0 om) (gx_w cI cZ ox ax gx_u0) := (D_ap hD).symm
  refine lv_dup hx hb dL_law_11 rfl ?_
  refine ca_n (wr := gx_w cI cZ ox ax gx_u0) (cM_init l D om H.size) ⟨hx, hb, hml, hown, hts⟩ (cwI 0 hts (lw_meth q136) rfl rfl rfl (hts _ q12) (hts _ q134) (hts _ q135) rfl (by decide +kernel) ⟨Nat.le_of_ble_eq_true rfl, Nat.le_of_ble_eq_true rfl⟩) hKX hPM hDM hPX hap hS hA hl.1 (Nat.le_of_ble_eq_true rfl) dL_law_12 ⟨Nat.le_of_ble_eq_true rfl, Nat.le_of_ble_eq_true rfl⟩ (fun u H locs hPM hDM hKM hPX hap hS => ?_)
  obtain ⟨cI2, cZ2, am⟩ := u
  have hKM : va_K D vwCl (ty_ cI2 cZ2) s := hKM
  obtain rfl : cI = cI2 := ra_int (hKX.2 0 _ rfl).2 (hKM.2 0 _ rfl).2
  obtain rfl : cZ = cZ2 := ra_boolean (hKX.2 1 _ rfl).2 (hKM.2 1 _ rfl).2
  have hPM : va_P D vwCl (gm_w cI cZ om am gm_u0) H := hPM
  have hDM : va_D (fun q : Nat => s.heap.size ≤ q) (gm_w cI cZ om am gm_u0) := hDM
  refine lv_astore_n (lv' := [(2, .ref om), (1, .ref ox), (0, .ref b)]) hx hb dL_law_15 rfl hl (by decide) rfl (fun ls hl => ?_)
  refine lv_iconst (v := nI 0) hx hb dL_law_16 (by decide) ?_
  refine lv_istore_n (lv' := [(3, .int (nI 0)), (2, .ref om), (1, .ref ox), (0, .ref b)]) hx hb dL_law_17 rfl hl (by decide) rfl (fun ls hl => ?_)
  refine W.widen (k := 16) (n := 643) (Nat.le_of_ble_eq_true rfl) (Nat.le_of_ble_eq_true rfl) ?_
  exact law_loop hL C0 hKX 331 0 gx_u0 gm_u0 H locs ls (by omega) (by omega) nx_0 ⟨hPX, hDX, hPM, hDM, hap.symm⟩ hS (lv_sub hl [3, 2, 1, 0] rfl)
end
section
set_option maxRecDepth 100000

set_option maxHeartbeats 4000000 in
theorem lw_walk (l : Launch) (b : Addr) (xs : List Int32) : MetFree l x (headSpec (Jvm.Cond.code x code maxLocals ret :: tables_1) room_1) (lw_P b xs) (fun _ _ _ _ _ => True) lw_Q := by
  refine MetFree.of_bodyS (code := code) (maxLocals := maxLocals) (ret := ret) (by decide) ?_ ?_
  · intro args s m h hn
    obtain ⟨meth, c, h1, h2, h3, h4, h5, h6, -, -⟩ := Cond.code_spec hn (atoms_spec (ws := Jvm.Cond.code x code maxLocals ret :: tables_1) h _ List.mem_cons_self)
    exact ⟨meth, c, h1, h2, h3, h4, h5, h6⟩
  · intro p e s m args below meth c s₁ B hml0 hP _
    obtain ⟨rfl, hx, hbd, hgv⟩ := hP
    obtain ⟨scr, harrAt, hlist, hof, hsmall⟩ := hx
    obtain ⟨hcb, hkn, -, -⟩ := State.arrayAt?_spec harrAt
    have hown : s.vm.findClass R_law = some m.cls := findClass_of_methodNamed B.named
    have hts0 : ∀ c ∈ (Jvm.Cond.code x code maxLocals ret :: tables_1), c.before #[Value.ref b] s = true := atoms_spec (ws := Jvm.Cond.code x code maxLocals ret :: tables_1) B.pre
    have hts : ∀ w ∈ lw_tbl, w.before #[Value.ref b] s = true := k2_hts_sels lw_privs (fun w hw => hts0 w (List.mem_cons_of_mem _ hw)) lw_privs_ok
    have hml : c.maxLocals = 4 := B.maxLocals_eq (hts0 _ List.mem_cons_self)
    have X₀ : Stand p l e room_1 s m #[Value.ref b] below meth c s₁ [] 0 0 := Stand.of_body B
    have hh0 : s₁.heap = s.heap := by rw [B.state]; rfl
    have hsz : scr.slots.size = xs.length := by rw [← Array.length_toList, hlist, List.length_map]
    have hval : ∀ j : Nat, j < xs.length → scr.slots[j]? = some (.int (xs.getD j 0)) := fun j hj => by
      rw [← Array.getElem?_toList, hlist]
      simp [hj]
    have hbl : b < s.heap.size := (Array.getElem?_eq_some_iff.mp hcb).1
    have hX : va_X b xs.length (fun j => xs.getD j 0) s s.heap := ⟨scr, hcb, hof, hkn, hsz, hval⟩
    have K : W p l e room_1 s m #[Value.ref b] below meth c s₁.heap [] 0 0 (lw_Z below #[Value.ref b] s) (entryFrame m ([Value.ref b] : List Value).toArray 4) := by
      rw [hh0]
      exact whole_start l hbd ⟨B.exec, B.bytes, B.returns, hml, hown, hts, hX, hbl, B.notSynchronized, hgv⟩
    obtain ⟨t, a1, o, b1, b2, b3⟩ := K s₁ rfl X₀
    exact ⟨t, o, a1, b1, b2, b3⟩
theorem lw_pre_spec {args : Array Value} {s : State} (h : (Jvm.Cond.and given_1 narrow_1).before args s = true) (hr : rest_1_c.before args s = true) : ∃ (b : Addr) (xs : List Int32), lw_P b xs args s := by
  have hs := flat_of_before _ h
  have hq := flat_of_before _ hr
  have hc : (Cond.count 1).before args s = true := hs _ (by decide +kernel)
  have harr : (Cond.arrayOf (.arg 0) .int).before args s = true := hs _ (by decide +kernel)
  have hle : (Cond.le (.length (.arg 0)) (.int 320)).before args s = true := hs _ (by decide +kernel)
  have hlen : (Cond.isInt (.length (.arg 0))).before args s = true := hq _ (by decide +kernel)
  have hall : (Cond.all (.arg 0) (.isInt (.elem (.arg 0) (.index 0)))).before args s = true := hq _ (by decide +kernel)
  obtain ⟨b, xs, hb, hx⟩ := State.ints_of_pre rfl harr hlen hall
  have hsm : xs.length < 2 ^ 31 := hx.choose_spec.2.2.2
  have hev : (Term.length (.arg 0)).eval args s none [] s = some (.int xs.length.toInt32) := hx.length_eval hb
  have hv := Cond.le_ints hev (show (Term.int 320).eval args s none [] s = some (.int 320) from rfl)
  have hd : xs.length.toInt32 ≤ 320 := by
    simpa [Cond.before, Cond.holds, hv] using hle
  have hN : xs.length ≤ 320 := (Int32.ofNat_le_ofNat hsm (by decide)).mp (show Int32.ofNat xs.length ≤ Int32.ofNat 320 from hd)
  exact ⟨b, xs, Cond.one_arg hc (show args[0]? = some (.ref b) from hb), hx, hN, h⟩
theorem lw_comes (l : Launch) : Comes l x (Jvm.Cond.code x code maxLocals ret :: tables_1) room_1 (fun tb e args s => Calls_1 tb e args s ∧ rest_1 tb e args s ∧ Pre_1 tb e args s)
    (fun _ _ args s o t => lw_Q args s o t) := by
  intro p e ha hc hk s m args below hf hfit hheap happ hpre
  obtain ⟨b, xs, hP⟩ := lw_pre_spec hpre.2.2 hpre.2.1
  obtain ⟨k, o, h1, h2, h3, hQ⟩ := lw_walk l b xs p e ha hc hk s m args below hf ((Spec.applies_iff_loose hf).mp happ).1 hP trivial
  exact ⟨k, o, h1, h2, h3, hQ⟩
theorem lw_frame {s t : State} {o : Outcome} {args : Array Value} (h : Framed s o t [] 600000 7290000) :
    Framed s o t (fieldLocs frame_1_writes args s ++ arrayLocs frame_1_arrays args s ++ staticLocs frame_1_statics s) 600000 7290000 := h
theorem lw_limb (L : Cond) (hL : ∀ (args : Array Value) (s t : State), L.after args s (.returned (some (.int 1))) t = true) :
    ArmFor flags0 classFile x code maxLocals ret World_1 tables_1 room_1 Calls_1 rest_1 Pre_1
      (fun tb e a s o t => postC L tb e a s o t ∧ Framed s o t (fieldLocs frame_1_writes a s ++ arrayLocs frame_1_arrays a s ++ staticLocs frame_1_statics s) 600000 7290000) := by
  intro l _ _ _ p e ha hc hk s m args below hf hfit hheap happ hpre
  obtain ⟨k, o, h1, h2, h3, rfl, hF⟩ := lw_comes l p e ha hc hk s m args below hf hfit hheap happ hpre
  exact ⟨k, _, h1, h2, h3, hL args s _, lw_frame hF⟩
theorem i_vc : Claimed_1_1 ∧ Claimed_1_2 := ⟨lw_limb limb_1_1 (fun args s t => by simp [limb_1_1, Cond.after, Cond.holds, Cond.value]), lw_limb limb_1_2 (fun args s t => Cond.after_iff.mpr (by
  first | (rw [show limb_1_2 = Cond.eq .result (.int 1) from rfl, Cond.eq_ints (x := 1) (y := 1) rfl rfl]; simp; done) | (simp [limb_1_2, Cond.value, Term.eval]; done)))⟩
end
