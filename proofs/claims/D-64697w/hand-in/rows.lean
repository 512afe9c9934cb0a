section
/-! the tables' words (the skeleton's PART A) -/
/-- a private method of a class that the tables say can be made, by its rows of tables_1 -/
def lw_okq (q : MethodName × Nat) : Prop := (q.1.cls ≠ "java/lang/invoke/MethodHandle" ∧ q.1.cls ≠ "java/lang/invoke/VarHandle") ∧ Cond.instantiable q.1.cls q.2 ∈ tables_1 ∧ Cond.privateMethod q.1 ∈ tables_1 ∧ Cond.instanceMethod q.1 ∈ tables_1
set_option maxRecDepth 100000
theorem lw_t1 {w : Cond} (h : w ∈ tables_1_1) : w ∈ tables_1 := List.mem_append_left _ h
theorem lw_t2 {w : Cond} (h : w ∈ tables_1_2) : w ∈ tables_1 := List.mem_append_right _ h
theorem lw_p0 : lw_okq (⟨"ClosureDesk", "has", "(I)Z"⟩, 8) := ⟨⟨by decide +kernel, by decide +kernel⟩, lw_t1 (List.mem_of_getElem? (i := 4) rfl), lw_t1 (List.mem_of_getElem? (i := 47) rfl), lw_t1 (List.mem_of_getElem? (i := 48) rfl)⟩
theorem lw_p1 : lw_okq (⟨"ClosureDesk", "askPlainly", "()V"⟩, 8) := ⟨⟨by decide +kernel, by decide +kernel⟩, lw_t1 (List.mem_of_getElem? (i := 4) rfl), lw_t1 (List.mem_of_getElem? (i := 82) rfl), lw_t1 (List.mem_of_getElem? (i := 83) rfl)⟩
theorem lw_p2 : lw_okq (⟨"ClosureDesk", "solve", "()I"⟩, 8) := ⟨⟨by decide +kernel, by decide +kernel⟩, lw_t1 (List.mem_of_getElem? (i := 4) rfl), lw_t1 (List.mem_of_getElem? (i := 86) rfl), lw_t1 (List.mem_of_getElem? (i := 87) rfl)⟩
theorem lw_p3 : lw_okq (⟨"ClosureDesk", "spread", "()Z"⟩, 8) := ⟨⟨by decide +kernel, by decide +kernel⟩, lw_t1 (List.mem_of_getElem? (i := 4) rfl), lw_t1 (List.mem_of_getElem? (i := 91) rfl), lw_t1 (List.mem_of_getElem? (i := 92) rfl)⟩
theorem lw_p4 : lw_okq (⟨"ClosureDesk", "push", "()I"⟩, 8) := ⟨⟨by decide +kernel, by decide +kernel⟩, lw_t1 (List.mem_of_getElem? (i := 4) rfl), lw_t1 (List.mem_of_getElem? (i := 95) rfl), lw_t1 (List.mem_of_getElem? (i := 96) rfl)⟩
theorem lw_p5 : lw_okq (⟨"ClosureDesk", "apart", "()I"⟩, 8) := ⟨⟨by decide +kernel, by decide +kernel⟩, lw_t1 (List.mem_of_getElem? (i := 4) rfl), lw_t1 (List.mem_of_getElem? (i := 107) rfl), lw_t1 (List.mem_of_getElem? (i := 108) rfl)⟩
theorem lw_p6 : lw_okq (⟨"ClosureDesk", "worthWith", "(I)I"⟩, 8) := ⟨⟨by decide +kernel, by decide +kernel⟩, lw_t1 (List.mem_of_getElem? (i := 4) rfl), lw_t1 (List.mem_of_getElem? (i := 115) rfl), lw_t1 (List.mem_of_getElem? (i := 116) rfl)⟩
theorem lw_p7 : lw_okq (⟨"ClosureDesk", "worthWithout", "(I)I"⟩, 8) := ⟨⟨by decide +kernel, by decide +kernel⟩, lw_t1 (List.mem_of_getElem? (i := 4) rfl), lw_t1 (List.mem_of_getElem? (i := 124) rfl), lw_t1 (List.mem_of_getElem? (i := 125) rfl)⟩
theorem lw_p8 : lw_okq (⟨"ClosureDesk", "stays", "(II)Z"⟩, 8) := ⟨⟨by decide +kernel, by decide +kernel⟩, lw_t1 (List.mem_of_getElem? (i := 4) rfl), lw_t1 (List.mem_of_getElem? (i := 142) rfl), lw_t1 (List.mem_of_getElem? (i := 143) rfl)⟩
theorem lw_p9 : lw_okq (⟨"ClosureDeskModel", "fits", "(I)Z"⟩, 3) := ⟨⟨by decide +kernel, by decide +kernel⟩, lw_t1 (List.mem_of_getElem? (i := 146) rfl), lw_t1 (List.mem_of_getElem? (i := 167) rfl), lw_t1 (List.mem_of_getElem? (i := 168) rfl)⟩
theorem lw_p10 : lw_okq (⟨"ClosureDeskModel", "is", "(I)Z"⟩, 3) := ⟨⟨by decide +kernel, by decide +kernel⟩, lw_t1 (List.mem_of_getElem? (i := 146) rfl), lw_t1 (List.mem_of_getElem? (i := 175) rfl), lw_t1 (List.mem_of_getElem? (i := 176) rfl)⟩
theorem lw_p11 : lw_okq (⟨"ClosureDeskModel", "greatest", "(II)I"⟩, 3) := ⟨⟨by decide +kernel, by decide +kernel⟩, lw_t1 (List.mem_of_getElem? (i := 146) rfl), lw_t1 (List.mem_of_getElem? (i := 205) rfl), lw_t1 (List.mem_of_getElem? (i := 206) rfl)⟩
theorem lw_p12 : lw_okq (⟨"ClosureDeskModel", "sum", "(I)I"⟩, 3) := ⟨⟨by decide +kernel, by decide +kernel⟩, lw_t1 (List.mem_of_getElem? (i := 146) rfl), lw_t1 (List.mem_of_getElem? (i := 210) rfl), lw_t1 (List.mem_of_getElem? (i := 211) rfl)⟩
def lw_privs_1 : List (MethodName × Nat) := [(⟨"ClosureDesk", "has", "(I)Z"⟩, 8), (⟨"ClosureDesk", "askPlainly", "()V"⟩, 8), (⟨"ClosureDesk", "solve", "()I"⟩, 8), (⟨"ClosureDesk", "spread", "()Z"⟩, 8), (⟨"ClosureDesk", "push", "()I"⟩, 8), (⟨"ClosureDesk", "apart", "()I"⟩, 8), (⟨"ClosureDesk", "worthWith", "(I)I"⟩, 8), (⟨"ClosureDesk", "worthWithout", "(I)I"⟩, 8), (⟨"ClosureDesk", "stays", "(II)Z"⟩, 8), (⟨"ClosureDeskModel", "fits", "(I)Z"⟩, 3), (⟨"ClosureDeskModel", "is", "(I)Z"⟩, 3), (⟨"ClosureDeskModel", "greatest", "(II)I"⟩, 3), (⟨"ClosureDeskModel", "sum", "(I)I"⟩, 3)]
theorem lw_r1 : ∀ q ∈ lw_privs_1, lw_okq q := List.forall_mem_cons.mpr ⟨lw_p0, List.forall_mem_cons.mpr ⟨lw_p1, List.forall_mem_cons.mpr ⟨lw_p2, List.forall_mem_cons.mpr ⟨lw_p3, List.forall_mem_cons.mpr ⟨lw_p4, List.forall_mem_cons.mpr ⟨lw_p5, List.forall_mem_cons.mpr ⟨lw_p6, List.forall_mem_cons.mpr ⟨lw_p7, List.forall_mem_cons.mpr ⟨lw_p8, List.forall_mem_cons.mpr ⟨lw_p9, List.forall_mem_cons.mpr ⟨lw_p10, List.forall_mem_cons.mpr ⟨lw_p11, List.forall_mem_cons.mpr ⟨lw_p12, fun _ h => absurd h List.not_mem_nil⟩⟩⟩⟩⟩⟩⟩⟩⟩⟩⟩⟩⟩
def lw_privs : List (MethodName × Nat) := lw_privs_1
def lw_tbl : List Cond := k2_sels lw_privs ++ tables_1
theorem lw_privs_ok : ∀ q ∈ lw_privs, lw_okq q := lw_r1
-- ===== ONE list of words for every method: the tables' words that hold all through a run =====
def lw_all : List Cond := lw_tbl.filter goodWord
/-- a word of the tables by its place: claim/WORDS.tsv -/
theorem lw_w {w : Cond} (i : Nat) (h : lw_tbl[i]? = some w) (g : goodWord w = true) : w ∈ lw_all := List.mem_filter.mpr ⟨List.mem_of_getElem? h, g⟩
theorem lw_all_tbl {w : Cond} (h : w ∈ lw_all) : w ∈ lw_tbl := (List.mem_filter.mp h).1
theorem lw_self : GoodIn lw_all lw_all := fun w h => ⟨h, good_of_word (List.mem_filter.mp h).2⟩
/-- a class's field words, by their places -/
theorem lw_in (ws : List Cond) (ps : List Nat) (hp : ws = ps.filterMap (fun i => lw_tbl[i]?)) (hg : ws.all goodWord = true) : ∀ w ∈ ws, w ∈ lw_all := by
  intro w h
  have h1 := List.all_eq_true.mp hg w h
  rw [hp] at h
  obtain ⟨i, -, hi⟩ := List.mem_filterMap.mp h
  exact lw_w i hi h1
/-- the words of a contract for the method y with code b, L locals, answer r -/
abbrev ws_ (y : MethodName) (b : ByteArray) (L : Nat) (r : Option FieldType) : List Cond := Cond.code y b L r :: lw_all
theorem lw_meth {y : MethodName} {b : ByteArray} {L : Nat} {r : Option FieldType} (h : Cond.code y b L r ∈ lw_all) : GoodIn lw_all (ws_ y b L r) := by
  intro w hw
  rcases List.mem_cons.mp hw with e | e
  · rw [e]
    exact lw_self _ h
  · exact lw_self _ e
theorem lw_app {a c : List Cond} (ha : ∀ w ∈ a, w ∈ lw_all) (hc : GoodIn lw_all c) : GoodIn lw_all (a ++ c) := by
  intro w hw
  rcases List.mem_append.mp hw with e | e
  · exact lw_self w (ha w e)
  · exact hc w e
/-- what a call through an object asks: cwV n hts (lw_V ..) -/
theorem lw_V {own : String} {idx : Nat} {C : String} {y : MethodName} {b : ByteArray} {L : Nat} {r : Option FieldType} (h1 : Cond.methodLink own idx y ∈ lw_all) (h2 : Cond.instanceMethod y ∈ lw_all) (h3 : Cond.selects C y y ∈ lw_all) (h4 : Cond.initialized C ∈ lw_all) (h5 : Cond.code y b L r ∈ lw_all) : GoodIn lw_all (wsV own idx C y (ws_ y b L r)) := by
  refine lw_app ?_ (lw_meth h5)
  intro w hw
  simp only [List.mem_cons, List.not_mem_nil, or_false] at hw
  rcases hw with e | e | e | e
  · rw [e]; exact h1
  · rw [e]; exact h2
  · rw [e]; exact h3
  · rw [e]; exact h4
/-- what a static call asks: va_cwS n hts (lw_S ..) -/
theorem lw_S {own : String} {idx : Nat} {y : MethodName} {b : ByteArray} {L : Nat} {r : Option FieldType} (h1 : Cond.methodLink own idx y ∈ lw_all) (h2 : Cond.static y ∈ lw_all) (h3 : Cond.initialized y.cls ∈ lw_all) (h4 : Cond.code y b L r ∈ lw_all) : GoodIn lw_all (va_wsS own idx y (ws_ y b L r)) := by
  refine lw_app ?_ (lw_meth h4)
  intro w hw
  simp only [List.mem_cons, List.not_mem_nil, or_false] at hw
  rcases hw with e | e | e
  · rw [e]; exact h1
  · rw [e]; exact h2
  · rw [e]; exact h3
/-- the words of a contract for a method WITH HANDLERS (hh: its table) -/
abbrev wsW_ (y : MethodName) (b : ByteArray) (L : Nat) (r : Option FieldType) (hh : List (Nat × Nat × Nat × Nat)) : List Cond := Cond.codeWith y b L r hh :: lw_all
theorem lw_methW {y : MethodName} {b : ByteArray} {L : Nat} {r : Option FieldType} {hh : List (Nat × Nat × Nat × Nat)} (h : Cond.codeWith y b L r hh ∈ lw_all) : GoodIn lw_all (wsW_ y b L r hh) := by
  intro w hw
  rcases List.mem_cons.mp hw with e | e
  · rw [e]
    exact lw_self _ h
  · exact lw_self _ e
/-- any list of words by their places (lw_in), good -/
theorem lw_good {ws : List Cond} (h : ∀ w ∈ ws, w ∈ lw_all) : GoodIn lw_all ws := fun w hw => lw_self w (h w hw)
/-- what a call of a method with handlers asks: vx_cwVW n hts (lw_VW ..), vx_cwSW n hts (lw_SW ..) -/
theorem lw_VW {own : String} {idx : Nat} {C : String} {y : MethodName} {b : ByteArray} {L : Nat} {r : Option FieldType} {hh : List (Nat × Nat × Nat × Nat)} (h1 : Cond.methodLink own idx y ∈ lw_all) (h2 : Cond.instanceMethod y ∈ lw_all) (h3 : Cond.selects C y y ∈ lw_all) (h4 : Cond.initialized C ∈ lw_all) (h5 : Cond.codeWith y b L r hh ∈ lw_all) : GoodIn lw_all (wsV own idx C y (wsW_ y b L r hh)) := by
  refine lw_app ?_ (lw_methW h5)
  intro w hw
  simp only [List.mem_cons, List.not_mem_nil, or_false] at hw
  rcases hw with e | e | e | e
  · rw [e]; exact h1
  · rw [e]; exact h2
  · rw [e]; exact h3
  · rw [e]; exact h4
theorem lw_SW {own : String} {idx : Nat} {y : MethodName} {b : ByteArray} {L : Nat} {r : Option FieldType} {hh : List (Nat × Nat × Nat × Nat)} (h1 : Cond.methodLink own idx y ∈ lw_all) (h2 : Cond.static y ∈ lw_all) (h3 : Cond.initialized y.cls ∈ lw_all) (h4 : Cond.codeWith y b L r hh ∈ lw_all) : GoodIn lw_all (va_wsS own idx y (wsW_ y b L r hh)) := by
  refine lw_app ?_ (lw_methW h4)
  intro w hw
  simp only [List.mem_cons, List.not_mem_nil, or_false] at hw
  rcases hw with e | e | e
  · rw [e]; exact h1
  · rw [e]; exact h2
  · rw [e]; exact h3
/-- a word by its place in its run of the tables -/
theorem lw_at {r : List Cond} (hr : ∀ w ∈ r, w ∈ lw_tbl) {w : Cond} (i : Nat) (h : r[i]? = some w) : w ∈ lw_tbl := hr w (List.mem_of_getElem? h)
theorem lw_g {w : Cond} (h : w ∈ lw_tbl) (g : goodWord w = true) : w ∈ lw_all := List.mem_filter.mpr ⟨h, g⟩
theorem lw_ms : ∀ w ∈ k2_sels lw_privs, w ∈ lw_tbl := fun w h => show w ∈ k2_sels lw_privs ++ tables_1 from List.mem_append_left _ h
theorem lw_m1 : ∀ w ∈ tables_1_1, w ∈ lw_tbl := fun w h => show w ∈ k2_sels lw_privs ++ tables_1 from List.mem_append_right (k2_sels lw_privs) (show w ∈ tables_1 from List.mem_append_left _ h)
theorem lw_m2 : ∀ w ∈ tables_1_2, w ∈ lw_tbl := fun w h => show w ∈ k2_sels lw_privs ++ tables_1 from List.mem_append_right (k2_sels lw_privs) (show w ∈ tables_1 from List.mem_append_right _ h)
theorem qs0 : (Cond.selects "ClosureDesk" ⟨"ClosureDesk", "has", "(I)Z"⟩ ⟨"ClosureDesk", "has", "(I)Z"⟩) ∈ lw_all := lw_g (lw_at lw_ms 0 rfl) rfl
theorem qs1 : (Cond.selects "ClosureDesk" ⟨"ClosureDesk", "askPlainly", "()V"⟩ ⟨"ClosureDesk", "askPlainly", "()V"⟩) ∈ lw_all := lw_g (lw_at lw_ms 1 rfl) rfl
theorem qs2 : (Cond.selects "ClosureDesk" ⟨"ClosureDesk", "solve", "()I"⟩ ⟨"ClosureDesk", "solve", "()I"⟩) ∈ lw_all := lw_g (lw_at lw_ms 2 rfl) rfl
theorem qs3 : (Cond.selects "ClosureDesk" ⟨"ClosureDesk", "spread", "()Z"⟩ ⟨"ClosureDesk", "spread", "()Z"⟩) ∈ lw_all := lw_g (lw_at lw_ms 3 rfl) rfl
theorem qs4 : (Cond.selects "ClosureDesk" ⟨"ClosureDesk", "push", "()I"⟩ ⟨"ClosureDesk", "push", "()I"⟩) ∈ lw_all := lw_g (lw_at lw_ms 4 rfl) rfl
theorem qs5 : (Cond.selects "ClosureDesk" ⟨"ClosureDesk", "apart", "()I"⟩ ⟨"ClosureDesk", "apart", "()I"⟩) ∈ lw_all := lw_g (lw_at lw_ms 5 rfl) rfl
theorem qs6 : (Cond.selects "ClosureDesk" ⟨"ClosureDesk", "worthWith", "(I)I"⟩ ⟨"ClosureDesk", "worthWith", "(I)I"⟩) ∈ lw_all := lw_g (lw_at lw_ms 6 rfl) rfl
theorem qs7 : (Cond.selects "ClosureDesk" ⟨"ClosureDesk", "worthWithout", "(I)I"⟩ ⟨"ClosureDesk", "worthWithout", "(I)I"⟩) ∈ lw_all := lw_g (lw_at lw_ms 7 rfl) rfl
theorem qs8 : (Cond.selects "ClosureDesk" ⟨"ClosureDesk", "stays", "(II)Z"⟩ ⟨"ClosureDesk", "stays", "(II)Z"⟩) ∈ lw_all := lw_g (lw_at lw_ms 8 rfl) rfl
theorem qs9 : (Cond.selects "ClosureDeskModel" ⟨"ClosureDeskModel", "fits", "(I)Z"⟩ ⟨"ClosureDeskModel", "fits", "(I)Z"⟩) ∈ lw_all := lw_g (lw_at lw_ms 9 rfl) rfl
theorem qs10 : (Cond.selects "ClosureDeskModel" ⟨"ClosureDeskModel", "is", "(I)Z"⟩ ⟨"ClosureDeskModel", "is", "(I)Z"⟩) ∈ lw_all := lw_g (lw_at lw_ms 10 rfl) rfl
theorem qs11 : (Cond.selects "ClosureDeskModel" ⟨"ClosureDeskModel", "greatest", "(II)I"⟩ ⟨"ClosureDeskModel", "greatest", "(II)I"⟩) ∈ lw_all := lw_g (lw_at lw_ms 11 rfl) rfl
theorem qs12 : (Cond.selects "ClosureDeskModel" ⟨"ClosureDeskModel", "sum", "(I)I"⟩ ⟨"ClosureDeskModel", "sum", "(I)I"⟩) ∈ lw_all := lw_g (lw_at lw_ms 12 rfl) rfl
end
section
/-! names of the classes, their methods, the words by their places (claim/names) -/
set_option maxRecDepth 100000
def RJ0 : String := "java/lang/Object"
abbrev cJ0_init : ByteArray := object_method_1_code
def yJ0_init : MethodName := ⟨RJ0, "<init>", "()V"⟩
theorem q22 : (Jvm.Cond.instanceMethod ({ cls := "java/lang/Object", name := "<init>", desc := "()V" } : Jvm.MethodName)) ∈ lw_all := lw_g (lw_at lw_m1 9 rfl) rfl
theorem q23 : (Jvm.Cond.code ({ cls := "java/lang/Object", name := "<init>", desc := "()V" } : Jvm.MethodName) object_method_1_code (1 : Nat) (Option.none : Option Jvm.ClassFile.FieldType)) ∈ lw_all := lw_g (lw_at lw_m1 10 rfl) rfl
def RX0 : String := "ClosureDesk"
def TX0 : u_T := fun k => match k with
  | 0 => ("ClosureDesk", "present", "I", false)
  | 1 => ("ClosureDesk", "worths", "[B", true)
  | 2 => ("ClosureDesk", "needs", "[S", true)
  | 3 => ("ClosureDesk", "asked", "[I", true)
  | 4 => ("ClosureDesk", "room", "[I", true)
  | 5 => ("ClosureDesk", "foundSet", "I", false)
  | 6 => ("ClosureDesk", "foundFrom", "[B", true)
  | _ => ("ClosureDesk", "line", "[B", true)
def tyX0 : Nat → FieldType := fun k => match k with
  | 0 => .int
  | 1 => .array .byte
  | 2 => .array .short
  | 3 => .array .int
  | 4 => .array .int
  | 5 => .int
  | 6 => .array .byte
  | _ => .array .byte
abbrev wsX00 : List Cond := u_ws RX0 TX0 8
theorem nmX0 : ∀ a, a < 8 → ∀ b, b < 8 → a ≠ b → (TX0 a).2.1 ≠ (TX0 b).2.1 := by decide +kernel
theorem tyX0_ok : ∀ k, k < 8 → parseFieldDescriptor (TX0 k).2.2.1 = some (tyX0 k) := by decide +kernel
abbrev cX0_init : ByteArray := prog_1_method_1_code
def yX0_init : MethodName := ⟨RX0, "<init>", "()V"⟩
abbrev cX0_add : ByteArray := prog_1_method_5_code
def yX0_add : MethodName := ⟨RX0, "add", "(I)I"⟩
abbrev cX0_isWorth : ByteArray := prog_1_method_4_code
def yX0_isWorth : MethodName := ⟨RX0, "isWorth", "(I)Z"⟩
abbrev cX0_has : ByteArray := prog_1_method_2_code
def yX0_has : MethodName := ⟨RX0, "has", "(I)Z"⟩
abbrev cX0_remove : ByteArray := prog_1_method_6_code
def yX0_remove : MethodName := ⟨RX0, "remove", "(I)Z"⟩
abbrev cX0_rate : ByteArray := prog_1_method_7_code
def yX0_rate : MethodName := ⟨RX0, "rate", "(II)Z"⟩
abbrev cX0_need : ByteArray := prog_1_method_8_code
def yX0_need : MethodName := ⟨RX0, "need", "(IIZ)Z"⟩
abbrev cX0_undertakings : ByteArray := prog_1_method_9_code
def yX0_undertakings : MethodName := ⟨RX0, "undertakings", "()I"⟩
abbrev cX0_closed : ByteArray := prog_1_method_10_code
def yX0_closed : MethodName := ⟨RX0, "closed", "(I)Z"⟩
abbrev cX0_in : ByteArray := prog_1_method_3_code
def yX0_in : MethodName := ⟨RX0, "in", "(II)Z"⟩
abbrev cX0_closure : ByteArray := prog_1_method_11_code
def yX0_closure : MethodName := ⟨RX0, "closure", "(I)I"⟩
abbrev cX0_best : ByteArray := prog_1_method_17_code
def yX0_best : MethodName := ⟨RX0, "best", "()I"⟩
abbrev cX0_askPlainly : ByteArray := prog_1_method_12_code
def yX0_askPlainly : MethodName := ⟨RX0, "askPlainly", "()V"⟩
abbrev cX0_solve : ByteArray := prog_1_method_13_code
def yX0_solve : MethodName := ⟨RX0, "solve", "()I"⟩
abbrev cX0_spread : ByteArray := prog_1_method_14_code
def yX0_spread : MethodName := ⟨RX0, "spread", "()Z"⟩
abbrev cX0_push : ByteArray := prog_1_method_15_code
def yX0_push : MethodName := ⟨RX0, "push", "()I"⟩
abbrev cX0_leastBest : ByteArray := prog_1_method_18_code
def yX0_leastBest : MethodName := ⟨RX0, "leastBest", "()I"⟩
abbrev cX0_greatestBest : ByteArray := prog_1_method_19_code
def yX0_greatestBest : MethodName := ⟨RX0, "greatestBest", "()I"⟩
abbrev cX0_apart : ByteArray := prog_1_method_16_code
def yX0_apart : MethodName := ⟨RX0, "apart", "()I"⟩
abbrev cX0_bestWith : ByteArray := prog_1_method_22_code
def yX0_bestWith : MethodName := ⟨RX0, "bestWith", "(I)I"⟩
abbrev cX0_worthWith : ByteArray := prog_1_method_20_code
def yX0_worthWith : MethodName := ⟨RX0, "worthWith", "(I)I"⟩
abbrev cX0_bestWithout : ByteArray := prog_1_method_23_code
def yX0_bestWithout : MethodName := ⟨RX0, "bestWithout", "(I)I"⟩
abbrev cX0_worthWithout : ByteArray := prog_1_method_21_code
def yX0_worthWithout : MethodName := ⟨RX0, "worthWithout", "(I)I"⟩
abbrev cX0_threshold : ByteArray := prog_1_method_24_code
def yX0_threshold : MethodName := ⟨RX0, "threshold", "(I)I"⟩
abbrev cX0_burden : ByteArray := prog_1_method_25_code
def yX0_burden : MethodName := ⟨RX0, "burden", "(II)I"⟩
abbrev cX0_choices : ByteArray := prog_1_method_26_code
def yX0_choices : MethodName := ⟨RX0, "choices", "()I"⟩
abbrev cX0_stays : ByteArray := prog_1_method_27_code
def yX0_stays : MethodName := ⟨RX0, "stays", "(II)Z"⟩
theorem q14 : (Jvm.Cond.initialized "ClosureDesk") ∈ lw_all := lw_g (lw_at lw_m1 1 rfl) rfl
theorem q17 : (Jvm.Cond.instantiable "ClosureDesk" (8 : Nat)) ∈ lw_all := lw_g (lw_at lw_m1 4 rfl) rfl
theorem q19 : (Jvm.Cond.instanceMethod ({ cls := "ClosureDesk", name := "<init>", desc := "()V" } : Jvm.MethodName)) ∈ lw_all := lw_g (lw_at lw_m1 6 rfl) rfl
theorem q20 : (Jvm.Cond.code ({ cls := "ClosureDesk", name := "<init>", desc := "()V" } : Jvm.MethodName) prog_1_method_1_code (1 : Nat) (Option.none : Option Jvm.ClassFile.FieldType)) ∈ lw_all := lw_g (lw_at lw_m1 7 rfl) rfl
theorem q21 : (Jvm.Cond.methodLink "ClosureDesk" (1 : Nat) ({ cls := "java/lang/Object", name := "<init>", desc := "()V" } : Jvm.MethodName)) ∈ lw_all := lw_g (lw_at lw_m1 8 rfl) rfl
theorem q24 : (Jvm.Cond.fieldLink "ClosureDesk" (30 : Nat) "ClosureDesk" "present" "I") ∈ lw_all := lw_g (lw_at lw_m1 11 rfl) rfl
theorem q25 : (Jvm.Cond.fieldLink "ClosureDesk" (7 : Nat) "ClosureDesk" "worths" "[B") ∈ lw_all := lw_g (lw_at lw_m1 12 rfl) rfl
theorem q26 : (Jvm.Cond.fieldLink "ClosureDesk" (13 : Nat) "ClosureDesk" "needs" "[S") ∈ lw_all := lw_g (lw_at lw_m1 13 rfl) rfl
theorem q27 : (Jvm.Cond.fieldLink "ClosureDesk" (17 : Nat) "ClosureDesk" "asked" "[I") ∈ lw_all := lw_g (lw_at lw_m1 14 rfl) rfl
theorem q28 : (Jvm.Cond.fieldLink "ClosureDesk" (21 : Nat) "ClosureDesk" "room" "[I") ∈ lw_all := lw_g (lw_at lw_m1 15 rfl) rfl
theorem q29 : (Jvm.Cond.fieldLink "ClosureDesk" (54 : Nat) "ClosureDesk" "foundSet" "I") ∈ lw_all := lw_g (lw_at lw_m1 16 rfl) rfl
theorem q30 : (Jvm.Cond.fieldLink "ClosureDesk" (24 : Nat) "ClosureDesk" "foundFrom" "[B") ∈ lw_all := lw_g (lw_at lw_m1 17 rfl) rfl
theorem q31 : (Jvm.Cond.fieldLink "ClosureDesk" (27 : Nat) "ClosureDesk" "line" "[B") ∈ lw_all := lw_g (lw_at lw_m1 18 rfl) rfl
theorem q32 : (Jvm.Cond.lays "ClosureDesk" "ClosureDesk" "present" "I") ∈ lw_all := lw_g (lw_at lw_m1 19 rfl) rfl
theorem q33 : (Jvm.Cond.soleField "ClosureDesk" "present") ∈ lw_all := lw_g (lw_at lw_m1 20 rfl) rfl
theorem q34 : (Jvm.Cond.laysFinal "ClosureDesk" "ClosureDesk" "worths" "[B") ∈ lw_all := lw_g (lw_at lw_m1 21 rfl) rfl
theorem q35 : (Jvm.Cond.soleField "ClosureDesk" "worths") ∈ lw_all := lw_g (lw_at lw_m1 22 rfl) rfl
theorem q36 : (Jvm.Cond.laysFinal "ClosureDesk" "ClosureDesk" "needs" "[S") ∈ lw_all := lw_g (lw_at lw_m1 23 rfl) rfl
theorem q37 : (Jvm.Cond.soleField "ClosureDesk" "needs") ∈ lw_all := lw_g (lw_at lw_m1 24 rfl) rfl
theorem q38 : (Jvm.Cond.laysFinal "ClosureDesk" "ClosureDesk" "asked" "[I") ∈ lw_all := lw_g (lw_at lw_m1 25 rfl) rfl
theorem q39 : (Jvm.Cond.soleField "ClosureDesk" "asked") ∈ lw_all := lw_g (lw_at lw_m1 26 rfl) rfl
theorem q40 : (Jvm.Cond.laysFinal "ClosureDesk" "ClosureDesk" "room" "[I") ∈ lw_all := lw_g (lw_at lw_m1 27 rfl) rfl
theorem q41 : (Jvm.Cond.soleField "ClosureDesk" "room") ∈ lw_all := lw_g (lw_at lw_m1 28 rfl) rfl
theorem q42 : (Jvm.Cond.lays "ClosureDesk" "ClosureDesk" "foundSet" "I") ∈ lw_all := lw_g (lw_at lw_m1 29 rfl) rfl
theorem q43 : (Jvm.Cond.soleField "ClosureDesk" "foundSet") ∈ lw_all := lw_g (lw_at lw_m1 30 rfl) rfl
theorem q44 : (Jvm.Cond.laysFinal "ClosureDesk" "ClosureDesk" "foundFrom" "[B") ∈ lw_all := lw_g (lw_at lw_m1 31 rfl) rfl
theorem q45 : (Jvm.Cond.soleField "ClosureDesk" "foundFrom") ∈ lw_all := lw_g (lw_at lw_m1 32 rfl) rfl
theorem q46 : (Jvm.Cond.laysFinal "ClosureDesk" "ClosureDesk" "line" "[B") ∈ lw_all := lw_g (lw_at lw_m1 33 rfl) rfl
theorem q47 : (Jvm.Cond.soleField "ClosureDesk" "line") ∈ lw_all := lw_g (lw_at lw_m1 34 rfl) rfl
theorem q48 : (Jvm.Cond.superclass "ClosureDesk" "java/lang/Object") ∈ lw_all := lw_g (lw_at lw_m1 35 rfl) rfl
theorem q53 : (Jvm.Cond.instanceMethod ({ cls := "ClosureDesk", name := "add", desc := "(I)I" } : Jvm.MethodName)) ∈ lw_all := lw_g (lw_at lw_m1 40 rfl) rfl
theorem q54 : (Jvm.Cond.selects "ClosureDesk" ({ cls := "ClosureDesk", name := "add", desc := "(I)I" } : Jvm.MethodName) ({ cls := "ClosureDesk", name := "add", desc := "(I)I" } : Jvm.MethodName)) ∈ lw_all := lw_g (lw_at lw_m1 41 rfl) rfl
theorem q55 : (Jvm.Cond.code ({ cls := "ClosureDesk", name := "add", desc := "(I)I" } : Jvm.MethodName) prog_1_method_5_code (3 : Nat) (Option.some Jvm.ClassFile.FieldType.int)) ∈ lw_all := lw_g (lw_at lw_m1 42 rfl) rfl
theorem q56 : (Jvm.Cond.methodLink "ClosureDesk" (34 : Nat) ({ cls := "ClosureDesk", name := "isWorth", desc := "(I)Z" } : Jvm.MethodName)) ∈ lw_all := lw_g (lw_at lw_m1 43 rfl) rfl
theorem q57 : (Jvm.Cond.static ({ cls := "ClosureDesk", name := "isWorth", desc := "(I)Z" } : Jvm.MethodName)) ∈ lw_all := lw_g (lw_at lw_m1 44 rfl) rfl
theorem q58 : (Jvm.Cond.code ({ cls := "ClosureDesk", name := "isWorth", desc := "(I)Z" } : Jvm.MethodName) prog_1_method_4_code (1 : Nat) (Option.some Jvm.ClassFile.FieldType.boolean)) ∈ lw_all := lw_g (lw_at lw_m1 45 rfl) rfl
theorem q59 : (Jvm.Cond.methodLink "ClosureDesk" (38 : Nat) ({ cls := "ClosureDesk", name := "has", desc := "(I)Z" } : Jvm.MethodName)) ∈ lw_all := lw_g (lw_at lw_m1 46 rfl) rfl
theorem q60 : (Jvm.Cond.privateMethod ({ cls := "ClosureDesk", name := "has", desc := "(I)Z" } : Jvm.MethodName)) ∈ lw_tbl := lw_at lw_m1 47 rfl
theorem q61 : (Jvm.Cond.instanceMethod ({ cls := "ClosureDesk", name := "has", desc := "(I)Z" } : Jvm.MethodName)) ∈ lw_all := lw_g (lw_at lw_m1 48 rfl) rfl
theorem q62 : (Jvm.Cond.code ({ cls := "ClosureDesk", name := "has", desc := "(I)Z" } : Jvm.MethodName) prog_1_method_2_code (2 : Nat) (Option.some Jvm.ClassFile.FieldType.boolean)) ∈ lw_all := lw_g (lw_at lw_m1 49 rfl) rfl
theorem q64 : (Jvm.Cond.instanceMethod ({ cls := "ClosureDesk", name := "remove", desc := "(I)Z" } : Jvm.MethodName)) ∈ lw_all := lw_g (lw_at lw_m1 51 rfl) rfl
theorem q65 : (Jvm.Cond.selects "ClosureDesk" ({ cls := "ClosureDesk", name := "remove", desc := "(I)Z" } : Jvm.MethodName) ({ cls := "ClosureDesk", name := "remove", desc := "(I)Z" } : Jvm.MethodName)) ∈ lw_all := lw_g (lw_at lw_m1 52 rfl) rfl
theorem q66 : (Jvm.Cond.code ({ cls := "ClosureDesk", name := "remove", desc := "(I)Z" } : Jvm.MethodName) prog_1_method_6_code (3 : Nat) (Option.some Jvm.ClassFile.FieldType.boolean)) ∈ lw_all := lw_g (lw_at lw_m1 53 rfl) rfl
theorem q68 : (Jvm.Cond.instanceMethod ({ cls := "ClosureDesk", name := "rate", desc := "(II)Z" } : Jvm.MethodName)) ∈ lw_all := lw_g (lw_at lw_m1 55 rfl) rfl
theorem q69 : (Jvm.Cond.selects "ClosureDesk" ({ cls := "ClosureDesk", name := "rate", desc := "(II)Z" } : Jvm.MethodName) ({ cls := "ClosureDesk", name := "rate", desc := "(II)Z" } : Jvm.MethodName)) ∈ lw_all := lw_g (lw_at lw_m1 56 rfl) rfl
theorem q70 : (Jvm.Cond.code ({ cls := "ClosureDesk", name := "rate", desc := "(II)Z" } : Jvm.MethodName) prog_1_method_7_code (3 : Nat) (Option.some Jvm.ClassFile.FieldType.boolean)) ∈ lw_all := lw_g (lw_at lw_m1 57 rfl) rfl
theorem q72 : (Jvm.Cond.instanceMethod ({ cls := "ClosureDesk", name := "need", desc := "(IIZ)Z" } : Jvm.MethodName)) ∈ lw_all := lw_g (lw_at lw_m1 59 rfl) rfl
theorem q73 : (Jvm.Cond.selects "ClosureDesk" ({ cls := "ClosureDesk", name := "need", desc := "(IIZ)Z" } : Jvm.MethodName) ({ cls := "ClosureDesk", name := "need", desc := "(IIZ)Z" } : Jvm.MethodName)) ∈ lw_all := lw_g (lw_at lw_m1 60 rfl) rfl
theorem q74 : (Jvm.Cond.code ({ cls := "ClosureDesk", name := "need", desc := "(IIZ)Z" } : Jvm.MethodName) prog_1_method_8_code (4 : Nat) (Option.some Jvm.ClassFile.FieldType.boolean)) ∈ lw_all := lw_g (lw_at lw_m1 61 rfl) rfl
theorem q76 : (Jvm.Cond.instanceMethod ({ cls := "ClosureDesk", name := "undertakings", desc := "()I" } : Jvm.MethodName)) ∈ lw_all := lw_g (lw_at lw_m1 63 rfl) rfl
theorem q77 : (Jvm.Cond.selects "ClosureDesk" ({ cls := "ClosureDesk", name := "undertakings", desc := "()I" } : Jvm.MethodName) ({ cls := "ClosureDesk", name := "undertakings", desc := "()I" } : Jvm.MethodName)) ∈ lw_all := lw_g (lw_at lw_m1 64 rfl) rfl
theorem q78 : (Jvm.Cond.code ({ cls := "ClosureDesk", name := "undertakings", desc := "()I" } : Jvm.MethodName) prog_1_method_9_code (1 : Nat) (Option.some Jvm.ClassFile.FieldType.int)) ∈ lw_all := lw_g (lw_at lw_m1 65 rfl) rfl
theorem q80 : (Jvm.Cond.instanceMethod ({ cls := "ClosureDesk", name := "closed", desc := "(I)Z" } : Jvm.MethodName)) ∈ lw_all := lw_g (lw_at lw_m1 67 rfl) rfl
theorem q81 : (Jvm.Cond.selects "ClosureDesk" ({ cls := "ClosureDesk", name := "closed", desc := "(I)Z" } : Jvm.MethodName) ({ cls := "ClosureDesk", name := "closed", desc := "(I)Z" } : Jvm.MethodName)) ∈ lw_all := lw_g (lw_at lw_m1 68 rfl) rfl
theorem q82 : (Jvm.Cond.code ({ cls := "ClosureDesk", name := "closed", desc := "(I)Z" } : Jvm.MethodName) prog_1_method_10_code (3 : Nat) (Option.some Jvm.ClassFile.FieldType.boolean)) ∈ lw_all := lw_g (lw_at lw_m1 69 rfl) rfl
theorem q83 : (Jvm.Cond.methodLink "ClosureDesk" (41 : Nat) ({ cls := "ClosureDesk", name := "in", desc := "(II)Z" } : Jvm.MethodName)) ∈ lw_all := lw_g (lw_at lw_m1 70 rfl) rfl
theorem q84 : (Jvm.Cond.static ({ cls := "ClosureDesk", name := "in", desc := "(II)Z" } : Jvm.MethodName)) ∈ lw_all := lw_g (lw_at lw_m1 71 rfl) rfl
theorem q85 : (Jvm.Cond.code ({ cls := "ClosureDesk", name := "in", desc := "(II)Z" } : Jvm.MethodName) prog_1_method_3_code (2 : Nat) (Option.some Jvm.ClassFile.FieldType.boolean)) ∈ lw_all := lw_g (lw_at lw_m1 72 rfl) rfl
theorem q87 : (Jvm.Cond.instanceMethod ({ cls := "ClosureDesk", name := "closure", desc := "(I)I" } : Jvm.MethodName)) ∈ lw_all := lw_g (lw_at lw_m1 74 rfl) rfl
theorem q88 : (Jvm.Cond.selects "ClosureDesk" ({ cls := "ClosureDesk", name := "closure", desc := "(I)I" } : Jvm.MethodName) ({ cls := "ClosureDesk", name := "closure", desc := "(I)I" } : Jvm.MethodName)) ∈ lw_all := lw_g (lw_at lw_m1 75 rfl) rfl
theorem q89 : (Jvm.Cond.code ({ cls := "ClosureDesk", name := "closure", desc := "(I)I" } : Jvm.MethodName) prog_1_method_11_code (5 : Nat) (Option.some Jvm.ClassFile.FieldType.int)) ∈ lw_all := lw_g (lw_at lw_m1 76 rfl) rfl
theorem q91 : (Jvm.Cond.instanceMethod ({ cls := "ClosureDesk", name := "best", desc := "()I" } : Jvm.MethodName)) ∈ lw_all := lw_g (lw_at lw_m1 78 rfl) rfl
theorem q92 : (Jvm.Cond.selects "ClosureDesk" ({ cls := "ClosureDesk", name := "best", desc := "()I" } : Jvm.MethodName) ({ cls := "ClosureDesk", name := "best", desc := "()I" } : Jvm.MethodName)) ∈ lw_all := lw_g (lw_at lw_m1 79 rfl) rfl
theorem q93 : (Jvm.Cond.code ({ cls := "ClosureDesk", name := "best", desc := "()I" } : Jvm.MethodName) prog_1_method_17_code (1 : Nat) (Option.some Jvm.ClassFile.FieldType.int)) ∈ lw_all := lw_g (lw_at lw_m1 80 rfl) rfl
theorem q94 : (Jvm.Cond.methodLink "ClosureDesk" (57 : Nat) ({ cls := "ClosureDesk", name := "askPlainly", desc := "()V" } : Jvm.MethodName)) ∈ lw_all := lw_g (lw_at lw_m1 81 rfl) rfl
theorem q95 : (Jvm.Cond.privateMethod ({ cls := "ClosureDesk", name := "askPlainly", desc := "()V" } : Jvm.MethodName)) ∈ lw_tbl := lw_at lw_m1 82 rfl
theorem q96 : (Jvm.Cond.instanceMethod ({ cls := "ClosureDesk", name := "askPlainly", desc := "()V" } : Jvm.MethodName)) ∈ lw_all := lw_g (lw_at lw_m1 83 rfl) rfl
theorem q97 : (Jvm.Cond.code ({ cls := "ClosureDesk", name := "askPlainly", desc := "()V" } : Jvm.MethodName) prog_1_method_12_code (2 : Nat) (Option.none : Option Jvm.ClassFile.FieldType)) ∈ lw_all := lw_g (lw_at lw_m1 84 rfl) rfl
theorem q98 : (Jvm.Cond.methodLink "ClosureDesk" (60 : Nat) ({ cls := "ClosureDesk", name := "solve", desc := "()I" } : Jvm.MethodName)) ∈ lw_all := lw_g (lw_at lw_m1 85 rfl) rfl
theorem q99 : (Jvm.Cond.privateMethod ({ cls := "ClosureDesk", name := "solve", desc := "()I" } : Jvm.MethodName)) ∈ lw_tbl := lw_at lw_m1 86 rfl
theorem q100 : (Jvm.Cond.instanceMethod ({ cls := "ClosureDesk", name := "solve", desc := "()I" } : Jvm.MethodName)) ∈ lw_all := lw_g (lw_at lw_m1 87 rfl) rfl
theorem q101 : (Jvm.Cond.code ({ cls := "ClosureDesk", name := "solve", desc := "()I" } : Jvm.MethodName) prog_1_method_13_code (4 : Nat) (Option.some Jvm.ClassFile.FieldType.int)) ∈ lw_all := lw_g (lw_at lw_m1 88 rfl) rfl
theorem q102 : (Jvm.Cond.constant "ClosureDesk" (45 : Nat) (1048576 : Int32)) ∈ lw_all := lw_g (lw_at lw_m1 89 rfl) rfl
theorem q103 : (Jvm.Cond.methodLink "ClosureDesk" (46 : Nat) ({ cls := "ClosureDesk", name := "spread", desc := "()Z" } : Jvm.MethodName)) ∈ lw_all := lw_g (lw_at lw_m1 90 rfl) rfl
theorem q104 : (Jvm.Cond.privateMethod ({ cls := "ClosureDesk", name := "spread", desc := "()Z" } : Jvm.MethodName)) ∈ lw_tbl := lw_at lw_m1 91 rfl
theorem q105 : (Jvm.Cond.instanceMethod ({ cls := "ClosureDesk", name := "spread", desc := "()Z" } : Jvm.MethodName)) ∈ lw_all := lw_g (lw_at lw_m1 92 rfl) rfl
theorem q106 : (Jvm.Cond.code ({ cls := "ClosureDesk", name := "spread", desc := "()Z" } : Jvm.MethodName) prog_1_method_14_code (5 : Nat) (Option.some Jvm.ClassFile.FieldType.boolean)) ∈ lw_all := lw_g (lw_at lw_m1 93 rfl) rfl
theorem q107 : (Jvm.Cond.methodLink "ClosureDesk" (50 : Nat) ({ cls := "ClosureDesk", name := "push", desc := "()I" } : Jvm.MethodName)) ∈ lw_all := lw_g (lw_at lw_m1 94 rfl) rfl
theorem q108 : (Jvm.Cond.privateMethod ({ cls := "ClosureDesk", name := "push", desc := "()I" } : Jvm.MethodName)) ∈ lw_tbl := lw_at lw_m1 95 rfl
theorem q109 : (Jvm.Cond.instanceMethod ({ cls := "ClosureDesk", name := "push", desc := "()I" } : Jvm.MethodName)) ∈ lw_all := lw_g (lw_at lw_m1 96 rfl) rfl
theorem q110 : (Jvm.Cond.code ({ cls := "ClosureDesk", name := "push", desc := "()I" } : Jvm.MethodName) prog_1_method_15_code (4 : Nat) (Option.some Jvm.ClassFile.FieldType.int)) ∈ lw_all := lw_g (lw_at lw_m1 97 rfl) rfl
theorem q112 : (Jvm.Cond.instanceMethod ({ cls := "ClosureDesk", name := "leastBest", desc := "()I" } : Jvm.MethodName)) ∈ lw_all := lw_g (lw_at lw_m1 99 rfl) rfl
theorem q113 : (Jvm.Cond.selects "ClosureDesk" ({ cls := "ClosureDesk", name := "leastBest", desc := "()I" } : Jvm.MethodName) ({ cls := "ClosureDesk", name := "leastBest", desc := "()I" } : Jvm.MethodName)) ∈ lw_all := lw_g (lw_at lw_m1 100 rfl) rfl
theorem q114 : (Jvm.Cond.code ({ cls := "ClosureDesk", name := "leastBest", desc := "()I" } : Jvm.MethodName) prog_1_method_18_code (1 : Nat) (Option.some Jvm.ClassFile.FieldType.int)) ∈ lw_all := lw_g (lw_at lw_m1 101 rfl) rfl
theorem q116 : (Jvm.Cond.instanceMethod ({ cls := "ClosureDesk", name := "greatestBest", desc := "()I" } : Jvm.MethodName)) ∈ lw_all := lw_g (lw_at lw_m1 103 rfl) rfl
theorem q117 : (Jvm.Cond.selects "ClosureDesk" ({ cls := "ClosureDesk", name := "greatestBest", desc := "()I" } : Jvm.MethodName) ({ cls := "ClosureDesk", name := "greatestBest", desc := "()I" } : Jvm.MethodName)) ∈ lw_all := lw_g (lw_at lw_m1 104 rfl) rfl
theorem q118 : (Jvm.Cond.code ({ cls := "ClosureDesk", name := "greatestBest", desc := "()I" } : Jvm.MethodName) prog_1_method_19_code (1 : Nat) (Option.some Jvm.ClassFile.FieldType.int)) ∈ lw_all := lw_g (lw_at lw_m1 105 rfl) rfl
theorem q119 : (Jvm.Cond.methodLink "ClosureDesk" (63 : Nat) ({ cls := "ClosureDesk", name := "apart", desc := "()I" } : Jvm.MethodName)) ∈ lw_all := lw_g (lw_at lw_m1 106 rfl) rfl
theorem q120 : (Jvm.Cond.privateMethod ({ cls := "ClosureDesk", name := "apart", desc := "()I" } : Jvm.MethodName)) ∈ lw_tbl := lw_at lw_m1 107 rfl
theorem q121 : (Jvm.Cond.instanceMethod ({ cls := "ClosureDesk", name := "apart", desc := "()I" } : Jvm.MethodName)) ∈ lw_all := lw_g (lw_at lw_m1 108 rfl) rfl
theorem q122 : (Jvm.Cond.code ({ cls := "ClosureDesk", name := "apart", desc := "()I" } : Jvm.MethodName) prog_1_method_16_code (5 : Nat) (Option.some Jvm.ClassFile.FieldType.int)) ∈ lw_all := lw_g (lw_at lw_m1 109 rfl) rfl
theorem q124 : (Jvm.Cond.instanceMethod ({ cls := "ClosureDesk", name := "bestWith", desc := "(I)I" } : Jvm.MethodName)) ∈ lw_all := lw_g (lw_at lw_m1 111 rfl) rfl
theorem q125 : (Jvm.Cond.selects "ClosureDesk" ({ cls := "ClosureDesk", name := "bestWith", desc := "(I)I" } : Jvm.MethodName) ({ cls := "ClosureDesk", name := "bestWith", desc := "(I)I" } : Jvm.MethodName)) ∈ lw_all := lw_g (lw_at lw_m1 112 rfl) rfl
theorem q126 : (Jvm.Cond.code ({ cls := "ClosureDesk", name := "bestWith", desc := "(I)I" } : Jvm.MethodName) prog_1_method_22_code (2 : Nat) (Option.some Jvm.ClassFile.FieldType.int)) ∈ lw_all := lw_g (lw_at lw_m1 113 rfl) rfl
theorem q127 : (Jvm.Cond.methodLink "ClosureDesk" (66 : Nat) ({ cls := "ClosureDesk", name := "worthWith", desc := "(I)I" } : Jvm.MethodName)) ∈ lw_all := lw_g (lw_at lw_m1 114 rfl) rfl
theorem q128 : (Jvm.Cond.privateMethod ({ cls := "ClosureDesk", name := "worthWith", desc := "(I)I" } : Jvm.MethodName)) ∈ lw_tbl := lw_at lw_m1 115 rfl
theorem q129 : (Jvm.Cond.instanceMethod ({ cls := "ClosureDesk", name := "worthWith", desc := "(I)I" } : Jvm.MethodName)) ∈ lw_all := lw_g (lw_at lw_m1 116 rfl) rfl
theorem q130 : (Jvm.Cond.code ({ cls := "ClosureDesk", name := "worthWith", desc := "(I)I" } : Jvm.MethodName) prog_1_method_20_code (3 : Nat) (Option.some Jvm.ClassFile.FieldType.int)) ∈ lw_all := lw_g (lw_at lw_m1 117 rfl) rfl
theorem q131 : (Jvm.Cond.constant "ClosureDesk" (70 : Nat) (-100000 : Int32)) ∈ lw_all := lw_g (lw_at lw_m1 118 rfl) rfl
theorem q133 : (Jvm.Cond.instanceMethod ({ cls := "ClosureDesk", name := "bestWithout", desc := "(I)I" } : Jvm.MethodName)) ∈ lw_all := lw_g (lw_at lw_m1 120 rfl) rfl
theorem q134 : (Jvm.Cond.selects "ClosureDesk" ({ cls := "ClosureDesk", name := "bestWithout", desc := "(I)I" } : Jvm.MethodName) ({ cls := "ClosureDesk", name := "bestWithout", desc := "(I)I" } : Jvm.MethodName)) ∈ lw_all := lw_g (lw_at lw_m1 121 rfl) rfl
theorem q135 : (Jvm.Cond.code ({ cls := "ClosureDesk", name := "bestWithout", desc := "(I)I" } : Jvm.MethodName) prog_1_method_23_code (2 : Nat) (Option.some Jvm.ClassFile.FieldType.int)) ∈ lw_all := lw_g (lw_at lw_m1 122 rfl) rfl
theorem q136 : (Jvm.Cond.methodLink "ClosureDesk" (71 : Nat) ({ cls := "ClosureDesk", name := "worthWithout", desc := "(I)I" } : Jvm.MethodName)) ∈ lw_all := lw_g (lw_at lw_m1 123 rfl) rfl
theorem q137 : (Jvm.Cond.privateMethod ({ cls := "ClosureDesk", name := "worthWithout", desc := "(I)I" } : Jvm.MethodName)) ∈ lw_tbl := lw_at lw_m1 124 rfl
theorem q138 : (Jvm.Cond.instanceMethod ({ cls := "ClosureDesk", name := "worthWithout", desc := "(I)I" } : Jvm.MethodName)) ∈ lw_all := lw_g (lw_at lw_m1 125 rfl) rfl
theorem q139 : (Jvm.Cond.code ({ cls := "ClosureDesk", name := "worthWithout", desc := "(I)I" } : Jvm.MethodName) prog_1_method_21_code (2 : Nat) (Option.some Jvm.ClassFile.FieldType.int)) ∈ lw_all := lw_g (lw_at lw_m1 126 rfl) rfl
theorem q140 : (Jvm.Cond.methodLink "ClosureDesk" (74 : Nat) ({ cls := "ClosureDesk", name := "best", desc := "()I" } : Jvm.MethodName)) ∈ lw_all := lw_g (lw_at lw_m1 127 rfl) rfl
theorem q142 : (Jvm.Cond.instanceMethod ({ cls := "ClosureDesk", name := "threshold", desc := "(I)I" } : Jvm.MethodName)) ∈ lw_all := lw_g (lw_at lw_m1 129 rfl) rfl
theorem q143 : (Jvm.Cond.selects "ClosureDesk" ({ cls := "ClosureDesk", name := "threshold", desc := "(I)I" } : Jvm.MethodName) ({ cls := "ClosureDesk", name := "threshold", desc := "(I)I" } : Jvm.MethodName)) ∈ lw_all := lw_g (lw_at lw_m1 130 rfl) rfl
theorem q144 : (Jvm.Cond.code ({ cls := "ClosureDesk", name := "threshold", desc := "(I)I" } : Jvm.MethodName) prog_1_method_24_code (4 : Nat) (Option.some Jvm.ClassFile.FieldType.int)) ∈ lw_all := lw_g (lw_at lw_m1 131 rfl) rfl
theorem q146 : (Jvm.Cond.instanceMethod ({ cls := "ClosureDesk", name := "burden", desc := "(II)I" } : Jvm.MethodName)) ∈ lw_all := lw_g (lw_at lw_m1 133 rfl) rfl
theorem q147 : (Jvm.Cond.selects "ClosureDesk" ({ cls := "ClosureDesk", name := "burden", desc := "(II)I" } : Jvm.MethodName) ({ cls := "ClosureDesk", name := "burden", desc := "(II)I" } : Jvm.MethodName)) ∈ lw_all := lw_g (lw_at lw_m1 134 rfl) rfl
theorem q148 : (Jvm.Cond.code ({ cls := "ClosureDesk", name := "burden", desc := "(II)I" } : Jvm.MethodName) prog_1_method_25_code (5 : Nat) (Option.some Jvm.ClassFile.FieldType.int)) ∈ lw_all := lw_g (lw_at lw_m1 135 rfl) rfl
theorem q149 : (Jvm.Cond.methodLink "ClosureDesk" (77 : Nat) ({ cls := "ClosureDesk", name := "need", desc := "(IIZ)Z" } : Jvm.MethodName)) ∈ lw_all := lw_g (lw_at lw_m1 136 rfl) rfl
theorem q151 : (Jvm.Cond.instanceMethod ({ cls := "ClosureDesk", name := "choices", desc := "()I" } : Jvm.MethodName)) ∈ lw_all := lw_g (lw_at lw_m1 138 rfl) rfl
theorem q152 : (Jvm.Cond.selects "ClosureDesk" ({ cls := "ClosureDesk", name := "choices", desc := "()I" } : Jvm.MethodName) ({ cls := "ClosureDesk", name := "choices", desc := "()I" } : Jvm.MethodName)) ∈ lw_all := lw_g (lw_at lw_m1 139 rfl) rfl
theorem q153 : (Jvm.Cond.code ({ cls := "ClosureDesk", name := "choices", desc := "()I" } : Jvm.MethodName) prog_1_method_26_code (4 : Nat) (Option.some Jvm.ClassFile.FieldType.int)) ∈ lw_all := lw_g (lw_at lw_m1 140 rfl) rfl
theorem q154 : (Jvm.Cond.methodLink "ClosureDesk" (81 : Nat) ({ cls := "ClosureDesk", name := "stays", desc := "(II)Z" } : Jvm.MethodName)) ∈ lw_all := lw_g (lw_at lw_m1 141 rfl) rfl
theorem q155 : (Jvm.Cond.privateMethod ({ cls := "ClosureDesk", name := "stays", desc := "(II)Z" } : Jvm.MethodName)) ∈ lw_tbl := lw_at lw_m1 142 rfl
theorem q156 : (Jvm.Cond.instanceMethod ({ cls := "ClosureDesk", name := "stays", desc := "(II)Z" } : Jvm.MethodName)) ∈ lw_all := lw_g (lw_at lw_m1 143 rfl) rfl
theorem q157 : (Jvm.Cond.code ({ cls := "ClosureDesk", name := "stays", desc := "(II)Z" } : Jvm.MethodName) prog_1_method_27_code (5 : Nat) (Option.some Jvm.ClassFile.FieldType.boolean)) ∈ lw_all := lw_g (lw_at lw_m1 144 rfl) rfl
theorem in_X0 : ∀ w ∈ wsX00, w ∈ lw_all := lw_in wsX00 [32, 34, 36, 38, 40, 42, 44, 46] (by decide +kernel) (by decide +kernel)
def RX1 : String := "ClosureDeskModel"
def TX1 : u_T := fun k => match k with
  | 0 => ("ClosureDeskModel", "there", "[Z", false)
  | 1 => ("ClosureDeskModel", "worths", "[I", false)
  | _ => ("ClosureDeskModel", "needs", "[I", false)
def tyX1 : Nat → FieldType := fun k => match k with
  | 0 => .array .boolean
  | 1 => .array .int
  | _ => .array .int
abbrev wsX10 : List Cond := u_ws RX1 TX1 3
theorem nmX1 : ∀ a, a < 3 → ∀ b, b < 3 → a ≠ b → (TX1 a).2.1 ≠ (TX1 b).2.1 := by decide +kernel
theorem tyX1_ok : ∀ k, k < 3 → parseFieldDescriptor (TX1 k).2.2.1 = some (tyX1 k) := by decide +kernel
abbrev cX1_init : ByteArray := prog_3_method_1_code
def yX1_init : MethodName := ⟨RX1, "<init>", "()V"⟩
abbrev cX1_add : ByteArray := prog_3_method_4_code
def yX1_add : MethodName := ⟨RX1, "add", "(I)I"⟩
abbrev cX1_fits : ByteArray := prog_3_method_3_code
def yX1_fits : MethodName := ⟨RX1, "fits", "(I)Z"⟩
abbrev cX1_remove : ByteArray := prog_3_method_5_code
def yX1_remove : MethodName := ⟨RX1, "remove", "(I)Z"⟩
abbrev cX1_is : ByteArray := prog_3_method_2_code
def yX1_is : MethodName := ⟨RX1, "is", "(I)Z"⟩
abbrev cX1_rate : ByteArray := prog_3_method_6_code
def yX1_rate : MethodName := ⟨RX1, "rate", "(II)Z"⟩
abbrev cX1_need : ByteArray := prog_3_method_7_code
def yX1_need : MethodName := ⟨RX1, "need", "(IIZ)Z"⟩
abbrev cX1_undertakings : ByteArray := prog_3_method_8_code
def yX1_undertakings : MethodName := ⟨RX1, "undertakings", "()I"⟩
abbrev cX1_closed : ByteArray := prog_3_method_9_code
def yX1_closed : MethodName := ⟨RX1, "closed", "(I)Z"⟩
abbrev cX1_closure : ByteArray := prog_3_method_10_code
def yX1_closure : MethodName := ⟨RX1, "closure", "(I)I"⟩
abbrev cX1_best : ByteArray := prog_3_method_13_code
def yX1_best : MethodName := ⟨RX1, "best", "()I"⟩
abbrev cX1_greatest : ByteArray := prog_3_method_12_code
def yX1_greatest : MethodName := ⟨RX1, "greatest", "(II)I"⟩
abbrev cX1_sum : ByteArray := prog_3_method_11_code
def yX1_sum : MethodName := ⟨RX1, "sum", "(I)I"⟩
abbrev cX1_leastBest : ByteArray := prog_3_method_14_code
def yX1_leastBest : MethodName := ⟨RX1, "leastBest", "()I"⟩
abbrev cX1_greatestBest : ByteArray := prog_3_method_15_code
def yX1_greatestBest : MethodName := ⟨RX1, "greatestBest", "()I"⟩
abbrev cX1_bestWith : ByteArray := prog_3_method_16_code
def yX1_bestWith : MethodName := ⟨RX1, "bestWith", "(I)I"⟩
abbrev cX1_bestWithout : ByteArray := prog_3_method_17_code
def yX1_bestWithout : MethodName := ⟨RX1, "bestWithout", "(I)I"⟩
abbrev cX1_threshold : ByteArray := prog_3_method_18_code
def yX1_threshold : MethodName := ⟨RX1, "threshold", "(I)I"⟩
abbrev cX1_burden : ByteArray := prog_3_method_19_code
def yX1_burden : MethodName := ⟨RX1, "burden", "(II)I"⟩
abbrev cX1_choices : ByteArray := prog_3_method_20_code
def yX1_choices : MethodName := ⟨RX1, "choices", "()I"⟩
theorem q15 : (Jvm.Cond.initialized "ClosureDeskModel") ∈ lw_all := lw_g (lw_at lw_m1 2 rfl) rfl
theorem q159 : (Jvm.Cond.instantiable "ClosureDeskModel" (3 : Nat)) ∈ lw_all := lw_g (lw_at lw_m1 146 rfl) rfl
theorem q161 : (Jvm.Cond.instanceMethod ({ cls := "ClosureDeskModel", name := "<init>", desc := "()V" } : Jvm.MethodName)) ∈ lw_all := lw_g (lw_at lw_m1 148 rfl) rfl
theorem q162 : (Jvm.Cond.code ({ cls := "ClosureDeskModel", name := "<init>", desc := "()V" } : Jvm.MethodName) prog_3_method_1_code (1 : Nat) (Option.none : Option Jvm.ClassFile.FieldType)) ∈ lw_all := lw_g (lw_at lw_m1 149 rfl) rfl
theorem q163 : (Jvm.Cond.methodLink "ClosureDeskModel" (1 : Nat) ({ cls := "java/lang/Object", name := "<init>", desc := "()V" } : Jvm.MethodName)) ∈ lw_all := lw_g (lw_at lw_m1 150 rfl) rfl
theorem q164 : (Jvm.Cond.fieldLink "ClosureDeskModel" (7 : Nat) "ClosureDeskModel" "there" "[Z") ∈ lw_all := lw_g (lw_at lw_m1 151 rfl) rfl
theorem q165 : (Jvm.Cond.fieldLink "ClosureDeskModel" (13 : Nat) "ClosureDeskModel" "worths" "[I") ∈ lw_all := lw_g (lw_at lw_m1 152 rfl) rfl
theorem q166 : (Jvm.Cond.fieldLink "ClosureDeskModel" (17 : Nat) "ClosureDeskModel" "needs" "[I") ∈ lw_all := lw_g (lw_at lw_m1 153 rfl) rfl
theorem q167 : (Jvm.Cond.lays "ClosureDeskModel" "ClosureDeskModel" "there" "[Z") ∈ lw_all := lw_g (lw_at lw_m1 154 rfl) rfl
theorem q168 : (Jvm.Cond.soleField "ClosureDeskModel" "there") ∈ lw_all := lw_g (lw_at lw_m1 155 rfl) rfl
theorem q169 : (Jvm.Cond.lays "ClosureDeskModel" "ClosureDeskModel" "worths" "[I") ∈ lw_all := lw_g (lw_at lw_m1 156 rfl) rfl
theorem q170 : (Jvm.Cond.soleField "ClosureDeskModel" "worths") ∈ lw_all := lw_g (lw_at lw_m1 157 rfl) rfl
theorem q171 : (Jvm.Cond.lays "ClosureDeskModel" "ClosureDeskModel" "needs" "[I") ∈ lw_all := lw_g (lw_at lw_m1 158 rfl) rfl
theorem q172 : (Jvm.Cond.soleField "ClosureDeskModel" "needs") ∈ lw_all := lw_g (lw_at lw_m1 159 rfl) rfl
theorem q173 : (Jvm.Cond.superclass "ClosureDeskModel" "java/lang/Object") ∈ lw_all := lw_g (lw_at lw_m1 160 rfl) rfl
theorem q176 : (Jvm.Cond.instanceMethod ({ cls := "ClosureDeskModel", name := "add", desc := "(I)I" } : Jvm.MethodName)) ∈ lw_all := lw_g (lw_at lw_m1 163 rfl) rfl
theorem q177 : (Jvm.Cond.selects "ClosureDeskModel" ({ cls := "ClosureDeskModel", name := "add", desc := "(I)I" } : Jvm.MethodName) ({ cls := "ClosureDeskModel", name := "add", desc := "(I)I" } : Jvm.MethodName)) ∈ lw_all := lw_g (lw_at lw_m1 164 rfl) rfl
theorem q178 : (Jvm.Cond.code ({ cls := "ClosureDeskModel", name := "add", desc := "(I)I" } : Jvm.MethodName) prog_3_method_4_code (3 : Nat) (Option.some Jvm.ClassFile.FieldType.int)) ∈ lw_all := lw_g (lw_at lw_m1 165 rfl) rfl
theorem q179 : (Jvm.Cond.methodLink "ClosureDeskModel" (20 : Nat) ({ cls := "ClosureDeskModel", name := "fits", desc := "(I)Z" } : Jvm.MethodName)) ∈ lw_all := lw_g (lw_at lw_m1 166 rfl) rfl
theorem q180 : (Jvm.Cond.privateMethod ({ cls := "ClosureDeskModel", name := "fits", desc := "(I)Z" } : Jvm.MethodName)) ∈ lw_tbl := lw_at lw_m1 167 rfl
theorem q181 : (Jvm.Cond.instanceMethod ({ cls := "ClosureDeskModel", name := "fits", desc := "(I)Z" } : Jvm.MethodName)) ∈ lw_all := lw_g (lw_at lw_m1 168 rfl) rfl
theorem q182 : (Jvm.Cond.code ({ cls := "ClosureDeskModel", name := "fits", desc := "(I)Z" } : Jvm.MethodName) prog_3_method_3_code (2 : Nat) (Option.some Jvm.ClassFile.FieldType.boolean)) ∈ lw_all := lw_g (lw_at lw_m1 169 rfl) rfl
theorem q184 : (Jvm.Cond.instanceMethod ({ cls := "ClosureDeskModel", name := "remove", desc := "(I)Z" } : Jvm.MethodName)) ∈ lw_all := lw_g (lw_at lw_m1 171 rfl) rfl
theorem q185 : (Jvm.Cond.selects "ClosureDeskModel" ({ cls := "ClosureDeskModel", name := "remove", desc := "(I)Z" } : Jvm.MethodName) ({ cls := "ClosureDeskModel", name := "remove", desc := "(I)Z" } : Jvm.MethodName)) ∈ lw_all := lw_g (lw_at lw_m1 172 rfl) rfl
theorem q186 : (Jvm.Cond.code ({ cls := "ClosureDeskModel", name := "remove", desc := "(I)Z" } : Jvm.MethodName) prog_3_method_5_code (3 : Nat) (Option.some Jvm.ClassFile.FieldType.boolean)) ∈ lw_all := lw_g (lw_at lw_m1 173 rfl) rfl
theorem q187 : (Jvm.Cond.methodLink "ClosureDeskModel" (24 : Nat) ({ cls := "ClosureDeskModel", name := "is", desc := "(I)Z" } : Jvm.MethodName)) ∈ lw_all := lw_g (lw_at lw_m1 174 rfl) rfl
theorem q188 : (Jvm.Cond.privateMethod ({ cls := "ClosureDeskModel", name := "is", desc := "(I)Z" } : Jvm.MethodName)) ∈ lw_tbl := lw_at lw_m1 175 rfl
theorem q189 : (Jvm.Cond.instanceMethod ({ cls := "ClosureDeskModel", name := "is", desc := "(I)Z" } : Jvm.MethodName)) ∈ lw_all := lw_g (lw_at lw_m1 176 rfl) rfl
theorem q190 : (Jvm.Cond.code ({ cls := "ClosureDeskModel", name := "is", desc := "(I)Z" } : Jvm.MethodName) prog_3_method_2_code (2 : Nat) (Option.some Jvm.ClassFile.FieldType.boolean)) ∈ lw_all := lw_g (lw_at lw_m1 177 rfl) rfl
theorem q192 : (Jvm.Cond.instanceMethod ({ cls := "ClosureDeskModel", name := "rate", desc := "(II)Z" } : Jvm.MethodName)) ∈ lw_all := lw_g (lw_at lw_m1 179 rfl) rfl
theorem q193 : (Jvm.Cond.selects "ClosureDeskModel" ({ cls := "ClosureDeskModel", name := "rate", desc := "(II)Z" } : Jvm.MethodName) ({ cls := "ClosureDeskModel", name := "rate", desc := "(II)Z" } : Jvm.MethodName)) ∈ lw_all := lw_g (lw_at lw_m1 180 rfl) rfl
theorem q194 : (Jvm.Cond.code ({ cls := "ClosureDeskModel", name := "rate", desc := "(II)Z" } : Jvm.MethodName) prog_3_method_6_code (3 : Nat) (Option.some Jvm.ClassFile.FieldType.boolean)) ∈ lw_all := lw_g (lw_at lw_m1 181 rfl) rfl
theorem q196 : (Jvm.Cond.instanceMethod ({ cls := "ClosureDeskModel", name := "need", desc := "(IIZ)Z" } : Jvm.MethodName)) ∈ lw_all := lw_g (lw_at lw_m1 183 rfl) rfl
theorem q197 : (Jvm.Cond.selects "ClosureDeskModel" ({ cls := "ClosureDeskModel", name := "need", desc := "(IIZ)Z" } : Jvm.MethodName) ({ cls := "ClosureDeskModel", name := "need", desc := "(IIZ)Z" } : Jvm.MethodName)) ∈ lw_all := lw_g (lw_at lw_m1 184 rfl) rfl
theorem q198 : (Jvm.Cond.code ({ cls := "ClosureDeskModel", name := "need", desc := "(IIZ)Z" } : Jvm.MethodName) prog_3_method_7_code (4 : Nat) (Option.some Jvm.ClassFile.FieldType.boolean)) ∈ lw_all := lw_g (lw_at lw_m1 185 rfl) rfl
theorem q200 : (Jvm.Cond.instanceMethod ({ cls := "ClosureDeskModel", name := "undertakings", desc := "()I" } : Jvm.MethodName)) ∈ lw_all := lw_g (lw_at lw_m1 187 rfl) rfl
theorem q201 : (Jvm.Cond.selects "ClosureDeskModel" ({ cls := "ClosureDeskModel", name := "undertakings", desc := "()I" } : Jvm.MethodName) ({ cls := "ClosureDeskModel", name := "undertakings", desc := "()I" } : Jvm.MethodName)) ∈ lw_all := lw_g (lw_at lw_m1 188 rfl) rfl
theorem q202 : (Jvm.Cond.code ({ cls := "ClosureDeskModel", name := "undertakings", desc := "()I" } : Jvm.MethodName) prog_3_method_8_code (3 : Nat) (Option.some Jvm.ClassFile.FieldType.int)) ∈ lw_all := lw_g (lw_at lw_m1 189 rfl) rfl
theorem q204 : (Jvm.Cond.instanceMethod ({ cls := "ClosureDeskModel", name := "closed", desc := "(I)Z" } : Jvm.MethodName)) ∈ lw_all := lw_g (lw_at lw_m1 191 rfl) rfl
theorem q205 : (Jvm.Cond.selects "ClosureDeskModel" ({ cls := "ClosureDeskModel", name := "closed", desc := "(I)Z" } : Jvm.MethodName) ({ cls := "ClosureDeskModel", name := "closed", desc := "(I)Z" } : Jvm.MethodName)) ∈ lw_all := lw_g (lw_at lw_m1 192 rfl) rfl
theorem q206 : (Jvm.Cond.code ({ cls := "ClosureDeskModel", name := "closed", desc := "(I)Z" } : Jvm.MethodName) prog_3_method_9_code (4 : Nat) (Option.some Jvm.ClassFile.FieldType.boolean)) ∈ lw_all := lw_g (lw_at lw_m1 193 rfl) rfl
theorem q207 : (Jvm.Cond.methodLink "ClosureDeskModel" (27 : Nat) ({ cls := "ClosureDeskModel", name := "undertakings", desc := "()I" } : Jvm.MethodName)) ∈ lw_all := lw_g (lw_at lw_m1 194 rfl) rfl
theorem q209 : (Jvm.Cond.instanceMethod ({ cls := "ClosureDeskModel", name := "closure", desc := "(I)I" } : Jvm.MethodName)) ∈ lw_all := lw_g (lw_at lw_m1 196 rfl) rfl
theorem q210 : (Jvm.Cond.selects "ClosureDeskModel" ({ cls := "ClosureDeskModel", name := "closure", desc := "(I)I" } : Jvm.MethodName) ({ cls := "ClosureDeskModel", name := "closure", desc := "(I)I" } : Jvm.MethodName)) ∈ lw_all := lw_g (lw_at lw_m1 197 rfl) rfl
theorem q211 : (Jvm.Cond.code ({ cls := "ClosureDeskModel", name := "closure", desc := "(I)I" } : Jvm.MethodName) prog_3_method_10_code (5 : Nat) (Option.some Jvm.ClassFile.FieldType.int)) ∈ lw_all := lw_g (lw_at lw_m1 198 rfl) rfl
theorem q212 : (Jvm.Cond.methodLink "ClosureDeskModel" (31 : Nat) ({ cls := "ClosureDeskModel", name := "closed", desc := "(I)Z" } : Jvm.MethodName)) ∈ lw_all := lw_g (lw_at lw_m1 199 rfl) rfl
theorem q214 : (Jvm.Cond.instanceMethod ({ cls := "ClosureDeskModel", name := "best", desc := "()I" } : Jvm.MethodName)) ∈ lw_all := lw_g (lw_at lw_m1 201 rfl) rfl
theorem q215 : (Jvm.Cond.selects "ClosureDeskModel" ({ cls := "ClosureDeskModel", name := "best", desc := "()I" } : Jvm.MethodName) ({ cls := "ClosureDeskModel", name := "best", desc := "()I" } : Jvm.MethodName)) ∈ lw_all := lw_g (lw_at lw_m1 202 rfl) rfl
theorem q216 : (Jvm.Cond.code ({ cls := "ClosureDeskModel", name := "best", desc := "()I" } : Jvm.MethodName) prog_3_method_13_code (1 : Nat) (Option.some Jvm.ClassFile.FieldType.int)) ∈ lw_all := lw_g (lw_at lw_m1 203 rfl) rfl
theorem q217 : (Jvm.Cond.methodLink "ClosureDeskModel" (39 : Nat) ({ cls := "ClosureDeskModel", name := "greatest", desc := "(II)I" } : Jvm.MethodName)) ∈ lw_all := lw_g (lw_at lw_m1 204 rfl) rfl
theorem q218 : (Jvm.Cond.privateMethod ({ cls := "ClosureDeskModel", name := "greatest", desc := "(II)I" } : Jvm.MethodName)) ∈ lw_tbl := lw_at lw_m1 205 rfl
theorem q219 : (Jvm.Cond.instanceMethod ({ cls := "ClosureDeskModel", name := "greatest", desc := "(II)I" } : Jvm.MethodName)) ∈ lw_all := lw_g (lw_at lw_m1 206 rfl) rfl
theorem q220 : (Jvm.Cond.code ({ cls := "ClosureDeskModel", name := "greatest", desc := "(II)I" } : Jvm.MethodName) prog_3_method_12_code (6 : Nat) (Option.some Jvm.ClassFile.FieldType.int)) ∈ lw_all := lw_g (lw_at lw_m1 207 rfl) rfl
theorem q221 : (Jvm.Cond.constant "ClosureDeskModel" (34 : Nat) (-100000 : Int32)) ∈ lw_all := lw_g (lw_at lw_m1 208 rfl) rfl
theorem q222 : (Jvm.Cond.methodLink "ClosureDeskModel" (35 : Nat) ({ cls := "ClosureDeskModel", name := "sum", desc := "(I)I" } : Jvm.MethodName)) ∈ lw_all := lw_g (lw_at lw_m1 209 rfl) rfl
theorem q223 : (Jvm.Cond.privateMethod ({ cls := "ClosureDeskModel", name := "sum", desc := "(I)I" } : Jvm.MethodName)) ∈ lw_tbl := lw_at lw_m1 210 rfl
theorem q224 : (Jvm.Cond.instanceMethod ({ cls := "ClosureDeskModel", name := "sum", desc := "(I)I" } : Jvm.MethodName)) ∈ lw_all := lw_g (lw_at lw_m1 211 rfl) rfl
theorem q225 : (Jvm.Cond.code ({ cls := "ClosureDeskModel", name := "sum", desc := "(I)I" } : Jvm.MethodName) prog_3_method_11_code (4 : Nat) (Option.some Jvm.ClassFile.FieldType.int)) ∈ lw_all := lw_g (lw_at lw_m1 212 rfl) rfl
theorem q227 : (Jvm.Cond.instanceMethod ({ cls := "ClosureDeskModel", name := "leastBest", desc := "()I" } : Jvm.MethodName)) ∈ lw_all := lw_g (lw_at lw_m1 214 rfl) rfl
theorem q228 : (Jvm.Cond.selects "ClosureDeskModel" ({ cls := "ClosureDeskModel", name := "leastBest", desc := "()I" } : Jvm.MethodName) ({ cls := "ClosureDeskModel", name := "leastBest", desc := "()I" } : Jvm.MethodName)) ∈ lw_all := lw_g (lw_at lw_m1 215 rfl) rfl
theorem q229 : (Jvm.Cond.code ({ cls := "ClosureDeskModel", name := "leastBest", desc := "()I" } : Jvm.MethodName) prog_3_method_14_code (4 : Nat) (Option.some Jvm.ClassFile.FieldType.int)) ∈ lw_all := lw_g (lw_at lw_m1 216 rfl) rfl
theorem q230 : (Jvm.Cond.methodLink "ClosureDeskModel" (43 : Nat) ({ cls := "ClosureDeskModel", name := "best", desc := "()I" } : Jvm.MethodName)) ∈ lw_all := lw_g (lw_at lw_m1 217 rfl) rfl
theorem q232 : (Jvm.Cond.instanceMethod ({ cls := "ClosureDeskModel", name := "greatestBest", desc := "()I" } : Jvm.MethodName)) ∈ lw_all := lw_g (lw_at lw_m1 219 rfl) rfl
theorem q233 : (Jvm.Cond.selects "ClosureDeskModel" ({ cls := "ClosureDeskModel", name := "greatestBest", desc := "()I" } : Jvm.MethodName) ({ cls := "ClosureDeskModel", name := "greatestBest", desc := "()I" } : Jvm.MethodName)) ∈ lw_all := lw_g (lw_at lw_m1 220 rfl) rfl
theorem q234 : (Jvm.Cond.code ({ cls := "ClosureDeskModel", name := "greatestBest", desc := "()I" } : Jvm.MethodName) prog_3_method_15_code (4 : Nat) (Option.some Jvm.ClassFile.FieldType.int)) ∈ lw_all := lw_g (lw_at lw_m1 221 rfl) rfl
theorem q236 : (Jvm.Cond.instanceMethod ({ cls := "ClosureDeskModel", name := "bestWith", desc := "(I)I" } : Jvm.MethodName)) ∈ lw_all := lw_g (lw_at lw_m1 223 rfl) rfl
theorem q237 : (Jvm.Cond.selects "ClosureDeskModel" ({ cls := "ClosureDeskModel", name := "bestWith", desc := "(I)I" } : Jvm.MethodName) ({ cls := "ClosureDeskModel", name := "bestWith", desc := "(I)I" } : Jvm.MethodName)) ∈ lw_all := lw_g (lw_at lw_m1 224 rfl) rfl
theorem q238 : (Jvm.Cond.code ({ cls := "ClosureDeskModel", name := "bestWith", desc := "(I)I" } : Jvm.MethodName) prog_3_method_16_code (2 : Nat) (Option.some Jvm.ClassFile.FieldType.int)) ∈ lw_all := lw_g (lw_at lw_m1 225 rfl) rfl
theorem q240 : (Jvm.Cond.instanceMethod ({ cls := "ClosureDeskModel", name := "bestWithout", desc := "(I)I" } : Jvm.MethodName)) ∈ lw_all := lw_g (lw_at lw_m1 227 rfl) rfl
theorem q241 : (Jvm.Cond.selects "ClosureDeskModel" ({ cls := "ClosureDeskModel", name := "bestWithout", desc := "(I)I" } : Jvm.MethodName) ({ cls := "ClosureDeskModel", name := "bestWithout", desc := "(I)I" } : Jvm.MethodName)) ∈ lw_all := lw_g (lw_at lw_m1 228 rfl) rfl
theorem q242 : (Jvm.Cond.code ({ cls := "ClosureDeskModel", name := "bestWithout", desc := "(I)I" } : Jvm.MethodName) prog_3_method_17_code (2 : Nat) (Option.some Jvm.ClassFile.FieldType.int)) ∈ lw_all := lw_g (lw_at lw_m1 229 rfl) rfl
theorem q244 : (Jvm.Cond.instanceMethod ({ cls := "ClosureDeskModel", name := "threshold", desc := "(I)I" } : Jvm.MethodName)) ∈ lw_all := lw_g (lw_at lw_m1 231 rfl) rfl
theorem q245 : (Jvm.Cond.selects "ClosureDeskModel" ({ cls := "ClosureDeskModel", name := "threshold", desc := "(I)I" } : Jvm.MethodName) ({ cls := "ClosureDeskModel", name := "threshold", desc := "(I)I" } : Jvm.MethodName)) ∈ lw_all := lw_g (lw_at lw_m1 232 rfl) rfl
theorem q246 : (Jvm.Cond.code ({ cls := "ClosureDeskModel", name := "threshold", desc := "(I)I" } : Jvm.MethodName) prog_3_method_18_code (5 : Nat) (Option.some Jvm.ClassFile.FieldType.int)) ∈ lw_all := lw_g (lw_at lw_m1 233 rfl) rfl
theorem q247 : (Jvm.Cond.methodLink "ClosureDeskModel" (46 : Nat) ({ cls := "ClosureDeskModel", name := "bestWith", desc := "(I)I" } : Jvm.MethodName)) ∈ lw_all := lw_g (lw_at lw_m1 234 rfl) rfl
theorem q249 : (Jvm.Cond.instanceMethod ({ cls := "ClosureDeskModel", name := "burden", desc := "(II)I" } : Jvm.MethodName)) ∈ lw_all := lw_g (lw_at lw_m1 236 rfl) rfl
theorem q250 : (Jvm.Cond.selects "ClosureDeskModel" ({ cls := "ClosureDeskModel", name := "burden", desc := "(II)I" } : Jvm.MethodName) ({ cls := "ClosureDeskModel", name := "burden", desc := "(II)I" } : Jvm.MethodName)) ∈ lw_all := lw_g (lw_at lw_m1 237 rfl) rfl
theorem q251 : (Jvm.Cond.code ({ cls := "ClosureDeskModel", name := "burden", desc := "(II)I" } : Jvm.MethodName) prog_3_method_19_code (6 : Nat) (Option.some Jvm.ClassFile.FieldType.int)) ∈ lw_all := lw_g (lw_at lw_m1 238 rfl) rfl
theorem q253 : (Jvm.Cond.instanceMethod ({ cls := "ClosureDeskModel", name := "choices", desc := "()I" } : Jvm.MethodName)) ∈ lw_all := lw_g (lw_at lw_m2 0 rfl) rfl
theorem q254 : (Jvm.Cond.selects "ClosureDeskModel" ({ cls := "ClosureDeskModel", name := "choices", desc := "()I" } : Jvm.MethodName) ({ cls := "ClosureDeskModel", name := "choices", desc := "()I" } : Jvm.MethodName)) ∈ lw_all := lw_g (lw_at lw_m2 1 rfl) rfl
theorem q255 : (Jvm.Cond.code ({ cls := "ClosureDeskModel", name := "choices", desc := "()I" } : Jvm.MethodName) prog_3_method_20_code (4 : Nat) (Option.some Jvm.ClassFile.FieldType.int)) ∈ lw_all := lw_g (lw_at lw_m2 2 rfl) rfl
theorem in_X1 : ∀ w ∈ wsX10, w ∈ lw_all := lw_in wsX10 [167, 169, 171] (by decide +kernel) (by decide +kernel)
theorem q13 : (Jvm.Cond.initialized "ClosureDeskLaw") ∈ lw_all := lw_g (lw_at lw_m1 0 rfl) rfl
theorem q16 : (Jvm.Cond.classLink "ClosureDeskLaw" (7 : Nat) "ClosureDesk") ∈ lw_all := lw_g (lw_at lw_m1 3 rfl) rfl
theorem q18 : (Jvm.Cond.methodLink "ClosureDeskLaw" (9 : Nat) ({ cls := "ClosureDesk", name := "<init>", desc := "()V" } : Jvm.MethodName)) ∈ lw_all := lw_g (lw_at lw_m1 5 rfl) rfl
theorem q52 : (Jvm.Cond.methodLink "ClosureDeskLaw" (13 : Nat) ({ cls := "ClosureDesk", name := "add", desc := "(I)I" } : Jvm.MethodName)) ∈ lw_all := lw_g (lw_at lw_m1 39 rfl) rfl
theorem q63 : (Jvm.Cond.methodLink "ClosureDeskLaw" (18 : Nat) ({ cls := "ClosureDesk", name := "remove", desc := "(I)Z" } : Jvm.MethodName)) ∈ lw_all := lw_g (lw_at lw_m1 50 rfl) rfl
theorem q67 : (Jvm.Cond.methodLink "ClosureDeskLaw" (23 : Nat) ({ cls := "ClosureDesk", name := "rate", desc := "(II)Z" } : Jvm.MethodName)) ∈ lw_all := lw_g (lw_at lw_m1 54 rfl) rfl
theorem q71 : (Jvm.Cond.methodLink "ClosureDeskLaw" (28 : Nat) ({ cls := "ClosureDesk", name := "need", desc := "(IIZ)Z" } : Jvm.MethodName)) ∈ lw_all := lw_g (lw_at lw_m1 58 rfl) rfl
theorem q75 : (Jvm.Cond.methodLink "ClosureDeskLaw" (33 : Nat) ({ cls := "ClosureDesk", name := "undertakings", desc := "()I" } : Jvm.MethodName)) ∈ lw_all := lw_g (lw_at lw_m1 62 rfl) rfl
theorem q79 : (Jvm.Cond.methodLink "ClosureDeskLaw" (38 : Nat) ({ cls := "ClosureDesk", name := "closed", desc := "(I)Z" } : Jvm.MethodName)) ∈ lw_all := lw_g (lw_at lw_m1 66 rfl) rfl
theorem q86 : (Jvm.Cond.methodLink "ClosureDeskLaw" (42 : Nat) ({ cls := "ClosureDesk", name := "closure", desc := "(I)I" } : Jvm.MethodName)) ∈ lw_all := lw_g (lw_at lw_m1 73 rfl) rfl
theorem q90 : (Jvm.Cond.methodLink "ClosureDeskLaw" (46 : Nat) ({ cls := "ClosureDesk", name := "best", desc := "()I" } : Jvm.MethodName)) ∈ lw_all := lw_g (lw_at lw_m1 77 rfl) rfl
theorem q111 : (Jvm.Cond.methodLink "ClosureDeskLaw" (50 : Nat) ({ cls := "ClosureDesk", name := "leastBest", desc := "()I" } : Jvm.MethodName)) ∈ lw_all := lw_g (lw_at lw_m1 98 rfl) rfl
theorem q115 : (Jvm.Cond.methodLink "ClosureDeskLaw" (54 : Nat) ({ cls := "ClosureDesk", name := "greatestBest", desc := "()I" } : Jvm.MethodName)) ∈ lw_all := lw_g (lw_at lw_m1 102 rfl) rfl
theorem q123 : (Jvm.Cond.methodLink "ClosureDeskLaw" (58 : Nat) ({ cls := "ClosureDesk", name := "bestWith", desc := "(I)I" } : Jvm.MethodName)) ∈ lw_all := lw_g (lw_at lw_m1 110 rfl) rfl
theorem q132 : (Jvm.Cond.methodLink "ClosureDeskLaw" (62 : Nat) ({ cls := "ClosureDesk", name := "bestWithout", desc := "(I)I" } : Jvm.MethodName)) ∈ lw_all := lw_g (lw_at lw_m1 119 rfl) rfl
theorem q141 : (Jvm.Cond.methodLink "ClosureDeskLaw" (66 : Nat) ({ cls := "ClosureDesk", name := "threshold", desc := "(I)I" } : Jvm.MethodName)) ∈ lw_all := lw_g (lw_at lw_m1 128 rfl) rfl
theorem q145 : (Jvm.Cond.methodLink "ClosureDeskLaw" (70 : Nat) ({ cls := "ClosureDesk", name := "burden", desc := "(II)I" } : Jvm.MethodName)) ∈ lw_all := lw_g (lw_at lw_m1 132 rfl) rfl
theorem q150 : (Jvm.Cond.methodLink "ClosureDeskLaw" (75 : Nat) ({ cls := "ClosureDesk", name := "choices", desc := "()I" } : Jvm.MethodName)) ∈ lw_all := lw_g (lw_at lw_m1 137 rfl) rfl
theorem q158 : (Jvm.Cond.classLink "ClosureDeskLaw" (10 : Nat) "ClosureDeskModel") ∈ lw_all := lw_g (lw_at lw_m1 145 rfl) rfl
theorem q160 : (Jvm.Cond.methodLink "ClosureDeskLaw" (12 : Nat) ({ cls := "ClosureDeskModel", name := "<init>", desc := "()V" } : Jvm.MethodName)) ∈ lw_all := lw_g (lw_at lw_m1 147 rfl) rfl
theorem q175 : (Jvm.Cond.methodLink "ClosureDeskLaw" (17 : Nat) ({ cls := "ClosureDeskModel", name := "add", desc := "(I)I" } : Jvm.MethodName)) ∈ lw_all := lw_g (lw_at lw_m1 162 rfl) rfl
theorem q183 : (Jvm.Cond.methodLink "ClosureDeskLaw" (22 : Nat) ({ cls := "ClosureDeskModel", name := "remove", desc := "(I)Z" } : Jvm.MethodName)) ∈ lw_all := lw_g (lw_at lw_m1 170 rfl) rfl
theorem q191 : (Jvm.Cond.methodLink "ClosureDeskLaw" (27 : Nat) ({ cls := "ClosureDeskModel", name := "rate", desc := "(II)Z" } : Jvm.MethodName)) ∈ lw_all := lw_g (lw_at lw_m1 178 rfl) rfl
theorem q195 : (Jvm.Cond.methodLink "ClosureDeskLaw" (32 : Nat) ({ cls := "ClosureDeskModel", name := "need", desc := "(IIZ)Z" } : Jvm.MethodName)) ∈ lw_all := lw_g (lw_at lw_m1 182 rfl) rfl
theorem q199 : (Jvm.Cond.methodLink "ClosureDeskLaw" (37 : Nat) ({ cls := "ClosureDeskModel", name := "undertakings", desc := "()I" } : Jvm.MethodName)) ∈ lw_all := lw_g (lw_at lw_m1 186 rfl) rfl
theorem q203 : (Jvm.Cond.methodLink "ClosureDeskLaw" (41 : Nat) ({ cls := "ClosureDeskModel", name := "closed", desc := "(I)Z" } : Jvm.MethodName)) ∈ lw_all := lw_g (lw_at lw_m1 190 rfl) rfl
theorem q208 : (Jvm.Cond.methodLink "ClosureDeskLaw" (45 : Nat) ({ cls := "ClosureDeskModel", name := "closure", desc := "(I)I" } : Jvm.MethodName)) ∈ lw_all := lw_g (lw_at lw_m1 195 rfl) rfl
theorem q213 : (Jvm.Cond.methodLink "ClosureDeskLaw" (49 : Nat) ({ cls := "ClosureDeskModel", name := "best", desc := "()I" } : Jvm.MethodName)) ∈ lw_all := lw_g (lw_at lw_m1 200 rfl) rfl
theorem q226 : (Jvm.Cond.methodLink "ClosureDeskLaw" (53 : Nat) ({ cls := "ClosureDeskModel", name := "leastBest", desc := "()I" } : Jvm.MethodName)) ∈ lw_all := lw_g (lw_at lw_m1 213 rfl) rfl
theorem q231 : (Jvm.Cond.methodLink "ClosureDeskLaw" (57 : Nat) ({ cls := "ClosureDeskModel", name := "greatestBest", desc := "()I" } : Jvm.MethodName)) ∈ lw_all := lw_g (lw_at lw_m1 218 rfl) rfl
theorem q235 : (Jvm.Cond.methodLink "ClosureDeskLaw" (61 : Nat) ({ cls := "ClosureDeskModel", name := "bestWith", desc := "(I)I" } : Jvm.MethodName)) ∈ lw_all := lw_g (lw_at lw_m1 222 rfl) rfl
theorem q239 : (Jvm.Cond.methodLink "ClosureDeskLaw" (65 : Nat) ({ cls := "ClosureDeskModel", name := "bestWithout", desc := "(I)I" } : Jvm.MethodName)) ∈ lw_all := lw_g (lw_at lw_m1 226 rfl) rfl
theorem q243 : (Jvm.Cond.methodLink "ClosureDeskLaw" (69 : Nat) ({ cls := "ClosureDeskModel", name := "threshold", desc := "(I)I" } : Jvm.MethodName)) ∈ lw_all := lw_g (lw_at lw_m1 230 rfl) rfl
theorem q248 : (Jvm.Cond.methodLink "ClosureDeskLaw" (74 : Nat) ({ cls := "ClosureDeskModel", name := "burden", desc := "(II)I" } : Jvm.MethodName)) ∈ lw_all := lw_g (lw_at lw_m1 235 rfl) rfl
theorem q252 : (Jvm.Cond.methodLink "ClosureDeskLaw" (78 : Nat) ({ cls := "ClosureDeskModel", name := "choices", desc := "()I" } : Jvm.MethodName)) ∈ lw_all := lw_g (lw_at lw_m1 239 rfl) rfl
theorem q49 : (Jvm.Cond.arrayClass Jvm.ClassFile.FieldType.byte) ∈ lw_all := lw_g (lw_at lw_m1 36 rfl) rfl
theorem q50 : (Jvm.Cond.arrayClass Jvm.ClassFile.FieldType.short) ∈ lw_all := lw_g (lw_at lw_m1 37 rfl) rfl
theorem q51 : (Jvm.Cond.arrayClass Jvm.ClassFile.FieldType.int) ∈ lw_all := lw_g (lw_at lw_m1 38 rfl) rfl
theorem q174 : (Jvm.Cond.arrayClass Jvm.ClassFile.FieldType.boolean) ∈ lw_all := lw_g (lw_at lw_m1 161 rfl) rfl
abbrev cL_law : ByteArray := code
end
section
/-! decode rows (claim/names) -/
set_option maxRecDepth 100000
theorem dX0_init_0 : decode cX0_init 0 = .ok (.aload_n 0, 1) := by decide +kernel
theorem dX0_init_1 : decode cX0_init 1 = .ok (.invokespecial 1, 3) := by decide +kernel
theorem dX0_init_4 : decode cX0_init 4 = .ok (.aload_n 0, 1) := by decide +kernel
theorem dX0_init_5 : decode cX0_init 5 = .ok (.bipush 9, 2) := by decide +kernel
theorem dX0_init_7 : decode cX0_init 7 = .ok (.newarray .byte, 2) := by decide +kernel
theorem dX0_init_9 : decode cX0_init 9 = .ok (.putfield 7, 3) := by decide +kernel
theorem dX0_init_12 : decode cX0_init 12 = .ok (.aload_n 0, 1) := by decide +kernel
theorem dX0_init_13 : decode cX0_init 13 = .ok (.bipush 9, 2) := by decide +kernel
theorem dX0_init_15 : decode cX0_init 15 = .ok (.newarray .short, 2) := by decide +kernel
theorem dX0_init_17 : decode cX0_init 17 = .ok (.putfield 13, 3) := by decide +kernel
theorem dX0_init_20 : decode cX0_init 20 = .ok (.aload_n 0, 1) := by decide +kernel
theorem dX0_init_21 : decode cX0_init 21 = .ok (.bipush 9, 2) := by decide +kernel
theorem dX0_init_23 : decode cX0_init 23 = .ok (.newarray .int, 2) := by decide +kernel
theorem dX0_init_25 : decode cX0_init 25 = .ok (.putfield 17, 3) := by decide +kernel
theorem dX0_init_28 : decode cX0_init 28 = .ok (.aload_n 0, 1) := by decide +kernel
theorem dX0_init_29 : decode cX0_init 29 = .ok (.bipush 121, 2) := by decide +kernel
theorem dX0_init_31 : decode cX0_init 31 = .ok (.newarray .int, 2) := by decide +kernel
theorem dX0_init_33 : decode cX0_init 33 = .ok (.putfield 21, 3) := by decide +kernel
theorem dX0_init_36 : decode cX0_init 36 = .ok (.aload_n 0, 1) := by decide +kernel
theorem dX0_init_37 : decode cX0_init 37 = .ok (.bipush 11, 2) := by decide +kernel
theorem dX0_init_39 : decode cX0_init 39 = .ok (.newarray .byte, 2) := by decide +kernel
theorem dX0_init_41 : decode cX0_init 41 = .ok (.putfield 24, 3) := by decide +kernel
theorem dX0_init_44 : decode cX0_init 44 = .ok (.aload_n 0, 1) := by decide +kernel
theorem dX0_init_45 : decode cX0_init 45 = .ok (.bipush 12, 2) := by decide +kernel
theorem dX0_init_47 : decode cX0_init 47 = .ok (.newarray .byte, 2) := by decide +kernel
theorem dX0_init_49 : decode cX0_init 49 = .ok (.putfield 27, 3) := by decide +kernel
theorem dX0_init_52 : decode cX0_init 52 = .ok (.return_, 1) := by decide +kernel
theorem dX0_add_0 : decode cX0_add 0 = .ok (.iload_n 1, 1) := by decide +kernel
theorem dX0_add_1 : decode cX0_add 1 = .ok (.invokestatic 34, 3) := by decide +kernel
theorem dX0_add_4 : decode cX0_add 4 = .ok (.ifCond .ne 5, 3) := by decide +kernel
theorem dX0_add_7 : decode cX0_add 7 = .ok (.iconst (-1), 1) := by decide +kernel
theorem dX0_add_8 : decode cX0_add 8 = .ok (.ireturn, 1) := by decide +kernel
theorem dX0_add_9 : decode cX0_add 9 = .ok (.iconst 0, 1) := by decide +kernel
theorem dX0_add_10 : decode cX0_add 10 = .ok (.istore_n 2, 1) := by decide +kernel
theorem dX0_add_11 : decode cX0_add 11 = .ok (.iload_n 2, 1) := by decide +kernel
theorem dX0_add_12 : decode cX0_add 12 = .ok (.bipush 9, 2) := by decide +kernel
theorem dX0_add_14 : decode cX0_add 14 = .ok (.if_icmp .ge 46, 3) := by decide +kernel
theorem dX0_add_17 : decode cX0_add 17 = .ok (.aload_n 0, 1) := by decide +kernel
theorem dX0_add_18 : decode cX0_add 18 = .ok (.iload_n 2, 1) := by decide +kernel
theorem dX0_add_19 : decode cX0_add 19 = .ok (.invokevirtual 38, 3) := by decide +kernel
theorem dX0_add_22 : decode cX0_add 22 = .ok (.ifCond .ne 32, 3) := by decide +kernel
theorem dX0_add_25 : decode cX0_add 25 = .ok (.aload_n 0, 1) := by decide +kernel
theorem dX0_add_26 : decode cX0_add 26 = .ok (.dup, 1) := by decide +kernel
theorem dX0_add_27 : decode cX0_add 27 = .ok (.getfield 30, 3) := by decide +kernel
theorem dX0_add_30 : decode cX0_add 30 = .ok (.iconst 1, 1) := by decide +kernel
theorem dX0_add_31 : decode cX0_add 31 = .ok (.iload_n 2, 1) := by decide +kernel
theorem dX0_add_32 : decode cX0_add 32 = .ok (.ishl, 1) := by decide +kernel
theorem dX0_add_33 : decode cX0_add 33 = .ok (.ior, 1) := by decide +kernel
theorem dX0_add_34 : decode cX0_add 34 = .ok (.putfield 30, 3) := by decide +kernel
theorem dX0_add_37 : decode cX0_add 37 = .ok (.aload_n 0, 1) := by decide +kernel
theorem dX0_add_38 : decode cX0_add 38 = .ok (.getfield 7, 3) := by decide +kernel
theorem dX0_add_41 : decode cX0_add 41 = .ok (.iload_n 2, 1) := by decide +kernel
theorem dX0_add_42 : decode cX0_add 42 = .ok (.iload_n 1, 1) := by decide +kernel
theorem dX0_add_43 : decode cX0_add 43 = .ok (.i2b, 1) := by decide +kernel
theorem dX0_add_44 : decode cX0_add 44 = .ok (.bastore, 1) := by decide +kernel
theorem dX0_add_45 : decode cX0_add 45 = .ok (.aload_n 0, 1) := by decide +kernel
theorem dX0_add_46 : decode cX0_add 46 = .ok (.getfield 13, 3) := by decide +kernel
theorem dX0_add_49 : decode cX0_add 49 = .ok (.iload_n 2, 1) := by decide +kernel
theorem dX0_add_50 : decode cX0_add 50 = .ok (.iconst 0, 1) := by decide +kernel
theorem dX0_add_51 : decode cX0_add 51 = .ok (.sastore, 1) := by decide +kernel
theorem dX0_add_52 : decode cX0_add 52 = .ok (.iload_n 2, 1) := by decide +kernel
theorem dX0_add_53 : decode cX0_add 53 = .ok (.ireturn, 1) := by decide +kernel
theorem dX0_add_54 : decode cX0_add 54 = .ok (.iinc 2 1, 3) := by decide +kernel
theorem dX0_add_57 : decode cX0_add 57 = .ok (.goto (-46), 3) := by decide +kernel
theorem dX0_add_60 : decode cX0_add 60 = .ok (.bipush (-2), 2) := by decide +kernel
theorem dX0_add_62 : decode cX0_add 62 = .ok (.ireturn, 1) := by decide +kernel
theorem dX0_isWorth_0 : decode cX0_isWorth 0 = .ok (.iload_n 0, 1) := by decide +kernel
theorem dX0_isWorth_1 : decode cX0_isWorth 1 = .ok (.bipush (-50), 2) := by decide +kernel
theorem dX0_isWorth_3 : decode cX0_isWorth 3 = .ok (.if_icmp .lt 13, 3) := by decide +kernel
theorem dX0_isWorth_6 : decode cX0_isWorth 6 = .ok (.iload_n 0, 1) := by decide +kernel
theorem dX0_isWorth_7 : decode cX0_isWorth 7 = .ok (.bipush 50, 2) := by decide +kernel
theorem dX0_isWorth_9 : decode cX0_isWorth 9 = .ok (.if_icmp .gt 7, 3) := by decide +kernel
theorem dX0_isWorth_12 : decode cX0_isWorth 12 = .ok (.iconst 1, 1) := by decide +kernel
theorem dX0_isWorth_13 : decode cX0_isWorth 13 = .ok (.goto 4, 3) := by decide +kernel
theorem dX0_isWorth_16 : decode cX0_isWorth 16 = .ok (.iconst 0, 1) := by decide +kernel
theorem dX0_isWorth_17 : decode cX0_isWorth 17 = .ok (.ireturn, 1) := by decide +kernel
theorem dX0_has_0 : decode cX0_has 0 = .ok (.iload_n 1, 1) := by decide +kernel
theorem dX0_has_1 : decode cX0_has 1 = .ok (.ifCond .lt 24, 3) := by decide +kernel
theorem dX0_has_4 : decode cX0_has 4 = .ok (.iload_n 1, 1) := by decide +kernel
theorem dX0_has_5 : decode cX0_has 5 = .ok (.bipush 9, 2) := by decide +kernel
theorem dX0_has_7 : decode cX0_has 7 = .ok (.if_icmp .ge 18, 3) := by decide +kernel
theorem dX0_has_10 : decode cX0_has 10 = .ok (.aload_n 0, 1) := by decide +kernel
theorem dX0_has_11 : decode cX0_has 11 = .ok (.getfield 30, 3) := by decide +kernel
theorem dX0_has_14 : decode cX0_has 14 = .ok (.iload_n 1, 1) := by decide +kernel
theorem dX0_has_15 : decode cX0_has 15 = .ok (.ishr, 1) := by decide +kernel
theorem dX0_has_16 : decode cX0_has 16 = .ok (.iconst 1, 1) := by decide +kernel
theorem dX0_has_17 : decode cX0_has 17 = .ok (.iand, 1) := by decide +kernel
theorem dX0_has_18 : decode cX0_has 18 = .ok (.ifCond .eq 7, 3) := by decide +kernel
theorem dX0_has_21 : decode cX0_has 21 = .ok (.iconst 1, 1) := by decide +kernel
theorem dX0_has_22 : decode cX0_has 22 = .ok (.goto 4, 3) := by decide +kernel
theorem dX0_has_25 : decode cX0_has 25 = .ok (.iconst 0, 1) := by decide +kernel
theorem dX0_has_26 : decode cX0_has 26 = .ok (.ireturn, 1) := by decide +kernel
theorem dX0_remove_0 : decode cX0_remove 0 = .ok (.aload_n 0, 1) := by decide +kernel
theorem dX0_remove_1 : decode cX0_remove 1 = .ok (.iload_n 1, 1) := by decide +kernel
theorem dX0_remove_2 : decode cX0_remove 2 = .ok (.invokevirtual 38, 3) := by decide +kernel
theorem dX0_remove_5 : decode cX0_remove 5 = .ok (.ifCond .ne 5, 3) := by decide +kernel
theorem dX0_remove_8 : decode cX0_remove 8 = .ok (.iconst 0, 1) := by decide +kernel
theorem dX0_remove_9 : decode cX0_remove 9 = .ok (.ireturn, 1) := by decide +kernel
theorem dX0_remove_10 : decode cX0_remove 10 = .ok (.aload_n 0, 1) := by decide +kernel
theorem dX0_remove_11 : decode cX0_remove 11 = .ok (.dup, 1) := by decide +kernel
theorem dX0_remove_12 : decode cX0_remove 12 = .ok (.getfield 30, 3) := by decide +kernel
theorem dX0_remove_15 : decode cX0_remove 15 = .ok (.iconst 1, 1) := by decide +kernel
theorem dX0_remove_16 : decode cX0_remove 16 = .ok (.iload_n 1, 1) := by decide +kernel
theorem dX0_remove_17 : decode cX0_remove 17 = .ok (.ishl, 1) := by decide +kernel
theorem dX0_remove_18 : decode cX0_remove 18 = .ok (.iconst (-1), 1) := by decide +kernel
theorem dX0_remove_19 : decode cX0_remove 19 = .ok (.ixor, 1) := by decide +kernel
theorem dX0_remove_20 : decode cX0_remove 20 = .ok (.iand, 1) := by decide +kernel
theorem dX0_remove_21 : decode cX0_remove 21 = .ok (.putfield 30, 3) := by decide +kernel
theorem dX0_remove_24 : decode cX0_remove 24 = .ok (.iconst 0, 1) := by decide +kernel
theorem dX0_remove_25 : decode cX0_remove 25 = .ok (.istore_n 2, 1) := by decide +kernel
theorem dX0_remove_26 : decode cX0_remove 26 = .ok (.iload_n 2, 1) := by decide +kernel
theorem dX0_remove_27 : decode cX0_remove 27 = .ok (.bipush 9, 2) := by decide +kernel
theorem dX0_remove_29 : decode cX0_remove 29 = .ok (.if_icmp .ge 28, 3) := by decide +kernel
theorem dX0_remove_32 : decode cX0_remove 32 = .ok (.aload_n 0, 1) := by decide +kernel
theorem dX0_remove_33 : decode cX0_remove 33 = .ok (.getfield 13, 3) := by decide +kernel
theorem dX0_remove_36 : decode cX0_remove 36 = .ok (.iload_n 2, 1) := by decide +kernel
theorem dX0_remove_37 : decode cX0_remove 37 = .ok (.aload_n 0, 1) := by decide +kernel
theorem dX0_remove_38 : decode cX0_remove 38 = .ok (.getfield 13, 3) := by decide +kernel
theorem dX0_remove_41 : decode cX0_remove 41 = .ok (.iload_n 2, 1) := by decide +kernel
theorem dX0_remove_42 : decode cX0_remove 42 = .ok (.saload, 1) := by decide +kernel
theorem dX0_remove_43 : decode cX0_remove 43 = .ok (.iconst 1, 1) := by decide +kernel
theorem dX0_remove_44 : decode cX0_remove 44 = .ok (.iload_n 1, 1) := by decide +kernel
theorem dX0_remove_45 : decode cX0_remove 45 = .ok (.ishl, 1) := by decide +kernel
theorem dX0_remove_46 : decode cX0_remove 46 = .ok (.iconst (-1), 1) := by decide +kernel
theorem dX0_remove_47 : decode cX0_remove 47 = .ok (.ixor, 1) := by decide +kernel
theorem dX0_remove_48 : decode cX0_remove 48 = .ok (.iand, 1) := by decide +kernel
theorem dX0_remove_49 : decode cX0_remove 49 = .ok (.i2s, 1) := by decide +kernel
theorem dX0_remove_50 : decode cX0_remove 50 = .ok (.sastore, 1) := by decide +kernel
theorem dX0_remove_51 : decode cX0_remove 51 = .ok (.iinc 2 1, 3) := by decide +kernel
theorem dX0_remove_54 : decode cX0_remove 54 = .ok (.goto (-28), 3) := by decide +kernel
theorem dX0_remove_57 : decode cX0_remove 57 = .ok (.iconst 1, 1) := by decide +kernel
theorem dX0_remove_58 : decode cX0_remove 58 = .ok (.ireturn, 1) := by decide +kernel
theorem dX0_rate_0 : decode cX0_rate 0 = .ok (.aload_n 0, 1) := by decide +kernel
theorem dX0_rate_1 : decode cX0_rate 1 = .ok (.iload_n 1, 1) := by decide +kernel
theorem dX0_rate_2 : decode cX0_rate 2 = .ok (.invokevirtual 38, 3) := by decide +kernel
theorem dX0_rate_5 : decode cX0_rate 5 = .ok (.ifCond .eq 10, 3) := by decide +kernel
theorem dX0_rate_8 : decode cX0_rate 8 = .ok (.iload_n 2, 1) := by decide +kernel
theorem dX0_rate_9 : decode cX0_rate 9 = .ok (.invokestatic 34, 3) := by decide +kernel
theorem dX0_rate_12 : decode cX0_rate 12 = .ok (.ifCond .ne 5, 3) := by decide +kernel
theorem dX0_rate_15 : decode cX0_rate 15 = .ok (.iconst 0, 1) := by decide +kernel
theorem dX0_rate_16 : decode cX0_rate 16 = .ok (.ireturn, 1) := by decide +kernel
theorem dX0_rate_17 : decode cX0_rate 17 = .ok (.aload_n 0, 1) := by decide +kernel
theorem dX0_rate_18 : decode cX0_rate 18 = .ok (.getfield 7, 3) := by decide +kernel
theorem dX0_rate_21 : decode cX0_rate 21 = .ok (.iload_n 1, 1) := by decide +kernel
theorem dX0_rate_22 : decode cX0_rate 22 = .ok (.iload_n 2, 1) := by decide +kernel
theorem dX0_rate_23 : decode cX0_rate 23 = .ok (.i2b, 1) := by decide +kernel
theorem dX0_rate_24 : decode cX0_rate 24 = .ok (.bastore, 1) := by decide +kernel
theorem dX0_rate_25 : decode cX0_rate 25 = .ok (.iconst 1, 1) := by decide +kernel
theorem dX0_rate_26 : decode cX0_rate 26 = .ok (.ireturn, 1) := by decide +kernel
theorem dX0_need_0 : decode cX0_need 0 = .ok (.aload_n 0, 1) := by decide +kernel
theorem dX0_need_1 : decode cX0_need 1 = .ok (.iload_n 1, 1) := by decide +kernel
theorem dX0_need_2 : decode cX0_need 2 = .ok (.invokevirtual 38, 3) := by decide +kernel
theorem dX0_need_5 : decode cX0_need 5 = .ok (.ifCond .eq 16, 3) := by decide +kernel
theorem dX0_need_8 : decode cX0_need 8 = .ok (.aload_n 0, 1) := by decide +kernel
theorem dX0_need_9 : decode cX0_need 9 = .ok (.iload_n 2, 1) := by decide +kernel
theorem dX0_need_10 : decode cX0_need 10 = .ok (.invokevirtual 38, 3) := by decide +kernel
theorem dX0_need_13 : decode cX0_need 13 = .ok (.ifCond .eq 8, 3) := by decide +kernel
theorem dX0_need_16 : decode cX0_need 16 = .ok (.iload_n 1, 1) := by decide +kernel
theorem dX0_need_17 : decode cX0_need 17 = .ok (.iload_n 2, 1) := by decide +kernel
theorem dX0_need_18 : decode cX0_need 18 = .ok (.if_icmp .ne 5, 3) := by decide +kernel
theorem dX0_need_21 : decode cX0_need 21 = .ok (.iconst 0, 1) := by decide +kernel
theorem dX0_need_22 : decode cX0_need 22 = .ok (.ireturn, 1) := by decide +kernel
theorem dX0_need_23 : decode cX0_need 23 = .ok (.aload_n 0, 1) := by decide +kernel
theorem dX0_need_24 : decode cX0_need 24 = .ok (.getfield 13, 3) := by decide +kernel
theorem dX0_need_27 : decode cX0_need 27 = .ok (.iload_n 1, 1) := by decide +kernel
theorem dX0_need_28 : decode cX0_need 28 = .ok (.iload_n 3, 1) := by decide +kernel
theorem dX0_need_29 : decode cX0_need 29 = .ok (.ifCond .eq 16, 3) := by decide +kernel
theorem dX0_need_32 : decode cX0_need 32 = .ok (.aload_n 0, 1) := by decide +kernel
theorem dX0_need_33 : decode cX0_need 33 = .ok (.getfield 13, 3) := by decide +kernel
theorem dX0_need_36 : decode cX0_need 36 = .ok (.iload_n 1, 1) := by decide +kernel
theorem dX0_need_37 : decode cX0_need 37 = .ok (.saload, 1) := by decide +kernel
theorem dX0_need_38 : decode cX0_need 38 = .ok (.iconst 1, 1) := by decide +kernel
theorem dX0_need_39 : decode cX0_need 39 = .ok (.iload_n 2, 1) := by decide +kernel
theorem dX0_need_40 : decode cX0_need 40 = .ok (.ishl, 1) := by decide +kernel
theorem dX0_need_41 : decode cX0_need 41 = .ok (.ior, 1) := by decide +kernel
theorem dX0_need_42 : decode cX0_need 42 = .ok (.goto 15, 3) := by decide +kernel
theorem dX0_need_45 : decode cX0_need 45 = .ok (.aload_n 0, 1) := by decide +kernel
theorem dX0_need_46 : decode cX0_need 46 = .ok (.getfield 13, 3) := by decide +kernel
theorem dX0_need_49 : decode cX0_need 49 = .ok (.iload_n 1, 1) := by decide +kernel
theorem dX0_need_50 : decode cX0_need 50 = .ok (.saload, 1) := by decide +kernel
theorem dX0_need_51 : decode cX0_need 51 = .ok (.iconst 1, 1) := by decide +kernel
theorem dX0_need_52 : decode cX0_need 52 = .ok (.iload_n 2, 1) := by decide +kernel
theorem dX0_need_53 : decode cX0_need 53 = .ok (.ishl, 1) := by decide +kernel
theorem dX0_need_54 : decode cX0_need 54 = .ok (.iconst (-1), 1) := by decide +kernel
theorem dX0_need_55 : decode cX0_need 55 = .ok (.ixor, 1) := by decide +kernel
theorem dX0_need_56 : decode cX0_need 56 = .ok (.iand, 1) := by decide +kernel
theorem dX0_need_57 : decode cX0_need 57 = .ok (.i2s, 1) := by decide +kernel
theorem dX0_need_58 : decode cX0_need 58 = .ok (.sastore, 1) := by decide +kernel
theorem dX0_need_59 : decode cX0_need 59 = .ok (.iconst 1, 1) := by decide +kernel
theorem dX0_need_60 : decode cX0_need 60 = .ok (.ireturn, 1) := by decide +kernel
theorem dX0_undertakings_0 : decode cX0_undertakings 0 = .ok (.aload_n 0, 1) := by decide +kernel
theorem dX0_undertakings_1 : decode cX0_undertakings 1 = .ok (.getfield 30, 3) := by decide +kernel
theorem dX0_undertakings_4 : decode cX0_undertakings 4 = .ok (.ireturn, 1) := by decide +kernel
theorem dX0_closed_0 : decode cX0_closed 0 = .ok (.iload_n 1, 1) := by decide +kernel
theorem dX0_closed_1 : decode cX0_closed 1 = .ok (.aload_n 0, 1) := by decide +kernel
theorem dX0_closed_2 : decode cX0_closed 2 = .ok (.getfield 30, 3) := by decide +kernel
theorem dX0_closed_5 : decode cX0_closed 5 = .ok (.iconst (-1), 1) := by decide +kernel
theorem dX0_closed_6 : decode cX0_closed 6 = .ok (.ixor, 1) := by decide +kernel
theorem dX0_closed_7 : decode cX0_closed 7 = .ok (.iand, 1) := by decide +kernel
theorem dX0_closed_8 : decode cX0_closed 8 = .ok (.ifCond .eq 5, 3) := by decide +kernel
theorem dX0_closed_11 : decode cX0_closed 11 = .ok (.iconst 0, 1) := by decide +kernel
theorem dX0_closed_12 : decode cX0_closed 12 = .ok (.ireturn, 1) := by decide +kernel
theorem dX0_closed_13 : decode cX0_closed 13 = .ok (.iconst 0, 1) := by decide +kernel
theorem dX0_closed_14 : decode cX0_closed 14 = .ok (.istore_n 2, 1) := by decide +kernel
theorem dX0_closed_15 : decode cX0_closed 15 = .ok (.iload_n 2, 1) := by decide +kernel
theorem dX0_closed_16 : decode cX0_closed 16 = .ok (.bipush 9, 2) := by decide +kernel
theorem dX0_closed_18 : decode cX0_closed 18 = .ok (.if_icmp .ge 32, 3) := by decide +kernel
theorem dX0_closed_21 : decode cX0_closed 21 = .ok (.iload_n 1, 1) := by decide +kernel
theorem dX0_closed_22 : decode cX0_closed 22 = .ok (.iload_n 2, 1) := by decide +kernel
theorem dX0_closed_23 : decode cX0_closed 23 = .ok (.invokestatic 41, 3) := by decide +kernel
theorem dX0_closed_26 : decode cX0_closed 26 = .ok (.ifCond .eq 18, 3) := by decide +kernel
theorem dX0_closed_29 : decode cX0_closed 29 = .ok (.aload_n 0, 1) := by decide +kernel
theorem dX0_closed_30 : decode cX0_closed 30 = .ok (.getfield 13, 3) := by decide +kernel
theorem dX0_closed_33 : decode cX0_closed 33 = .ok (.iload_n 2, 1) := by decide +kernel
theorem dX0_closed_34 : decode cX0_closed 34 = .ok (.saload, 1) := by decide +kernel
theorem dX0_closed_35 : decode cX0_closed 35 = .ok (.iload_n 1, 1) := by decide +kernel
theorem dX0_closed_36 : decode cX0_closed 36 = .ok (.iconst (-1), 1) := by decide +kernel
theorem dX0_closed_37 : decode cX0_closed 37 = .ok (.ixor, 1) := by decide +kernel
theorem dX0_closed_38 : decode cX0_closed 38 = .ok (.iand, 1) := by decide +kernel
theorem dX0_closed_39 : decode cX0_closed 39 = .ok (.ifCond .eq 5, 3) := by decide +kernel
theorem dX0_closed_42 : decode cX0_closed 42 = .ok (.iconst 0, 1) := by decide +kernel
theorem dX0_closed_43 : decode cX0_closed 43 = .ok (.ireturn, 1) := by decide +kernel
theorem dX0_closed_44 : decode cX0_closed 44 = .ok (.iinc 2 1, 3) := by decide +kernel
theorem dX0_closed_47 : decode cX0_closed 47 = .ok (.goto (-32), 3) := by decide +kernel
theorem dX0_closed_50 : decode cX0_closed 50 = .ok (.iconst 1, 1) := by decide +kernel
theorem dX0_closed_51 : decode cX0_closed 51 = .ok (.ireturn, 1) := by decide +kernel
theorem dX0_in_0 : decode cX0_in 0 = .ok (.iload_n 0, 1) := by decide +kernel
theorem dX0_in_1 : decode cX0_in 1 = .ok (.iload_n 1, 1) := by decide +kernel
theorem dX0_in_2 : decode cX0_in 2 = .ok (.ishr, 1) := by decide +kernel
theorem dX0_in_3 : decode cX0_in 3 = .ok (.iconst 1, 1) := by decide +kernel
theorem dX0_in_4 : decode cX0_in 4 = .ok (.iand, 1) := by decide +kernel
theorem dX0_in_5 : decode cX0_in 5 = .ok (.ifCond .eq 7, 3) := by decide +kernel
theorem dX0_in_8 : decode cX0_in 8 = .ok (.iconst 1, 1) := by decide +kernel
theorem dX0_in_9 : decode cX0_in 9 = .ok (.goto 4, 3) := by decide +kernel
theorem dX0_in_12 : decode cX0_in 12 = .ok (.iconst 0, 1) := by decide +kernel
theorem dX0_in_13 : decode cX0_in 13 = .ok (.ireturn, 1) := by decide +kernel
theorem dX0_closure_0 : decode cX0_closure 0 = .ok (.iload_n 1, 1) := by decide +kernel
theorem dX0_closure_1 : decode cX0_closure 1 = .ok (.aload_n 0, 1) := by decide +kernel
theorem dX0_closure_2 : decode cX0_closure 2 = .ok (.getfield 30, 3) := by decide +kernel
theorem dX0_closure_5 : decode cX0_closure 5 = .ok (.iand, 1) := by decide +kernel
theorem dX0_closure_6 : decode cX0_closure 6 = .ok (.istore_n 2, 1) := by decide +kernel
theorem dX0_closure_7 : decode cX0_closure 7 = .ok (.iconst 0, 1) := by decide +kernel
theorem dX0_closure_8 : decode cX0_closure 8 = .ok (.istore_n 3, 1) := by decide +kernel
theorem dX0_closure_9 : decode cX0_closure 9 = .ok (.iload_n 3, 1) := by decide +kernel
theorem dX0_closure_10 : decode cX0_closure 10 = .ok (.bipush 9, 2) := by decide +kernel
theorem dX0_closure_12 : decode cX0_closure 12 = .ok (.if_icmp .ge 48, 3) := by decide +kernel
theorem dX0_closure_15 : decode cX0_closure 15 = .ok (.iconst 0, 1) := by decide +kernel
theorem dX0_closure_16 : decode cX0_closure 16 = .ok (.istore 4, 2) := by decide +kernel
theorem dX0_closure_18 : decode cX0_closure 18 = .ok (.iload 4, 2) := by decide +kernel
theorem dX0_closure_20 : decode cX0_closure 20 = .ok (.bipush 9, 2) := by decide +kernel
theorem dX0_closure_22 : decode cX0_closure 22 = .ok (.if_icmp .ge 32, 3) := by decide +kernel
theorem dX0_closure_25 : decode cX0_closure 25 = .ok (.iload_n 2, 1) := by decide +kernel
theorem dX0_closure_26 : decode cX0_closure 26 = .ok (.iload_n 2, 1) := by decide +kernel
theorem dX0_closure_27 : decode cX0_closure 27 = .ok (.iload 4, 2) := by decide +kernel
theorem dX0_closure_29 : decode cX0_closure 29 = .ok (.invokestatic 41, 3) := by decide +kernel
theorem dX0_closure_32 : decode cX0_closure 32 = .ok (.ifCond .eq 13, 3) := by decide +kernel
theorem dX0_closure_35 : decode cX0_closure 35 = .ok (.aload_n 0, 1) := by decide +kernel
theorem dX0_closure_36 : decode cX0_closure 36 = .ok (.getfield 13, 3) := by decide +kernel
theorem dX0_closure_39 : decode cX0_closure 39 = .ok (.iload 4, 2) := by decide +kernel
theorem dX0_closure_41 : decode cX0_closure 41 = .ok (.saload, 1) := by decide +kernel
theorem dX0_closure_42 : decode cX0_closure 42 = .ok (.goto 4, 3) := by decide +kernel
theorem dX0_closure_45 : decode cX0_closure 45 = .ok (.iconst 0, 1) := by decide +kernel
theorem dX0_closure_46 : decode cX0_closure 46 = .ok (.ior, 1) := by decide +kernel
theorem dX0_closure_47 : decode cX0_closure 47 = .ok (.istore_n 2, 1) := by decide +kernel
theorem dX0_closure_48 : decode cX0_closure 48 = .ok (.iinc 4 1, 3) := by decide +kernel
theorem dX0_closure_51 : decode cX0_closure 51 = .ok (.goto (-33), 3) := by decide +kernel
theorem dX0_closure_54 : decode cX0_closure 54 = .ok (.iinc 3 1, 3) := by decide +kernel
theorem dX0_closure_57 : decode cX0_closure 57 = .ok (.goto (-48), 3) := by decide +kernel
theorem dX0_closure_60 : decode cX0_closure 60 = .ok (.iload_n 2, 1) := by decide +kernel
theorem dX0_closure_61 : decode cX0_closure 61 = .ok (.ireturn, 1) := by decide +kernel
theorem dX0_best_0 : decode cX0_best 0 = .ok (.aload_n 0, 1) := by decide +kernel
theorem dX0_best_1 : decode cX0_best 1 = .ok (.invokevirtual 57, 3) := by decide +kernel
theorem dX0_best_4 : decode cX0_best 4 = .ok (.aload_n 0, 1) := by decide +kernel
theorem dX0_best_5 : decode cX0_best 5 = .ok (.invokevirtual 60, 3) := by decide +kernel
theorem dX0_best_8 : decode cX0_best 8 = .ok (.ireturn, 1) := by decide +kernel
theorem dX0_askPlainly_0 : decode cX0_askPlainly 0 = .ok (.iconst 0, 1) := by decide +kernel
theorem dX0_askPlainly_1 : decode cX0_askPlainly 1 = .ok (.istore_n 1, 1) := by decide +kernel
theorem dX0_askPlainly_2 : decode cX0_askPlainly 2 = .ok (.iload_n 1, 1) := by decide +kernel
theorem dX0_askPlainly_3 : decode cX0_askPlainly 3 = .ok (.bipush 9, 2) := by decide +kernel
theorem dX0_askPlainly_5 : decode cX0_askPlainly 5 = .ok (.if_icmp .ge 21, 3) := by decide +kernel
end
section
/-! decode rows (claim/names) -/
set_option maxRecDepth 100000
theorem dX0_askPlainly_8 : decode cX0_askPlainly 8 = .ok (.aload_n 0, 1) := by decide +kernel
theorem dX0_askPlainly_9 : decode cX0_askPlainly 9 = .ok (.getfield 17, 3) := by decide +kernel
theorem dX0_askPlainly_12 : decode cX0_askPlainly 12 = .ok (.iload_n 1, 1) := by decide +kernel
theorem dX0_askPlainly_13 : decode cX0_askPlainly 13 = .ok (.aload_n 0, 1) := by decide +kernel
theorem dX0_askPlainly_14 : decode cX0_askPlainly 14 = .ok (.getfield 7, 3) := by decide +kernel
theorem dX0_askPlainly_17 : decode cX0_askPlainly 17 = .ok (.iload_n 1, 1) := by decide +kernel
theorem dX0_askPlainly_18 : decode cX0_askPlainly 18 = .ok (.baload, 1) := by decide +kernel
theorem dX0_askPlainly_19 : decode cX0_askPlainly 19 = .ok (.iastore, 1) := by decide +kernel
theorem dX0_askPlainly_20 : decode cX0_askPlainly 20 = .ok (.iinc 1 1, 3) := by decide +kernel
theorem dX0_askPlainly_23 : decode cX0_askPlainly 23 = .ok (.goto (-21), 3) := by decide +kernel
theorem dX0_askPlainly_26 : decode cX0_askPlainly 26 = .ok (.return_, 1) := by decide +kernel
theorem dX0_solve_0 : decode cX0_solve 0 = .ok (.iconst 0, 1) := by decide +kernel
theorem dX0_solve_1 : decode cX0_solve 1 = .ok (.istore_n 1, 1) := by decide +kernel
theorem dX0_solve_2 : decode cX0_solve 2 = .ok (.iconst 0, 1) := by decide +kernel
theorem dX0_solve_3 : decode cX0_solve 3 = .ok (.istore_n 2, 1) := by decide +kernel
theorem dX0_solve_4 : decode cX0_solve 4 = .ok (.iload_n 2, 1) := by decide +kernel
theorem dX0_solve_5 : decode cX0_solve 5 = .ok (.bipush 121, 2) := by decide +kernel
theorem dX0_solve_7 : decode cX0_solve 7 = .ok (.if_icmp .ge 16, 3) := by decide +kernel
theorem dX0_solve_10 : decode cX0_solve 10 = .ok (.aload_n 0, 1) := by decide +kernel
theorem dX0_solve_11 : decode cX0_solve 11 = .ok (.getfield 21, 3) := by decide +kernel
theorem dX0_solve_14 : decode cX0_solve 14 = .ok (.iload_n 2, 1) := by decide +kernel
theorem dX0_solve_15 : decode cX0_solve 15 = .ok (.iconst 0, 1) := by decide +kernel
theorem dX0_solve_16 : decode cX0_solve 16 = .ok (.iastore, 1) := by decide +kernel
theorem dX0_solve_17 : decode cX0_solve 17 = .ok (.iinc 2 1, 3) := by decide +kernel
theorem dX0_solve_20 : decode cX0_solve 20 = .ok (.goto (-16), 3) := by decide +kernel
theorem dX0_solve_23 : decode cX0_solve 23 = .ok (.iconst 0, 1) := by decide +kernel
theorem dX0_solve_24 : decode cX0_solve 24 = .ok (.istore_n 2, 1) := by decide +kernel
theorem dX0_solve_25 : decode cX0_solve 25 = .ok (.iload_n 2, 1) := by decide +kernel
theorem dX0_solve_26 : decode cX0_solve 26 = .ok (.bipush 9, 2) := by decide +kernel
theorem dX0_solve_28 : decode cX0_solve 28 = .ok (.if_icmp .ge 143, 3) := by decide +kernel
theorem dX0_solve_31 : decode cX0_solve 31 = .ok (.aload_n 0, 1) := by decide +kernel
theorem dX0_solve_32 : decode cX0_solve 32 = .ok (.iload_n 2, 1) := by decide +kernel
theorem dX0_solve_33 : decode cX0_solve 33 = .ok (.invokevirtual 38, 3) := by decide +kernel
theorem dX0_solve_36 : decode cX0_solve 36 = .ok (.ifCond .eq 129, 3) := by decide +kernel
theorem dX0_solve_39 : decode cX0_solve 39 = .ok (.iload_n 1, 1) := by decide +kernel
theorem dX0_solve_40 : decode cX0_solve 40 = .ok (.aload_n 0, 1) := by decide +kernel
theorem dX0_solve_41 : decode cX0_solve 41 = .ok (.getfield 17, 3) := by decide +kernel
theorem dX0_solve_44 : decode cX0_solve 44 = .ok (.iload_n 2, 1) := by decide +kernel
theorem dX0_solve_45 : decode cX0_solve 45 = .ok (.iaload, 1) := by decide +kernel
theorem dX0_solve_46 : decode cX0_solve 46 = .ok (.ifCond .le 12, 3) := by decide +kernel
theorem dX0_solve_49 : decode cX0_solve 49 = .ok (.aload_n 0, 1) := by decide +kernel
theorem dX0_solve_50 : decode cX0_solve 50 = .ok (.getfield 17, 3) := by decide +kernel
theorem dX0_solve_53 : decode cX0_solve 53 = .ok (.iload_n 2, 1) := by decide +kernel
theorem dX0_solve_54 : decode cX0_solve 54 = .ok (.iaload, 1) := by decide +kernel
theorem dX0_solve_55 : decode cX0_solve 55 = .ok (.goto 4, 3) := by decide +kernel
theorem dX0_solve_58 : decode cX0_solve 58 = .ok (.iconst 0, 1) := by decide +kernel
theorem dX0_solve_59 : decode cX0_solve 59 = .ok (.iadd, 1) := by decide +kernel
theorem dX0_solve_60 : decode cX0_solve 60 = .ok (.istore_n 1, 1) := by decide +kernel
theorem dX0_solve_61 : decode cX0_solve 61 = .ok (.aload_n 0, 1) := by decide +kernel
theorem dX0_solve_62 : decode cX0_solve 62 = .ok (.getfield 21, 3) := by decide +kernel
theorem dX0_solve_65 : decode cX0_solve 65 = .ok (.bipush 99, 2) := by decide +kernel
theorem dX0_solve_67 : decode cX0_solve 67 = .ok (.iload_n 2, 1) := by decide +kernel
theorem dX0_solve_68 : decode cX0_solve 68 = .ok (.iadd, 1) := by decide +kernel
theorem dX0_solve_69 : decode cX0_solve 69 = .ok (.aload_n 0, 1) := by decide +kernel
theorem dX0_solve_70 : decode cX0_solve 70 = .ok (.getfield 17, 3) := by decide +kernel
theorem dX0_solve_73 : decode cX0_solve 73 = .ok (.iload_n 2, 1) := by decide +kernel
theorem dX0_solve_74 : decode cX0_solve 74 = .ok (.iaload, 1) := by decide +kernel
theorem dX0_solve_75 : decode cX0_solve 75 = .ok (.ifCond .le 12, 3) := by decide +kernel
theorem dX0_solve_78 : decode cX0_solve 78 = .ok (.aload_n 0, 1) := by decide +kernel
theorem dX0_solve_79 : decode cX0_solve 79 = .ok (.getfield 17, 3) := by decide +kernel
theorem dX0_solve_82 : decode cX0_solve 82 = .ok (.iload_n 2, 1) := by decide +kernel
theorem dX0_solve_83 : decode cX0_solve 83 = .ok (.iaload, 1) := by decide +kernel
theorem dX0_solve_84 : decode cX0_solve 84 = .ok (.goto 4, 3) := by decide +kernel
theorem dX0_solve_87 : decode cX0_solve 87 = .ok (.iconst 0, 1) := by decide +kernel
theorem dX0_solve_88 : decode cX0_solve 88 = .ok (.iastore, 1) := by decide +kernel
theorem dX0_solve_89 : decode cX0_solve 89 = .ok (.aload_n 0, 1) := by decide +kernel
theorem dX0_solve_90 : decode cX0_solve 90 = .ok (.getfield 21, 3) := by decide +kernel
theorem dX0_solve_93 : decode cX0_solve 93 = .ok (.iload_n 2, 1) := by decide +kernel
theorem dX0_solve_94 : decode cX0_solve 94 = .ok (.bipush 11, 2) := by decide +kernel
theorem dX0_solve_96 : decode cX0_solve 96 = .ok (.imul, 1) := by decide +kernel
theorem dX0_solve_97 : decode cX0_solve 97 = .ok (.bipush 10, 2) := by decide +kernel
theorem dX0_solve_99 : decode cX0_solve 99 = .ok (.iadd, 1) := by decide +kernel
theorem dX0_solve_100 : decode cX0_solve 100 = .ok (.aload_n 0, 1) := by decide +kernel
theorem dX0_solve_101 : decode cX0_solve 101 = .ok (.getfield 17, 3) := by decide +kernel
theorem dX0_solve_104 : decode cX0_solve 104 = .ok (.iload_n 2, 1) := by decide +kernel
theorem dX0_solve_105 : decode cX0_solve 105 = .ok (.iaload, 1) := by decide +kernel
theorem dX0_solve_106 : decode cX0_solve 106 = .ok (.ifCond .ge 13, 3) := by decide +kernel
theorem dX0_solve_109 : decode cX0_solve 109 = .ok (.aload_n 0, 1) := by decide +kernel
theorem dX0_solve_110 : decode cX0_solve 110 = .ok (.getfield 17, 3) := by decide +kernel
theorem dX0_solve_113 : decode cX0_solve 113 = .ok (.iload_n 2, 1) := by decide +kernel
theorem dX0_solve_114 : decode cX0_solve 114 = .ok (.iaload, 1) := by decide +kernel
theorem dX0_solve_115 : decode cX0_solve 115 = .ok (.ineg, 1) := by decide +kernel
theorem dX0_solve_116 : decode cX0_solve 116 = .ok (.goto 4, 3) := by decide +kernel
theorem dX0_solve_119 : decode cX0_solve 119 = .ok (.iconst 0, 1) := by decide +kernel
theorem dX0_solve_120 : decode cX0_solve 120 = .ok (.iastore, 1) := by decide +kernel
theorem dX0_solve_121 : decode cX0_solve 121 = .ok (.iconst 0, 1) := by decide +kernel
theorem dX0_solve_122 : decode cX0_solve 122 = .ok (.istore_n 3, 1) := by decide +kernel
theorem dX0_solve_123 : decode cX0_solve 123 = .ok (.iload_n 3, 1) := by decide +kernel
theorem dX0_solve_124 : decode cX0_solve 124 = .ok (.bipush 9, 2) := by decide +kernel
theorem dX0_solve_126 : decode cX0_solve 126 = .ok (.if_icmp .ge 39, 3) := by decide +kernel
theorem dX0_solve_129 : decode cX0_solve 129 = .ok (.aload_n 0, 1) := by decide +kernel
theorem dX0_solve_130 : decode cX0_solve 130 = .ok (.getfield 21, 3) := by decide +kernel
theorem dX0_solve_133 : decode cX0_solve 133 = .ok (.iload_n 2, 1) := by decide +kernel
theorem dX0_solve_134 : decode cX0_solve 134 = .ok (.bipush 11, 2) := by decide +kernel
theorem dX0_solve_136 : decode cX0_solve 136 = .ok (.imul, 1) := by decide +kernel
theorem dX0_solve_137 : decode cX0_solve 137 = .ok (.iload_n 3, 1) := by decide +kernel
theorem dX0_solve_138 : decode cX0_solve 138 = .ok (.iadd, 1) := by decide +kernel
theorem dX0_solve_139 : decode cX0_solve 139 = .ok (.aload_n 0, 1) := by decide +kernel
theorem dX0_solve_140 : decode cX0_solve 140 = .ok (.getfield 13, 3) := by decide +kernel
theorem dX0_solve_143 : decode cX0_solve 143 = .ok (.iload_n 2, 1) := by decide +kernel
theorem dX0_solve_144 : decode cX0_solve 144 = .ok (.saload, 1) := by decide +kernel
theorem dX0_solve_145 : decode cX0_solve 145 = .ok (.iload_n 3, 1) := by decide +kernel
theorem dX0_solve_146 : decode cX0_solve 146 = .ok (.invokestatic 41, 3) := by decide +kernel
theorem dX0_solve_149 : decode cX0_solve 149 = .ok (.ifCond .eq 8, 3) := by decide +kernel
theorem dX0_solve_152 : decode cX0_solve 152 = .ok (.ldc 45, 2) := by decide +kernel
theorem dX0_solve_154 : decode cX0_solve 154 = .ok (.goto 4, 3) := by decide +kernel
theorem dX0_solve_157 : decode cX0_solve 157 = .ok (.iconst 0, 1) := by decide +kernel
theorem dX0_solve_158 : decode cX0_solve 158 = .ok (.iastore, 1) := by decide +kernel
theorem dX0_solve_159 : decode cX0_solve 159 = .ok (.iinc 3 1, 3) := by decide +kernel
theorem dX0_solve_162 : decode cX0_solve 162 = .ok (.goto (-39), 3) := by decide +kernel
theorem dX0_solve_165 : decode cX0_solve 165 = .ok (.iinc 2 1, 3) := by decide +kernel
theorem dX0_solve_168 : decode cX0_solve 168 = .ok (.goto (-143), 3) := by decide +kernel
theorem dX0_solve_171 : decode cX0_solve 171 = .ok (.iconst 0, 1) := by decide +kernel
theorem dX0_solve_172 : decode cX0_solve 172 = .ok (.istore_n 2, 1) := by decide +kernel
theorem dX0_solve_173 : decode cX0_solve 173 = .ok (.iload_n 2, 1) := by decide +kernel
theorem dX0_solve_174 : decode cX0_solve 174 = .ok (.sipush 512, 3) := by decide +kernel
theorem dX0_solve_177 : decode cX0_solve 177 = .ok (.if_icmp .ge 23, 3) := by decide +kernel
theorem dX0_solve_180 : decode cX0_solve 180 = .ok (.aload_n 0, 1) := by decide +kernel
theorem dX0_solve_181 : decode cX0_solve 181 = .ok (.invokevirtual 46, 3) := by decide +kernel
theorem dX0_solve_184 : decode cX0_solve 184 = .ok (.ifCond .eq 16, 3) := by decide +kernel
theorem dX0_solve_187 : decode cX0_solve 187 = .ok (.iload_n 1, 1) := by decide +kernel
theorem dX0_solve_188 : decode cX0_solve 188 = .ok (.aload_n 0, 1) := by decide +kernel
theorem dX0_solve_189 : decode cX0_solve 189 = .ok (.invokevirtual 50, 3) := by decide +kernel
theorem dX0_solve_192 : decode cX0_solve 192 = .ok (.isub, 1) := by decide +kernel
theorem dX0_solve_193 : decode cX0_solve 193 = .ok (.istore_n 1, 1) := by decide +kernel
theorem dX0_solve_194 : decode cX0_solve 194 = .ok (.iinc 2 1, 3) := by decide +kernel
theorem dX0_solve_197 : decode cX0_solve 197 = .ok (.goto (-24), 3) := by decide +kernel
theorem dX0_solve_200 : decode cX0_solve 200 = .ok (.iload_n 1, 1) := by decide +kernel
theorem dX0_solve_201 : decode cX0_solve 201 = .ok (.ireturn, 1) := by decide +kernel
theorem dX0_spread_0 : decode cX0_spread 0 = .ok (.aload_n 0, 1) := by decide +kernel
theorem dX0_spread_1 : decode cX0_spread 1 = .ok (.sipush 512, 3) := by decide +kernel
theorem dX0_spread_4 : decode cX0_spread 4 = .ok (.putfield 54, 3) := by decide +kernel
theorem dX0_spread_7 : decode cX0_spread 7 = .ok (.aload_n 0, 1) := by decide +kernel
theorem dX0_spread_8 : decode cX0_spread 8 = .ok (.getfield 27, 3) := by decide +kernel
theorem dX0_spread_11 : decode cX0_spread 11 = .ok (.iconst 0, 1) := by decide +kernel
theorem dX0_spread_12 : decode cX0_spread 12 = .ok (.bipush 9, 2) := by decide +kernel
theorem dX0_spread_14 : decode cX0_spread 14 = .ok (.bastore, 1) := by decide +kernel
theorem dX0_spread_15 : decode cX0_spread 15 = .ok (.iconst 1, 1) := by decide +kernel
theorem dX0_spread_16 : decode cX0_spread 16 = .ok (.istore_n 1, 1) := by decide +kernel
theorem dX0_spread_17 : decode cX0_spread 17 = .ok (.iconst 0, 1) := by decide +kernel
theorem dX0_spread_18 : decode cX0_spread 18 = .ok (.istore_n 2, 1) := by decide +kernel
theorem dX0_spread_19 : decode cX0_spread 19 = .ok (.iload_n 2, 1) := by decide +kernel
theorem dX0_spread_20 : decode cX0_spread 20 = .ok (.iload_n 1, 1) := by decide +kernel
theorem dX0_spread_21 : decode cX0_spread 21 = .ok (.if_icmp .ge 99, 3) := by decide +kernel
theorem dX0_spread_24 : decode cX0_spread 24 = .ok (.iload_n 2, 1) := by decide +kernel
theorem dX0_spread_25 : decode cX0_spread 25 = .ok (.bipush 11, 2) := by decide +kernel
theorem dX0_spread_27 : decode cX0_spread 27 = .ok (.if_icmp .ge 93, 3) := by decide +kernel
theorem dX0_spread_30 : decode cX0_spread 30 = .ok (.aload_n 0, 1) := by decide +kernel
theorem dX0_spread_31 : decode cX0_spread 31 = .ok (.getfield 27, 3) := by decide +kernel
theorem dX0_spread_34 : decode cX0_spread 34 = .ok (.iload_n 2, 1) := by decide +kernel
theorem dX0_spread_35 : decode cX0_spread 35 = .ok (.baload, 1) := by decide +kernel
theorem dX0_spread_36 : decode cX0_spread 36 = .ok (.istore_n 3, 1) := by decide +kernel
theorem dX0_spread_37 : decode cX0_spread 37 = .ok (.iconst 0, 1) := by decide +kernel
theorem dX0_spread_38 : decode cX0_spread 38 = .ok (.istore 4, 2) := by decide +kernel
theorem dX0_spread_40 : decode cX0_spread 40 = .ok (.iload 4, 2) := by decide +kernel
theorem dX0_spread_42 : decode cX0_spread 42 = .ok (.bipush 11, 2) := by decide +kernel
theorem dX0_spread_44 : decode cX0_spread 44 = .ok (.if_icmp .ge 70, 3) := by decide +kernel
theorem dX0_spread_47 : decode cX0_spread 47 = .ok (.aload_n 0, 1) := by decide +kernel
theorem dX0_spread_48 : decode cX0_spread 48 = .ok (.getfield 54, 3) := by decide +kernel
theorem dX0_spread_51 : decode cX0_spread 51 = .ok (.iload 4, 2) := by decide +kernel
theorem dX0_spread_53 : decode cX0_spread 53 = .ok (.invokestatic 41, 3) := by decide +kernel
theorem dX0_spread_56 : decode cX0_spread 56 = .ok (.ifCond .ne 52, 3) := by decide +kernel
theorem dX0_spread_59 : decode cX0_spread 59 = .ok (.aload_n 0, 1) := by decide +kernel
theorem dX0_spread_60 : decode cX0_spread 60 = .ok (.getfield 21, 3) := by decide +kernel
theorem dX0_spread_63 : decode cX0_spread 63 = .ok (.iload_n 3, 1) := by decide +kernel
theorem dX0_spread_64 : decode cX0_spread 64 = .ok (.bipush 11, 2) := by decide +kernel
theorem dX0_spread_66 : decode cX0_spread 66 = .ok (.imul, 1) := by decide +kernel
theorem dX0_spread_67 : decode cX0_spread 67 = .ok (.iload 4, 2) := by decide +kernel
theorem dX0_spread_69 : decode cX0_spread 69 = .ok (.iadd, 1) := by decide +kernel
theorem dX0_spread_70 : decode cX0_spread 70 = .ok (.iaload, 1) := by decide +kernel
theorem dX0_spread_71 : decode cX0_spread 71 = .ok (.ifCond .le 37, 3) := by decide +kernel
theorem dX0_spread_74 : decode cX0_spread 74 = .ok (.aload_n 0, 1) := by decide +kernel
theorem dX0_spread_75 : decode cX0_spread 75 = .ok (.dup, 1) := by decide +kernel
theorem dX0_spread_76 : decode cX0_spread 76 = .ok (.getfield 54, 3) := by decide +kernel
theorem dX0_spread_79 : decode cX0_spread 79 = .ok (.iconst 1, 1) := by decide +kernel
theorem dX0_spread_80 : decode cX0_spread 80 = .ok (.iload 4, 2) := by decide +kernel
theorem dX0_spread_82 : decode cX0_spread 82 = .ok (.ishl, 1) := by decide +kernel
theorem dX0_spread_83 : decode cX0_spread 83 = .ok (.ior, 1) := by decide +kernel
theorem dX0_spread_84 : decode cX0_spread 84 = .ok (.putfield 54, 3) := by decide +kernel
theorem dX0_spread_87 : decode cX0_spread 87 = .ok (.aload_n 0, 1) := by decide +kernel
theorem dX0_spread_88 : decode cX0_spread 88 = .ok (.getfield 24, 3) := by decide +kernel
theorem dX0_spread_91 : decode cX0_spread 91 = .ok (.iload 4, 2) := by decide +kernel
theorem dX0_spread_93 : decode cX0_spread 93 = .ok (.iload_n 3, 1) := by decide +kernel
theorem dX0_spread_94 : decode cX0_spread 94 = .ok (.i2b, 1) := by decide +kernel
theorem dX0_spread_95 : decode cX0_spread 95 = .ok (.bastore, 1) := by decide +kernel
theorem dX0_spread_96 : decode cX0_spread 96 = .ok (.aload_n 0, 1) := by decide +kernel
theorem dX0_spread_97 : decode cX0_spread 97 = .ok (.getfield 27, 3) := by decide +kernel
theorem dX0_spread_100 : decode cX0_spread 100 = .ok (.iload_n 1, 1) := by decide +kernel
theorem dX0_spread_101 : decode cX0_spread 101 = .ok (.iload 4, 2) := by decide +kernel
theorem dX0_spread_103 : decode cX0_spread 103 = .ok (.i2b, 1) := by decide +kernel
theorem dX0_spread_104 : decode cX0_spread 104 = .ok (.bastore, 1) := by decide +kernel
theorem dX0_spread_105 : decode cX0_spread 105 = .ok (.iinc 1 1, 3) := by decide +kernel
theorem dX0_spread_108 : decode cX0_spread 108 = .ok (.iinc 4 1, 3) := by decide +kernel
theorem dX0_spread_111 : decode cX0_spread 111 = .ok (.goto (-71), 3) := by decide +kernel
theorem dX0_spread_114 : decode cX0_spread 114 = .ok (.iinc 2 1, 3) := by decide +kernel
theorem dX0_spread_117 : decode cX0_spread 117 = .ok (.goto (-98), 3) := by decide +kernel
theorem dX0_spread_120 : decode cX0_spread 120 = .ok (.aload_n 0, 1) := by decide +kernel
theorem dX0_spread_121 : decode cX0_spread 121 = .ok (.getfield 54, 3) := by decide +kernel
theorem dX0_spread_124 : decode cX0_spread 124 = .ok (.bipush 10, 2) := by decide +kernel
theorem dX0_spread_126 : decode cX0_spread 126 = .ok (.invokestatic 41, 3) := by decide +kernel
theorem dX0_spread_129 : decode cX0_spread 129 = .ok (.ireturn, 1) := by decide +kernel
theorem dX0_push_0 : decode cX0_push 0 = .ok (.ldc 45, 2) := by decide +kernel
theorem dX0_push_2 : decode cX0_push 2 = .ok (.istore_n 1, 1) := by decide +kernel
theorem dX0_push_3 : decode cX0_push 3 = .ok (.bipush 10, 2) := by decide +kernel
theorem dX0_push_5 : decode cX0_push 5 = .ok (.istore_n 2, 1) := by decide +kernel
theorem dX0_push_6 : decode cX0_push 6 = .ok (.iload_n 2, 1) := by decide +kernel
theorem dX0_push_7 : decode cX0_push 7 = .ok (.bipush 9, 2) := by decide +kernel
theorem dX0_push_9 : decode cX0_push 9 = .ok (.if_icmp .eq 41, 3) := by decide +kernel
theorem dX0_push_12 : decode cX0_push 12 = .ok (.aload_n 0, 1) := by decide +kernel
theorem dX0_push_13 : decode cX0_push 13 = .ok (.getfield 21, 3) := by decide +kernel
theorem dX0_push_16 : decode cX0_push 16 = .ok (.aload_n 0, 1) := by decide +kernel
theorem dX0_push_17 : decode cX0_push 17 = .ok (.getfield 24, 3) := by decide +kernel
theorem dX0_push_20 : decode cX0_push 20 = .ok (.iload_n 2, 1) := by decide +kernel
theorem dX0_push_21 : decode cX0_push 21 = .ok (.baload, 1) := by decide +kernel
theorem dX0_push_22 : decode cX0_push 22 = .ok (.bipush 11, 2) := by decide +kernel
theorem dX0_push_24 : decode cX0_push 24 = .ok (.imul, 1) := by decide +kernel
theorem dX0_push_25 : decode cX0_push 25 = .ok (.iload_n 2, 1) := by decide +kernel
theorem dX0_push_26 : decode cX0_push 26 = .ok (.iadd, 1) := by decide +kernel
theorem dX0_push_27 : decode cX0_push 27 = .ok (.iaload, 1) := by decide +kernel
theorem dX0_push_28 : decode cX0_push 28 = .ok (.istore_n 3, 1) := by decide +kernel
theorem dX0_push_29 : decode cX0_push 29 = .ok (.iload_n 3, 1) := by decide +kernel
theorem dX0_push_30 : decode cX0_push 30 = .ok (.iload_n 1, 1) := by decide +kernel
theorem dX0_push_31 : decode cX0_push 31 = .ok (.if_icmp .ge 7, 3) := by decide +kernel
theorem dX0_push_34 : decode cX0_push 34 = .ok (.iload_n 3, 1) := by decide +kernel
theorem dX0_push_35 : decode cX0_push 35 = .ok (.goto 4, 3) := by decide +kernel
theorem dX0_push_38 : decode cX0_push 38 = .ok (.iload_n 1, 1) := by decide +kernel
theorem dX0_push_39 : decode cX0_push 39 = .ok (.istore_n 1, 1) := by decide +kernel
theorem dX0_push_40 : decode cX0_push 40 = .ok (.aload_n 0, 1) := by decide +kernel
theorem dX0_push_41 : decode cX0_push 41 = .ok (.getfield 24, 3) := by decide +kernel
theorem dX0_push_44 : decode cX0_push 44 = .ok (.iload_n 2, 1) := by decide +kernel
theorem dX0_push_45 : decode cX0_push 45 = .ok (.baload, 1) := by decide +kernel
theorem dX0_push_46 : decode cX0_push 46 = .ok (.istore_n 2, 1) := by decide +kernel
theorem dX0_push_47 : decode cX0_push 47 = .ok (.goto (-41), 3) := by decide +kernel
theorem dX0_push_50 : decode cX0_push 50 = .ok (.bipush 10, 2) := by decide +kernel
theorem dX0_push_52 : decode cX0_push 52 = .ok (.istore_n 2, 1) := by decide +kernel
theorem dX0_push_53 : decode cX0_push 53 = .ok (.iload_n 2, 1) := by decide +kernel
theorem dX0_push_54 : decode cX0_push 54 = .ok (.bipush 9, 2) := by decide +kernel
theorem dX0_push_56 : decode cX0_push 56 = .ok (.if_icmp .eq 50, 3) := by decide +kernel
theorem dX0_push_59 : decode cX0_push 59 = .ok (.aload_n 0, 1) := by decide +kernel
theorem dX0_push_60 : decode cX0_push 60 = .ok (.getfield 24, 3) := by decide +kernel
theorem dX0_push_63 : decode cX0_push 63 = .ok (.iload_n 2, 1) := by decide +kernel
theorem dX0_push_64 : decode cX0_push 64 = .ok (.baload, 1) := by decide +kernel
theorem dX0_push_65 : decode cX0_push 65 = .ok (.istore_n 3, 1) := by decide +kernel
theorem dX0_push_66 : decode cX0_push 66 = .ok (.aload_n 0, 1) := by decide +kernel
theorem dX0_push_67 : decode cX0_push 67 = .ok (.getfield 21, 3) := by decide +kernel
theorem dX0_push_70 : decode cX0_push 70 = .ok (.iload_n 3, 1) := by decide +kernel
theorem dX0_push_71 : decode cX0_push 71 = .ok (.bipush 11, 2) := by decide +kernel
theorem dX0_push_73 : decode cX0_push 73 = .ok (.imul, 1) := by decide +kernel
theorem dX0_push_74 : decode cX0_push 74 = .ok (.iload_n 2, 1) := by decide +kernel
theorem dX0_push_75 : decode cX0_push 75 = .ok (.iadd, 1) := by decide +kernel
theorem dX0_push_76 : decode cX0_push 76 = .ok (.dup2, 1) := by decide +kernel
theorem dX0_push_77 : decode cX0_push 77 = .ok (.iaload, 1) := by decide +kernel
theorem dX0_push_78 : decode cX0_push 78 = .ok (.iload_n 1, 1) := by decide +kernel
theorem dX0_push_79 : decode cX0_push 79 = .ok (.isub, 1) := by decide +kernel
theorem dX0_push_80 : decode cX0_push 80 = .ok (.iastore, 1) := by decide +kernel
theorem dX0_push_81 : decode cX0_push 81 = .ok (.aload_n 0, 1) := by decide +kernel
theorem dX0_push_82 : decode cX0_push 82 = .ok (.getfield 21, 3) := by decide +kernel
theorem dX0_push_85 : decode cX0_push 85 = .ok (.iload_n 2, 1) := by decide +kernel
theorem dX0_push_86 : decode cX0_push 86 = .ok (.bipush 11, 2) := by decide +kernel
theorem dX0_push_88 : decode cX0_push 88 = .ok (.imul, 1) := by decide +kernel
theorem dX0_push_89 : decode cX0_push 89 = .ok (.iload_n 3, 1) := by decide +kernel
theorem dX0_push_90 : decode cX0_push 90 = .ok (.iadd, 1) := by decide +kernel
theorem dX0_push_91 : decode cX0_push 91 = .ok (.dup2, 1) := by decide +kernel
theorem dX0_push_92 : decode cX0_push 92 = .ok (.iaload, 1) := by decide +kernel
theorem dX0_push_93 : decode cX0_push 93 = .ok (.iload_n 1, 1) := by decide +kernel
theorem dX0_push_94 : decode cX0_push 94 = .ok (.iadd, 1) := by decide +kernel
theorem dX0_push_95 : decode cX0_push 95 = .ok (.iastore, 1) := by decide +kernel
theorem dX0_push_96 : decode cX0_push 96 = .ok (.aload_n 0, 1) := by decide +kernel
theorem dX0_push_97 : decode cX0_push 97 = .ok (.getfield 24, 3) := by decide +kernel
theorem dX0_push_100 : decode cX0_push 100 = .ok (.iload_n 2, 1) := by decide +kernel
theorem dX0_push_101 : decode cX0_push 101 = .ok (.baload, 1) := by decide +kernel
theorem dX0_push_102 : decode cX0_push 102 = .ok (.istore_n 2, 1) := by decide +kernel
theorem dX0_push_103 : decode cX0_push 103 = .ok (.goto (-50), 3) := by decide +kernel
theorem dX0_push_106 : decode cX0_push 106 = .ok (.iload_n 1, 1) := by decide +kernel
theorem dX0_push_107 : decode cX0_push 107 = .ok (.ireturn, 1) := by decide +kernel
theorem dX0_leastBest_0 : decode cX0_leastBest 0 = .ok (.aload_n 0, 1) := by decide +kernel
theorem dX0_leastBest_1 : decode cX0_leastBest 1 = .ok (.invokevirtual 57, 3) := by decide +kernel
theorem dX0_leastBest_4 : decode cX0_leastBest 4 = .ok (.aload_n 0, 1) := by decide +kernel
theorem dX0_leastBest_5 : decode cX0_leastBest 5 = .ok (.invokevirtual 60, 3) := by decide +kernel
theorem dX0_leastBest_8 : decode cX0_leastBest 8 = .ok (.pop, 1) := by decide +kernel
end
section
/-! decode rows (claim/names) -/
set_option maxRecDepth 100000
theorem dX0_leastBest_9 : decode cX0_leastBest 9 = .ok (.aload_n 0, 1) := by decide +kernel
theorem dX0_leastBest_10 : decode cX0_leastBest 10 = .ok (.getfield 54, 3) := by decide +kernel
theorem dX0_leastBest_13 : decode cX0_leastBest 13 = .ok (.aload_n 0, 1) := by decide +kernel
theorem dX0_leastBest_14 : decode cX0_leastBest 14 = .ok (.getfield 30, 3) := by decide +kernel
theorem dX0_leastBest_17 : decode cX0_leastBest 17 = .ok (.iand, 1) := by decide +kernel
theorem dX0_leastBest_18 : decode cX0_leastBest 18 = .ok (.ireturn, 1) := by decide +kernel
theorem dX0_greatestBest_0 : decode cX0_greatestBest 0 = .ok (.aload_n 0, 1) := by decide +kernel
theorem dX0_greatestBest_1 : decode cX0_greatestBest 1 = .ok (.invokevirtual 57, 3) := by decide +kernel
theorem dX0_greatestBest_4 : decode cX0_greatestBest 4 = .ok (.aload_n 0, 1) := by decide +kernel
theorem dX0_greatestBest_5 : decode cX0_greatestBest 5 = .ok (.invokevirtual 60, 3) := by decide +kernel
theorem dX0_greatestBest_8 : decode cX0_greatestBest 8 = .ok (.pop, 1) := by decide +kernel
theorem dX0_greatestBest_9 : decode cX0_greatestBest 9 = .ok (.aload_n 0, 1) := by decide +kernel
theorem dX0_greatestBest_10 : decode cX0_greatestBest 10 = .ok (.invokevirtual 63, 3) := by decide +kernel
theorem dX0_greatestBest_13 : decode cX0_greatestBest 13 = .ok (.ireturn, 1) := by decide +kernel
theorem dX0_apart_0 : decode cX0_apart 0 = .ok (.sipush 1024, 3) := by decide +kernel
theorem dX0_apart_3 : decode cX0_apart 3 = .ok (.istore_n 1, 1) := by decide +kernel
theorem dX0_apart_4 : decode cX0_apart 4 = .ok (.iconst 0, 1) := by decide +kernel
theorem dX0_apart_5 : decode cX0_apart 5 = .ok (.istore_n 2, 1) := by decide +kernel
theorem dX0_apart_6 : decode cX0_apart 6 = .ok (.iload_n 2, 1) := by decide +kernel
theorem dX0_apart_7 : decode cX0_apart 7 = .ok (.bipush 11, 2) := by decide +kernel
theorem dX0_apart_9 : decode cX0_apart 9 = .ok (.if_icmp .ge 73, 3) := by decide +kernel
theorem dX0_apart_12 : decode cX0_apart 12 = .ok (.iconst 0, 1) := by decide +kernel
theorem dX0_apart_13 : decode cX0_apart 13 = .ok (.istore_n 3, 1) := by decide +kernel
theorem dX0_apart_14 : decode cX0_apart 14 = .ok (.iload_n 3, 1) := by decide +kernel
theorem dX0_apart_15 : decode cX0_apart 15 = .ok (.bipush 11, 2) := by decide +kernel
theorem dX0_apart_17 : decode cX0_apart 17 = .ok (.if_icmp .ge 59, 3) := by decide +kernel
theorem dX0_apart_20 : decode cX0_apart 20 = .ok (.iconst 0, 1) := by decide +kernel
theorem dX0_apart_21 : decode cX0_apart 21 = .ok (.istore 4, 2) := by decide +kernel
theorem dX0_apart_23 : decode cX0_apart 23 = .ok (.iload 4, 2) := by decide +kernel
theorem dX0_apart_25 : decode cX0_apart 25 = .ok (.bipush 11, 2) := by decide +kernel
theorem dX0_apart_27 : decode cX0_apart 27 = .ok (.if_icmp .ge 43, 3) := by decide +kernel
theorem dX0_apart_30 : decode cX0_apart 30 = .ok (.iload_n 1, 1) := by decide +kernel
theorem dX0_apart_31 : decode cX0_apart 31 = .ok (.iload_n 1, 1) := by decide +kernel
theorem dX0_apart_32 : decode cX0_apart 32 = .ok (.iload 4, 2) := by decide +kernel
theorem dX0_apart_34 : decode cX0_apart 34 = .ok (.invokestatic 41, 3) := by decide +kernel
theorem dX0_apart_37 : decode cX0_apart 37 = .ok (.ifCond .eq 24, 3) := by decide +kernel
theorem dX0_apart_40 : decode cX0_apart 40 = .ok (.aload_n 0, 1) := by decide +kernel
theorem dX0_apart_41 : decode cX0_apart 41 = .ok (.getfield 21, 3) := by decide +kernel
theorem dX0_apart_44 : decode cX0_apart 44 = .ok (.iload_n 3, 1) := by decide +kernel
theorem dX0_apart_45 : decode cX0_apart 45 = .ok (.bipush 11, 2) := by decide +kernel
theorem dX0_apart_47 : decode cX0_apart 47 = .ok (.imul, 1) := by decide +kernel
theorem dX0_apart_48 : decode cX0_apart 48 = .ok (.iload 4, 2) := by decide +kernel
theorem dX0_apart_50 : decode cX0_apart 50 = .ok (.iadd, 1) := by decide +kernel
theorem dX0_apart_51 : decode cX0_apart 51 = .ok (.iaload, 1) := by decide +kernel
theorem dX0_apart_52 : decode cX0_apart 52 = .ok (.ifCond .le 9, 3) := by decide +kernel
theorem dX0_apart_55 : decode cX0_apart 55 = .ok (.iconst 1, 1) := by decide +kernel
theorem dX0_apart_56 : decode cX0_apart 56 = .ok (.iload_n 3, 1) := by decide +kernel
theorem dX0_apart_57 : decode cX0_apart 57 = .ok (.ishl, 1) := by decide +kernel
theorem dX0_apart_58 : decode cX0_apart 58 = .ok (.goto 4, 3) := by decide +kernel
theorem dX0_apart_61 : decode cX0_apart 61 = .ok (.iconst 0, 1) := by decide +kernel
theorem dX0_apart_62 : decode cX0_apart 62 = .ok (.ior, 1) := by decide +kernel
theorem dX0_apart_63 : decode cX0_apart 63 = .ok (.istore_n 1, 1) := by decide +kernel
theorem dX0_apart_64 : decode cX0_apart 64 = .ok (.iinc 4 1, 3) := by decide +kernel
theorem dX0_apart_67 : decode cX0_apart 67 = .ok (.goto (-44), 3) := by decide +kernel
theorem dX0_apart_70 : decode cX0_apart 70 = .ok (.iinc 3 1, 3) := by decide +kernel
theorem dX0_apart_73 : decode cX0_apart 73 = .ok (.goto (-59), 3) := by decide +kernel
theorem dX0_apart_76 : decode cX0_apart 76 = .ok (.iinc 2 1, 3) := by decide +kernel
theorem dX0_apart_79 : decode cX0_apart 79 = .ok (.goto (-73), 3) := by decide +kernel
theorem dX0_apart_82 : decode cX0_apart 82 = .ok (.aload_n 0, 1) := by decide +kernel
theorem dX0_apart_83 : decode cX0_apart 83 = .ok (.getfield 30, 3) := by decide +kernel
theorem dX0_apart_86 : decode cX0_apart 86 = .ok (.iload_n 1, 1) := by decide +kernel
theorem dX0_apart_87 : decode cX0_apart 87 = .ok (.iconst (-1), 1) := by decide +kernel
theorem dX0_apart_88 : decode cX0_apart 88 = .ok (.ixor, 1) := by decide +kernel
theorem dX0_apart_89 : decode cX0_apart 89 = .ok (.iand, 1) := by decide +kernel
theorem dX0_apart_90 : decode cX0_apart 90 = .ok (.ireturn, 1) := by decide +kernel
theorem dX0_bestWith_0 : decode cX0_bestWith 0 = .ok (.aload_n 0, 1) := by decide +kernel
theorem dX0_bestWith_1 : decode cX0_bestWith 1 = .ok (.iload_n 1, 1) := by decide +kernel
theorem dX0_bestWith_2 : decode cX0_bestWith 2 = .ok (.invokevirtual 38, 3) := by decide +kernel
theorem dX0_bestWith_5 : decode cX0_bestWith 5 = .ok (.ifCond .eq 18, 3) := by decide +kernel
theorem dX0_bestWith_8 : decode cX0_bestWith 8 = .ok (.aload_n 0, 1) := by decide +kernel
theorem dX0_bestWith_9 : decode cX0_bestWith 9 = .ok (.iload_n 1, 1) := by decide +kernel
theorem dX0_bestWith_10 : decode cX0_bestWith 10 = .ok (.invokevirtual 66, 3) := by decide +kernel
theorem dX0_bestWith_13 : decode cX0_bestWith 13 = .ok (.aload_n 0, 1) := by decide +kernel
theorem dX0_bestWith_14 : decode cX0_bestWith 14 = .ok (.getfield 7, 3) := by decide +kernel
theorem dX0_bestWith_17 : decode cX0_bestWith 17 = .ok (.iload_n 1, 1) := by decide +kernel
theorem dX0_bestWith_18 : decode cX0_bestWith 18 = .ok (.baload, 1) := by decide +kernel
theorem dX0_bestWith_19 : decode cX0_bestWith 19 = .ok (.iadd, 1) := by decide +kernel
theorem dX0_bestWith_20 : decode cX0_bestWith 20 = .ok (.goto 5, 3) := by decide +kernel
theorem dX0_bestWith_23 : decode cX0_bestWith 23 = .ok (.ldc 70, 2) := by decide +kernel
theorem dX0_bestWith_25 : decode cX0_bestWith 25 = .ok (.ireturn, 1) := by decide +kernel
theorem dX0_worthWith_0 : decode cX0_worthWith 0 = .ok (.aload_n 0, 1) := by decide +kernel
theorem dX0_worthWith_1 : decode cX0_worthWith 1 = .ok (.invokevirtual 57, 3) := by decide +kernel
theorem dX0_worthWith_4 : decode cX0_worthWith 4 = .ok (.aload_n 0, 1) := by decide +kernel
theorem dX0_worthWith_5 : decode cX0_worthWith 5 = .ok (.getfield 17, 3) := by decide +kernel
theorem dX0_worthWith_8 : decode cX0_worthWith 8 = .ok (.iload_n 1, 1) := by decide +kernel
theorem dX0_worthWith_9 : decode cX0_worthWith 9 = .ok (.sipush 1000, 3) := by decide +kernel
theorem dX0_worthWith_12 : decode cX0_worthWith 12 = .ok (.iastore, 1) := by decide +kernel
theorem dX0_worthWith_13 : decode cX0_worthWith 13 = .ok (.aload_n 0, 1) := by decide +kernel
theorem dX0_worthWith_14 : decode cX0_worthWith 14 = .ok (.invokevirtual 60, 3) := by decide +kernel
theorem dX0_worthWith_17 : decode cX0_worthWith 17 = .ok (.istore_n 2, 1) := by decide +kernel
theorem dX0_worthWith_18 : decode cX0_worthWith 18 = .ok (.iload_n 2, 1) := by decide +kernel
theorem dX0_worthWith_19 : decode cX0_worthWith 19 = .ok (.sipush 1000, 3) := by decide +kernel
theorem dX0_worthWith_22 : decode cX0_worthWith 22 = .ok (.isub, 1) := by decide +kernel
theorem dX0_worthWith_23 : decode cX0_worthWith 23 = .ok (.ireturn, 1) := by decide +kernel
theorem dX0_bestWithout_0 : decode cX0_bestWithout 0 = .ok (.aload_n 0, 1) := by decide +kernel
theorem dX0_bestWithout_1 : decode cX0_bestWithout 1 = .ok (.iload_n 1, 1) := by decide +kernel
theorem dX0_bestWithout_2 : decode cX0_bestWithout 2 = .ok (.invokevirtual 38, 3) := by decide +kernel
theorem dX0_bestWithout_5 : decode cX0_bestWithout 5 = .ok (.ifCond .eq 11, 3) := by decide +kernel
theorem dX0_bestWithout_8 : decode cX0_bestWithout 8 = .ok (.aload_n 0, 1) := by decide +kernel
theorem dX0_bestWithout_9 : decode cX0_bestWithout 9 = .ok (.iload_n 1, 1) := by decide +kernel
theorem dX0_bestWithout_10 : decode cX0_bestWithout 10 = .ok (.invokevirtual 71, 3) := by decide +kernel
theorem dX0_bestWithout_13 : decode cX0_bestWithout 13 = .ok (.goto 7, 3) := by decide +kernel
theorem dX0_bestWithout_16 : decode cX0_bestWithout 16 = .ok (.aload_n 0, 1) := by decide +kernel
theorem dX0_bestWithout_17 : decode cX0_bestWithout 17 = .ok (.invokevirtual 74, 3) := by decide +kernel
theorem dX0_bestWithout_20 : decode cX0_bestWithout 20 = .ok (.ireturn, 1) := by decide +kernel
theorem dX0_worthWithout_0 : decode cX0_worthWithout 0 = .ok (.aload_n 0, 1) := by decide +kernel
theorem dX0_worthWithout_1 : decode cX0_worthWithout 1 = .ok (.invokevirtual 57, 3) := by decide +kernel
theorem dX0_worthWithout_4 : decode cX0_worthWithout 4 = .ok (.aload_n 0, 1) := by decide +kernel
theorem dX0_worthWithout_5 : decode cX0_worthWithout 5 = .ok (.getfield 17, 3) := by decide +kernel
theorem dX0_worthWithout_8 : decode cX0_worthWithout 8 = .ok (.iload_n 1, 1) := by decide +kernel
theorem dX0_worthWithout_9 : decode cX0_worthWithout 9 = .ok (.sipush (-1000), 3) := by decide +kernel
theorem dX0_worthWithout_12 : decode cX0_worthWithout 12 = .ok (.iastore, 1) := by decide +kernel
theorem dX0_worthWithout_13 : decode cX0_worthWithout 13 = .ok (.aload_n 0, 1) := by decide +kernel
theorem dX0_worthWithout_14 : decode cX0_worthWithout 14 = .ok (.invokevirtual 60, 3) := by decide +kernel
theorem dX0_worthWithout_17 : decode cX0_worthWithout 17 = .ok (.ireturn, 1) := by decide +kernel
theorem dX0_threshold_0 : decode cX0_threshold 0 = .ok (.aload_n 0, 1) := by decide +kernel
theorem dX0_threshold_1 : decode cX0_threshold 1 = .ok (.iload_n 1, 1) := by decide +kernel
theorem dX0_threshold_2 : decode cX0_threshold 2 = .ok (.invokevirtual 38, 3) := by decide +kernel
theorem dX0_threshold_5 : decode cX0_threshold 5 = .ok (.ifCond .ne 6, 3) := by decide +kernel
theorem dX0_threshold_8 : decode cX0_threshold 8 = .ok (.ldc 70, 2) := by decide +kernel
theorem dX0_threshold_10 : decode cX0_threshold 10 = .ok (.ireturn, 1) := by decide +kernel
theorem dX0_threshold_11 : decode cX0_threshold 11 = .ok (.aload_n 0, 1) := by decide +kernel
theorem dX0_threshold_12 : decode cX0_threshold 12 = .ok (.iload_n 1, 1) := by decide +kernel
theorem dX0_threshold_13 : decode cX0_threshold 13 = .ok (.invokevirtual 71, 3) := by decide +kernel
theorem dX0_threshold_16 : decode cX0_threshold 16 = .ok (.istore_n 2, 1) := by decide +kernel
theorem dX0_threshold_17 : decode cX0_threshold 17 = .ok (.iload_n 2, 1) := by decide +kernel
theorem dX0_threshold_18 : decode cX0_threshold 18 = .ok (.aload_n 0, 1) := by decide +kernel
theorem dX0_threshold_19 : decode cX0_threshold 19 = .ok (.iload_n 1, 1) := by decide +kernel
theorem dX0_threshold_20 : decode cX0_threshold 20 = .ok (.invokevirtual 66, 3) := by decide +kernel
theorem dX0_threshold_23 : decode cX0_threshold 23 = .ok (.isub, 1) := by decide +kernel
theorem dX0_threshold_24 : decode cX0_threshold 24 = .ok (.istore_n 3, 1) := by decide +kernel
theorem dX0_threshold_25 : decode cX0_threshold 25 = .ok (.iload_n 3, 1) := by decide +kernel
theorem dX0_threshold_26 : decode cX0_threshold 26 = .ok (.bipush 50, 2) := by decide +kernel
theorem dX0_threshold_28 : decode cX0_threshold 28 = .ok (.if_icmp .le 6, 3) := by decide +kernel
theorem dX0_threshold_31 : decode cX0_threshold 31 = .ok (.bipush 51, 2) := by decide +kernel
theorem dX0_threshold_33 : decode cX0_threshold 33 = .ok (.ireturn, 1) := by decide +kernel
theorem dX0_threshold_34 : decode cX0_threshold 34 = .ok (.iload_n 3, 1) := by decide +kernel
theorem dX0_threshold_35 : decode cX0_threshold 35 = .ok (.bipush (-50), 2) := by decide +kernel
theorem dX0_threshold_37 : decode cX0_threshold 37 = .ok (.if_icmp .ge 8, 3) := by decide +kernel
theorem dX0_threshold_40 : decode cX0_threshold 40 = .ok (.bipush (-50), 2) := by decide +kernel
theorem dX0_threshold_42 : decode cX0_threshold 42 = .ok (.goto 4, 3) := by decide +kernel
theorem dX0_threshold_45 : decode cX0_threshold 45 = .ok (.iload_n 3, 1) := by decide +kernel
theorem dX0_threshold_46 : decode cX0_threshold 46 = .ok (.ireturn, 1) := by decide +kernel
theorem dX0_burden_0 : decode cX0_burden 0 = .ok (.aload_n 0, 1) := by decide +kernel
theorem dX0_burden_1 : decode cX0_burden 1 = .ok (.iload_n 1, 1) := by decide +kernel
theorem dX0_burden_2 : decode cX0_burden 2 = .ok (.invokevirtual 38, 3) := by decide +kernel
theorem dX0_burden_5 : decode cX0_burden 5 = .ok (.ifCond .eq 16, 3) := by decide +kernel
theorem dX0_burden_8 : decode cX0_burden 8 = .ok (.aload_n 0, 1) := by decide +kernel
theorem dX0_burden_9 : decode cX0_burden 9 = .ok (.iload_n 2, 1) := by decide +kernel
theorem dX0_burden_10 : decode cX0_burden 10 = .ok (.invokevirtual 38, 3) := by decide +kernel
theorem dX0_burden_13 : decode cX0_burden 13 = .ok (.ifCond .eq 8, 3) := by decide +kernel
theorem dX0_burden_16 : decode cX0_burden 16 = .ok (.iload_n 1, 1) := by decide +kernel
theorem dX0_burden_17 : decode cX0_burden 17 = .ok (.iload_n 2, 1) := by decide +kernel
theorem dX0_burden_18 : decode cX0_burden 18 = .ok (.if_icmp .ne 6, 3) := by decide +kernel
theorem dX0_burden_21 : decode cX0_burden 21 = .ok (.ldc 70, 2) := by decide +kernel
theorem dX0_burden_23 : decode cX0_burden 23 = .ok (.ireturn, 1) := by decide +kernel
theorem dX0_burden_24 : decode cX0_burden 24 = .ok (.aload_n 0, 1) := by decide +kernel
theorem dX0_burden_25 : decode cX0_burden 25 = .ok (.getfield 13, 3) := by decide +kernel
theorem dX0_burden_28 : decode cX0_burden 28 = .ok (.iload_n 1, 1) := by decide +kernel
theorem dX0_burden_29 : decode cX0_burden 29 = .ok (.saload, 1) := by decide +kernel
theorem dX0_burden_30 : decode cX0_burden 30 = .ok (.iload_n 2, 1) := by decide +kernel
theorem dX0_burden_31 : decode cX0_burden 31 = .ok (.invokestatic 41, 3) := by decide +kernel
theorem dX0_burden_34 : decode cX0_burden 34 = .ok (.ifCond .ne 5, 3) := by decide +kernel
theorem dX0_burden_37 : decode cX0_burden 37 = .ok (.iconst 0, 1) := by decide +kernel
theorem dX0_burden_38 : decode cX0_burden 38 = .ok (.ireturn, 1) := by decide +kernel
theorem dX0_burden_39 : decode cX0_burden 39 = .ok (.aload_n 0, 1) := by decide +kernel
theorem dX0_burden_40 : decode cX0_burden 40 = .ok (.invokevirtual 74, 3) := by decide +kernel
theorem dX0_burden_43 : decode cX0_burden 43 = .ok (.istore_n 3, 1) := by decide +kernel
theorem dX0_burden_44 : decode cX0_burden 44 = .ok (.aload_n 0, 1) := by decide +kernel
theorem dX0_burden_45 : decode cX0_burden 45 = .ok (.iload_n 1, 1) := by decide +kernel
theorem dX0_burden_46 : decode cX0_burden 46 = .ok (.iload_n 2, 1) := by decide +kernel
theorem dX0_burden_47 : decode cX0_burden 47 = .ok (.iconst 0, 1) := by decide +kernel
theorem dX0_burden_48 : decode cX0_burden 48 = .ok (.invokevirtual 77, 3) := by decide +kernel
theorem dX0_burden_51 : decode cX0_burden 51 = .ok (.pop, 1) := by decide +kernel
theorem dX0_burden_52 : decode cX0_burden 52 = .ok (.aload_n 0, 1) := by decide +kernel
theorem dX0_burden_53 : decode cX0_burden 53 = .ok (.invokevirtual 74, 3) := by decide +kernel
theorem dX0_burden_56 : decode cX0_burden 56 = .ok (.istore 4, 2) := by decide +kernel
theorem dX0_burden_58 : decode cX0_burden 58 = .ok (.aload_n 0, 1) := by decide +kernel
theorem dX0_burden_59 : decode cX0_burden 59 = .ok (.iload_n 1, 1) := by decide +kernel
theorem dX0_burden_60 : decode cX0_burden 60 = .ok (.iload_n 2, 1) := by decide +kernel
theorem dX0_burden_61 : decode cX0_burden 61 = .ok (.iconst 1, 1) := by decide +kernel
theorem dX0_burden_62 : decode cX0_burden 62 = .ok (.invokevirtual 77, 3) := by decide +kernel
theorem dX0_burden_65 : decode cX0_burden 65 = .ok (.pop, 1) := by decide +kernel
theorem dX0_burden_66 : decode cX0_burden 66 = .ok (.iload 4, 2) := by decide +kernel
theorem dX0_burden_68 : decode cX0_burden 68 = .ok (.iload_n 3, 1) := by decide +kernel
theorem dX0_burden_69 : decode cX0_burden 69 = .ok (.isub, 1) := by decide +kernel
theorem dX0_burden_70 : decode cX0_burden 70 = .ok (.ireturn, 1) := by decide +kernel
theorem dX0_choices_0 : decode cX0_choices 0 = .ok (.aload_n 0, 1) := by decide +kernel
theorem dX0_choices_1 : decode cX0_choices 1 = .ok (.invokevirtual 57, 3) := by decide +kernel
theorem dX0_choices_4 : decode cX0_choices 4 = .ok (.aload_n 0, 1) := by decide +kernel
theorem dX0_choices_5 : decode cX0_choices 5 = .ok (.invokevirtual 60, 3) := by decide +kernel
theorem dX0_choices_8 : decode cX0_choices 8 = .ok (.pop, 1) := by decide +kernel
theorem dX0_choices_9 : decode cX0_choices 9 = .ok (.aload_n 0, 1) := by decide +kernel
theorem dX0_choices_10 : decode cX0_choices 10 = .ok (.invokevirtual 63, 3) := by decide +kernel
theorem dX0_choices_13 : decode cX0_choices 13 = .ok (.aload_n 0, 1) := by decide +kernel
theorem dX0_choices_14 : decode cX0_choices 14 = .ok (.getfield 54, 3) := by decide +kernel
theorem dX0_choices_17 : decode cX0_choices 17 = .ok (.iconst (-1), 1) := by decide +kernel
theorem dX0_choices_18 : decode cX0_choices 18 = .ok (.ixor, 1) := by decide +kernel
theorem dX0_choices_19 : decode cX0_choices 19 = .ok (.iand, 1) := by decide +kernel
theorem dX0_choices_20 : decode cX0_choices 20 = .ok (.istore_n 1, 1) := by decide +kernel
theorem dX0_choices_21 : decode cX0_choices 21 = .ok (.iconst 0, 1) := by decide +kernel
theorem dX0_choices_22 : decode cX0_choices 22 = .ok (.istore_n 2, 1) := by decide +kernel
theorem dX0_choices_23 : decode cX0_choices 23 = .ok (.iconst 0, 1) := by decide +kernel
theorem dX0_choices_24 : decode cX0_choices 24 = .ok (.istore_n 3, 1) := by decide +kernel
theorem dX0_choices_25 : decode cX0_choices 25 = .ok (.iload_n 3, 1) := by decide +kernel
theorem dX0_choices_26 : decode cX0_choices 26 = .ok (.aload_n 0, 1) := by decide +kernel
theorem dX0_choices_27 : decode cX0_choices 27 = .ok (.getfield 30, 3) := by decide +kernel
theorem dX0_choices_30 : decode cX0_choices 30 = .ok (.if_icmp .gt 34, 3) := by decide +kernel
theorem dX0_choices_33 : decode cX0_choices 33 = .ok (.iload_n 2, 1) := by decide +kernel
theorem dX0_choices_34 : decode cX0_choices 34 = .ok (.iload_n 3, 1) := by decide +kernel
theorem dX0_choices_35 : decode cX0_choices 35 = .ok (.iload_n 1, 1) := by decide +kernel
theorem dX0_choices_36 : decode cX0_choices 36 = .ok (.iconst (-1), 1) := by decide +kernel
theorem dX0_choices_37 : decode cX0_choices 37 = .ok (.ixor, 1) := by decide +kernel
theorem dX0_choices_38 : decode cX0_choices 38 = .ok (.iand, 1) := by decide +kernel
theorem dX0_choices_39 : decode cX0_choices 39 = .ok (.ifCond .ne 16, 3) := by decide +kernel
theorem dX0_choices_42 : decode cX0_choices 42 = .ok (.aload_n 0, 1) := by decide +kernel
theorem dX0_choices_43 : decode cX0_choices 43 = .ok (.iload_n 3, 1) := by decide +kernel
theorem dX0_choices_44 : decode cX0_choices 44 = .ok (.iload_n 1, 1) := by decide +kernel
theorem dX0_choices_45 : decode cX0_choices 45 = .ok (.invokevirtual 81, 3) := by decide +kernel
theorem dX0_choices_48 : decode cX0_choices 48 = .ok (.ifCond .eq 7, 3) := by decide +kernel
theorem dX0_choices_51 : decode cX0_choices 51 = .ok (.iconst 1, 1) := by decide +kernel
theorem dX0_choices_52 : decode cX0_choices 52 = .ok (.goto 4, 3) := by decide +kernel
theorem dX0_choices_55 : decode cX0_choices 55 = .ok (.iconst 0, 1) := by decide +kernel
theorem dX0_choices_56 : decode cX0_choices 56 = .ok (.iadd, 1) := by decide +kernel
theorem dX0_choices_57 : decode cX0_choices 57 = .ok (.istore_n 2, 1) := by decide +kernel
theorem dX0_choices_58 : decode cX0_choices 58 = .ok (.iinc 3 1, 3) := by decide +kernel
theorem dX0_choices_61 : decode cX0_choices 61 = .ok (.goto (-36), 3) := by decide +kernel
theorem dX0_choices_64 : decode cX0_choices 64 = .ok (.iload_n 2, 1) := by decide +kernel
theorem dX0_choices_65 : decode cX0_choices 65 = .ok (.ireturn, 1) := by decide +kernel
theorem dX0_stays_0 : decode cX0_stays 0 = .ok (.iconst 0, 1) := by decide +kernel
theorem dX0_stays_1 : decode cX0_stays 1 = .ok (.istore_n 3, 1) := by decide +kernel
theorem dX0_stays_2 : decode cX0_stays 2 = .ok (.iload_n 3, 1) := by decide +kernel
theorem dX0_stays_3 : decode cX0_stays 3 = .ok (.bipush 9, 2) := by decide +kernel
theorem dX0_stays_5 : decode cX0_stays 5 = .ok (.if_icmp .ge 63, 3) := by decide +kernel
theorem dX0_stays_8 : decode cX0_stays 8 = .ok (.iconst 0, 1) := by decide +kernel
theorem dX0_stays_9 : decode cX0_stays 9 = .ok (.istore 4, 2) := by decide +kernel
theorem dX0_stays_11 : decode cX0_stays 11 = .ok (.iload 4, 2) := by decide +kernel
theorem dX0_stays_13 : decode cX0_stays 13 = .ok (.bipush 9, 2) := by decide +kernel
theorem dX0_stays_15 : decode cX0_stays 15 = .ok (.if_icmp .ge 47, 3) := by decide +kernel
theorem dX0_stays_18 : decode cX0_stays 18 = .ok (.iload_n 1, 1) := by decide +kernel
theorem dX0_stays_19 : decode cX0_stays 19 = .ok (.iload_n 3, 1) := by decide +kernel
theorem dX0_stays_20 : decode cX0_stays 20 = .ok (.invokestatic 41, 3) := by decide +kernel
theorem dX0_stays_23 : decode cX0_stays 23 = .ok (.ifCond .eq 33, 3) := by decide +kernel
theorem dX0_stays_26 : decode cX0_stays 26 = .ok (.iload_n 2, 1) := by decide +kernel
theorem dX0_stays_27 : decode cX0_stays 27 = .ok (.iload_n 1, 1) := by decide +kernel
theorem dX0_stays_28 : decode cX0_stays 28 = .ok (.iconst (-1), 1) := by decide +kernel
theorem dX0_stays_29 : decode cX0_stays 29 = .ok (.ixor, 1) := by decide +kernel
theorem dX0_stays_30 : decode cX0_stays 30 = .ok (.iand, 1) := by decide +kernel
theorem dX0_stays_31 : decode cX0_stays 31 = .ok (.iload 4, 2) := by decide +kernel
theorem dX0_stays_33 : decode cX0_stays 33 = .ok (.invokestatic 41, 3) := by decide +kernel
theorem dX0_stays_36 : decode cX0_stays 36 = .ok (.ifCond .eq 20, 3) := by decide +kernel
theorem dX0_stays_39 : decode cX0_stays 39 = .ok (.aload_n 0, 1) := by decide +kernel
theorem dX0_stays_40 : decode cX0_stays 40 = .ok (.getfield 21, 3) := by decide +kernel
theorem dX0_stays_43 : decode cX0_stays 43 = .ok (.iload_n 3, 1) := by decide +kernel
theorem dX0_stays_44 : decode cX0_stays 44 = .ok (.bipush 11, 2) := by decide +kernel
theorem dX0_stays_46 : decode cX0_stays 46 = .ok (.imul, 1) := by decide +kernel
theorem dX0_stays_47 : decode cX0_stays 47 = .ok (.iload 4, 2) := by decide +kernel
theorem dX0_stays_49 : decode cX0_stays 49 = .ok (.iadd, 1) := by decide +kernel
theorem dX0_stays_50 : decode cX0_stays 50 = .ok (.iaload, 1) := by decide +kernel
theorem dX0_stays_51 : decode cX0_stays 51 = .ok (.ifCond .le 5, 3) := by decide +kernel
theorem dX0_stays_54 : decode cX0_stays 54 = .ok (.iconst 0, 1) := by decide +kernel
theorem dX0_stays_55 : decode cX0_stays 55 = .ok (.ireturn, 1) := by decide +kernel
theorem dX0_stays_56 : decode cX0_stays 56 = .ok (.iinc 4 1, 3) := by decide +kernel
theorem dX0_stays_59 : decode cX0_stays 59 = .ok (.goto (-48), 3) := by decide +kernel
theorem dX0_stays_62 : decode cX0_stays 62 = .ok (.iinc 3 1, 3) := by decide +kernel
theorem dX0_stays_65 : decode cX0_stays 65 = .ok (.goto (-63), 3) := by decide +kernel
theorem dX0_stays_68 : decode cX0_stays 68 = .ok (.iconst 1, 1) := by decide +kernel
theorem dX0_stays_69 : decode cX0_stays 69 = .ok (.ireturn, 1) := by decide +kernel
end
section
/-! decode rows (claim/names) -/
set_option maxRecDepth 100000
theorem dX1_init_0 : decode cX1_init 0 = .ok (.aload_n 0, 1) := by decide +kernel
theorem dX1_init_1 : decode cX1_init 1 = .ok (.invokespecial 1, 3) := by decide +kernel
theorem dX1_init_4 : decode cX1_init 4 = .ok (.aload_n 0, 1) := by decide +kernel
theorem dX1_init_5 : decode cX1_init 5 = .ok (.bipush 9, 2) := by decide +kernel
theorem dX1_init_7 : decode cX1_init 7 = .ok (.newarray .boolean, 2) := by decide +kernel
theorem dX1_init_9 : decode cX1_init 9 = .ok (.putfield 7, 3) := by decide +kernel
theorem dX1_init_12 : decode cX1_init 12 = .ok (.aload_n 0, 1) := by decide +kernel
theorem dX1_init_13 : decode cX1_init 13 = .ok (.bipush 9, 2) := by decide +kernel
theorem dX1_init_15 : decode cX1_init 15 = .ok (.newarray .int, 2) := by decide +kernel
theorem dX1_init_17 : decode cX1_init 17 = .ok (.putfield 13, 3) := by decide +kernel
theorem dX1_init_20 : decode cX1_init 20 = .ok (.aload_n 0, 1) := by decide +kernel
theorem dX1_init_21 : decode cX1_init 21 = .ok (.bipush 9, 2) := by decide +kernel
theorem dX1_init_23 : decode cX1_init 23 = .ok (.newarray .int, 2) := by decide +kernel
theorem dX1_init_25 : decode cX1_init 25 = .ok (.putfield 17, 3) := by decide +kernel
theorem dX1_init_28 : decode cX1_init 28 = .ok (.return_, 1) := by decide +kernel
theorem dX1_add_0 : decode cX1_add 0 = .ok (.aload_n 0, 1) := by decide +kernel
theorem dX1_add_1 : decode cX1_add 1 = .ok (.iload_n 1, 1) := by decide +kernel
theorem dX1_add_2 : decode cX1_add 2 = .ok (.invokevirtual 20, 3) := by decide +kernel
theorem dX1_add_5 : decode cX1_add 5 = .ok (.ifCond .ne 5, 3) := by decide +kernel
theorem dX1_add_8 : decode cX1_add 8 = .ok (.iconst (-1), 1) := by decide +kernel
theorem dX1_add_9 : decode cX1_add 9 = .ok (.ireturn, 1) := by decide +kernel
theorem dX1_add_10 : decode cX1_add 10 = .ok (.iconst 0, 1) := by decide +kernel
theorem dX1_add_11 : decode cX1_add 11 = .ok (.istore_n 2, 1) := by decide +kernel
theorem dX1_add_12 : decode cX1_add 12 = .ok (.iload_n 2, 1) := by decide +kernel
theorem dX1_add_13 : decode cX1_add 13 = .ok (.bipush 9, 2) := by decide +kernel
theorem dX1_add_15 : decode cX1_add 15 = .ok (.if_icmp .ge 41, 3) := by decide +kernel
theorem dX1_add_18 : decode cX1_add 18 = .ok (.aload_n 0, 1) := by decide +kernel
theorem dX1_add_19 : decode cX1_add 19 = .ok (.getfield 7, 3) := by decide +kernel
theorem dX1_add_22 : decode cX1_add 22 = .ok (.iload_n 2, 1) := by decide +kernel
theorem dX1_add_23 : decode cX1_add 23 = .ok (.baload, 1) := by decide +kernel
theorem dX1_add_24 : decode cX1_add 24 = .ok (.ifCond .ne 26, 3) := by decide +kernel
theorem dX1_add_27 : decode cX1_add 27 = .ok (.aload_n 0, 1) := by decide +kernel
theorem dX1_add_28 : decode cX1_add 28 = .ok (.getfield 7, 3) := by decide +kernel
theorem dX1_add_31 : decode cX1_add 31 = .ok (.iload_n 2, 1) := by decide +kernel
theorem dX1_add_32 : decode cX1_add 32 = .ok (.iconst 1, 1) := by decide +kernel
theorem dX1_add_33 : decode cX1_add 33 = .ok (.bastore, 1) := by decide +kernel
theorem dX1_add_34 : decode cX1_add 34 = .ok (.aload_n 0, 1) := by decide +kernel
theorem dX1_add_35 : decode cX1_add 35 = .ok (.getfield 13, 3) := by decide +kernel
theorem dX1_add_38 : decode cX1_add 38 = .ok (.iload_n 2, 1) := by decide +kernel
theorem dX1_add_39 : decode cX1_add 39 = .ok (.iload_n 1, 1) := by decide +kernel
theorem dX1_add_40 : decode cX1_add 40 = .ok (.iastore, 1) := by decide +kernel
theorem dX1_add_41 : decode cX1_add 41 = .ok (.aload_n 0, 1) := by decide +kernel
theorem dX1_add_42 : decode cX1_add 42 = .ok (.getfield 17, 3) := by decide +kernel
theorem dX1_add_45 : decode cX1_add 45 = .ok (.iload_n 2, 1) := by decide +kernel
theorem dX1_add_46 : decode cX1_add 46 = .ok (.iconst 0, 1) := by decide +kernel
theorem dX1_add_47 : decode cX1_add 47 = .ok (.iastore, 1) := by decide +kernel
theorem dX1_add_48 : decode cX1_add 48 = .ok (.iload_n 2, 1) := by decide +kernel
theorem dX1_add_49 : decode cX1_add 49 = .ok (.ireturn, 1) := by decide +kernel
theorem dX1_add_50 : decode cX1_add 50 = .ok (.iinc 2 1, 3) := by decide +kernel
theorem dX1_add_53 : decode cX1_add 53 = .ok (.goto (-41), 3) := by decide +kernel
theorem dX1_add_56 : decode cX1_add 56 = .ok (.bipush (-2), 2) := by decide +kernel
theorem dX1_add_58 : decode cX1_add 58 = .ok (.ireturn, 1) := by decide +kernel
theorem dX1_fits_0 : decode cX1_fits 0 = .ok (.iload_n 1, 1) := by decide +kernel
theorem dX1_fits_1 : decode cX1_fits 1 = .ok (.bipush (-50), 2) := by decide +kernel
theorem dX1_fits_3 : decode cX1_fits 3 = .ok (.if_icmp .lt 13, 3) := by decide +kernel
theorem dX1_fits_6 : decode cX1_fits 6 = .ok (.iload_n 1, 1) := by decide +kernel
theorem dX1_fits_7 : decode cX1_fits 7 = .ok (.bipush 50, 2) := by decide +kernel
theorem dX1_fits_9 : decode cX1_fits 9 = .ok (.if_icmp .gt 7, 3) := by decide +kernel
theorem dX1_fits_12 : decode cX1_fits 12 = .ok (.iconst 1, 1) := by decide +kernel
theorem dX1_fits_13 : decode cX1_fits 13 = .ok (.goto 4, 3) := by decide +kernel
theorem dX1_fits_16 : decode cX1_fits 16 = .ok (.iconst 0, 1) := by decide +kernel
theorem dX1_fits_17 : decode cX1_fits 17 = .ok (.ireturn, 1) := by decide +kernel
theorem dX1_remove_0 : decode cX1_remove 0 = .ok (.aload_n 0, 1) := by decide +kernel
theorem dX1_remove_1 : decode cX1_remove 1 = .ok (.iload_n 1, 1) := by decide +kernel
theorem dX1_remove_2 : decode cX1_remove 2 = .ok (.invokevirtual 24, 3) := by decide +kernel
theorem dX1_remove_5 : decode cX1_remove 5 = .ok (.ifCond .ne 5, 3) := by decide +kernel
theorem dX1_remove_8 : decode cX1_remove 8 = .ok (.iconst 0, 1) := by decide +kernel
theorem dX1_remove_9 : decode cX1_remove 9 = .ok (.ireturn, 1) := by decide +kernel
theorem dX1_remove_10 : decode cX1_remove 10 = .ok (.aload_n 0, 1) := by decide +kernel
theorem dX1_remove_11 : decode cX1_remove 11 = .ok (.getfield 7, 3) := by decide +kernel
theorem dX1_remove_14 : decode cX1_remove 14 = .ok (.iload_n 1, 1) := by decide +kernel
theorem dX1_remove_15 : decode cX1_remove 15 = .ok (.iconst 0, 1) := by decide +kernel
theorem dX1_remove_16 : decode cX1_remove 16 = .ok (.bastore, 1) := by decide +kernel
theorem dX1_remove_17 : decode cX1_remove 17 = .ok (.iconst 0, 1) := by decide +kernel
theorem dX1_remove_18 : decode cX1_remove 18 = .ok (.istore_n 2, 1) := by decide +kernel
theorem dX1_remove_19 : decode cX1_remove 19 = .ok (.iload_n 2, 1) := by decide +kernel
theorem dX1_remove_20 : decode cX1_remove 20 = .ok (.bipush 9, 2) := by decide +kernel
theorem dX1_remove_22 : decode cX1_remove 22 = .ok (.if_icmp .ge 27, 3) := by decide +kernel
theorem dX1_remove_25 : decode cX1_remove 25 = .ok (.aload_n 0, 1) := by decide +kernel
theorem dX1_remove_26 : decode cX1_remove 26 = .ok (.getfield 17, 3) := by decide +kernel
theorem dX1_remove_29 : decode cX1_remove 29 = .ok (.iload_n 2, 1) := by decide +kernel
theorem dX1_remove_30 : decode cX1_remove 30 = .ok (.aload_n 0, 1) := by decide +kernel
theorem dX1_remove_31 : decode cX1_remove 31 = .ok (.getfield 17, 3) := by decide +kernel
theorem dX1_remove_34 : decode cX1_remove 34 = .ok (.iload_n 2, 1) := by decide +kernel
theorem dX1_remove_35 : decode cX1_remove 35 = .ok (.iaload, 1) := by decide +kernel
theorem dX1_remove_36 : decode cX1_remove 36 = .ok (.iconst 1, 1) := by decide +kernel
theorem dX1_remove_37 : decode cX1_remove 37 = .ok (.iload_n 1, 1) := by decide +kernel
theorem dX1_remove_38 : decode cX1_remove 38 = .ok (.ishl, 1) := by decide +kernel
theorem dX1_remove_39 : decode cX1_remove 39 = .ok (.iconst (-1), 1) := by decide +kernel
theorem dX1_remove_40 : decode cX1_remove 40 = .ok (.ixor, 1) := by decide +kernel
theorem dX1_remove_41 : decode cX1_remove 41 = .ok (.iand, 1) := by decide +kernel
theorem dX1_remove_42 : decode cX1_remove 42 = .ok (.iastore, 1) := by decide +kernel
theorem dX1_remove_43 : decode cX1_remove 43 = .ok (.iinc 2 1, 3) := by decide +kernel
theorem dX1_remove_46 : decode cX1_remove 46 = .ok (.goto (-27), 3) := by decide +kernel
theorem dX1_remove_49 : decode cX1_remove 49 = .ok (.iconst 1, 1) := by decide +kernel
theorem dX1_remove_50 : decode cX1_remove 50 = .ok (.ireturn, 1) := by decide +kernel
theorem dX1_is_0 : decode cX1_is 0 = .ok (.iload_n 1, 1) := by decide +kernel
theorem dX1_is_1 : decode cX1_is 1 = .ok (.ifCond .lt 22, 3) := by decide +kernel
theorem dX1_is_4 : decode cX1_is 4 = .ok (.iload_n 1, 1) := by decide +kernel
theorem dX1_is_5 : decode cX1_is 5 = .ok (.bipush 9, 2) := by decide +kernel
theorem dX1_is_7 : decode cX1_is 7 = .ok (.if_icmp .ge 16, 3) := by decide +kernel
theorem dX1_is_10 : decode cX1_is 10 = .ok (.aload_n 0, 1) := by decide +kernel
theorem dX1_is_11 : decode cX1_is 11 = .ok (.getfield 7, 3) := by decide +kernel
theorem dX1_is_14 : decode cX1_is 14 = .ok (.iload_n 1, 1) := by decide +kernel
theorem dX1_is_15 : decode cX1_is 15 = .ok (.baload, 1) := by decide +kernel
theorem dX1_is_16 : decode cX1_is 16 = .ok (.ifCond .eq 7, 3) := by decide +kernel
theorem dX1_is_19 : decode cX1_is 19 = .ok (.iconst 1, 1) := by decide +kernel
theorem dX1_is_20 : decode cX1_is 20 = .ok (.goto 4, 3) := by decide +kernel
theorem dX1_is_23 : decode cX1_is 23 = .ok (.iconst 0, 1) := by decide +kernel
theorem dX1_is_24 : decode cX1_is 24 = .ok (.ireturn, 1) := by decide +kernel
theorem dX1_rate_0 : decode cX1_rate 0 = .ok (.aload_n 0, 1) := by decide +kernel
theorem dX1_rate_1 : decode cX1_rate 1 = .ok (.iload_n 1, 1) := by decide +kernel
theorem dX1_rate_2 : decode cX1_rate 2 = .ok (.invokevirtual 24, 3) := by decide +kernel
theorem dX1_rate_5 : decode cX1_rate 5 = .ok (.ifCond .eq 11, 3) := by decide +kernel
theorem dX1_rate_8 : decode cX1_rate 8 = .ok (.aload_n 0, 1) := by decide +kernel
theorem dX1_rate_9 : decode cX1_rate 9 = .ok (.iload_n 2, 1) := by decide +kernel
theorem dX1_rate_10 : decode cX1_rate 10 = .ok (.invokevirtual 20, 3) := by decide +kernel
theorem dX1_rate_13 : decode cX1_rate 13 = .ok (.ifCond .ne 5, 3) := by decide +kernel
theorem dX1_rate_16 : decode cX1_rate 16 = .ok (.iconst 0, 1) := by decide +kernel
theorem dX1_rate_17 : decode cX1_rate 17 = .ok (.ireturn, 1) := by decide +kernel
theorem dX1_rate_18 : decode cX1_rate 18 = .ok (.aload_n 0, 1) := by decide +kernel
theorem dX1_rate_19 : decode cX1_rate 19 = .ok (.getfield 13, 3) := by decide +kernel
theorem dX1_rate_22 : decode cX1_rate 22 = .ok (.iload_n 1, 1) := by decide +kernel
theorem dX1_rate_23 : decode cX1_rate 23 = .ok (.iload_n 2, 1) := by decide +kernel
theorem dX1_rate_24 : decode cX1_rate 24 = .ok (.iastore, 1) := by decide +kernel
theorem dX1_rate_25 : decode cX1_rate 25 = .ok (.iconst 1, 1) := by decide +kernel
theorem dX1_rate_26 : decode cX1_rate 26 = .ok (.ireturn, 1) := by decide +kernel
theorem dX1_need_0 : decode cX1_need 0 = .ok (.iload_n 1, 1) := by decide +kernel
theorem dX1_need_1 : decode cX1_need 1 = .ok (.iload_n 2, 1) := by decide +kernel
theorem dX1_need_2 : decode cX1_need 2 = .ok (.if_icmp .eq 19, 3) := by decide +kernel
theorem dX1_need_5 : decode cX1_need 5 = .ok (.aload_n 0, 1) := by decide +kernel
theorem dX1_need_6 : decode cX1_need 6 = .ok (.iload_n 1, 1) := by decide +kernel
theorem dX1_need_7 : decode cX1_need 7 = .ok (.invokevirtual 24, 3) := by decide +kernel
theorem dX1_need_10 : decode cX1_need 10 = .ok (.ifCond .eq 11, 3) := by decide +kernel
theorem dX1_need_13 : decode cX1_need 13 = .ok (.aload_n 0, 1) := by decide +kernel
theorem dX1_need_14 : decode cX1_need 14 = .ok (.iload_n 2, 1) := by decide +kernel
theorem dX1_need_15 : decode cX1_need 15 = .ok (.invokevirtual 24, 3) := by decide +kernel
theorem dX1_need_18 : decode cX1_need 18 = .ok (.ifCond .ne 5, 3) := by decide +kernel
theorem dX1_need_21 : decode cX1_need 21 = .ok (.iconst 0, 1) := by decide +kernel
theorem dX1_need_22 : decode cX1_need 22 = .ok (.ireturn, 1) := by decide +kernel
theorem dX1_need_23 : decode cX1_need 23 = .ok (.aload_n 0, 1) := by decide +kernel
theorem dX1_need_24 : decode cX1_need 24 = .ok (.getfield 17, 3) := by decide +kernel
theorem dX1_need_27 : decode cX1_need 27 = .ok (.iload_n 1, 1) := by decide +kernel
theorem dX1_need_28 : decode cX1_need 28 = .ok (.iload_n 3, 1) := by decide +kernel
theorem dX1_need_29 : decode cX1_need 29 = .ok (.ifCond .eq 16, 3) := by decide +kernel
theorem dX1_need_32 : decode cX1_need 32 = .ok (.aload_n 0, 1) := by decide +kernel
theorem dX1_need_33 : decode cX1_need 33 = .ok (.getfield 17, 3) := by decide +kernel
theorem dX1_need_36 : decode cX1_need 36 = .ok (.iload_n 1, 1) := by decide +kernel
theorem dX1_need_37 : decode cX1_need 37 = .ok (.iaload, 1) := by decide +kernel
theorem dX1_need_38 : decode cX1_need 38 = .ok (.iconst 1, 1) := by decide +kernel
theorem dX1_need_39 : decode cX1_need 39 = .ok (.iload_n 2, 1) := by decide +kernel
theorem dX1_need_40 : decode cX1_need 40 = .ok (.ishl, 1) := by decide +kernel
theorem dX1_need_41 : decode cX1_need 41 = .ok (.ior, 1) := by decide +kernel
theorem dX1_need_42 : decode cX1_need 42 = .ok (.goto 15, 3) := by decide +kernel
theorem dX1_need_45 : decode cX1_need 45 = .ok (.aload_n 0, 1) := by decide +kernel
theorem dX1_need_46 : decode cX1_need 46 = .ok (.getfield 17, 3) := by decide +kernel
theorem dX1_need_49 : decode cX1_need 49 = .ok (.iload_n 1, 1) := by decide +kernel
theorem dX1_need_50 : decode cX1_need 50 = .ok (.iaload, 1) := by decide +kernel
theorem dX1_need_51 : decode cX1_need 51 = .ok (.iconst 1, 1) := by decide +kernel
theorem dX1_need_52 : decode cX1_need 52 = .ok (.iload_n 2, 1) := by decide +kernel
theorem dX1_need_53 : decode cX1_need 53 = .ok (.ishl, 1) := by decide +kernel
theorem dX1_need_54 : decode cX1_need 54 = .ok (.iconst (-1), 1) := by decide +kernel
theorem dX1_need_55 : decode cX1_need 55 = .ok (.ixor, 1) := by decide +kernel
theorem dX1_need_56 : decode cX1_need 56 = .ok (.iand, 1) := by decide +kernel
theorem dX1_need_57 : decode cX1_need 57 = .ok (.iastore, 1) := by decide +kernel
theorem dX1_need_58 : decode cX1_need 58 = .ok (.iconst 1, 1) := by decide +kernel
theorem dX1_need_59 : decode cX1_need 59 = .ok (.ireturn, 1) := by decide +kernel
theorem dX1_undertakings_0 : decode cX1_undertakings 0 = .ok (.iconst 0, 1) := by decide +kernel
theorem dX1_undertakings_1 : decode cX1_undertakings 1 = .ok (.istore_n 1, 1) := by decide +kernel
theorem dX1_undertakings_2 : decode cX1_undertakings 2 = .ok (.iconst 0, 1) := by decide +kernel
theorem dX1_undertakings_3 : decode cX1_undertakings 3 = .ok (.istore_n 2, 1) := by decide +kernel
theorem dX1_undertakings_4 : decode cX1_undertakings 4 = .ok (.iload_n 2, 1) := by decide +kernel
theorem dX1_undertakings_5 : decode cX1_undertakings 5 = .ok (.bipush 9, 2) := by decide +kernel
theorem dX1_undertakings_7 : decode cX1_undertakings 7 = .ok (.if_icmp .ge 28, 3) := by decide +kernel
theorem dX1_undertakings_10 : decode cX1_undertakings 10 = .ok (.aload_n 0, 1) := by decide +kernel
theorem dX1_undertakings_11 : decode cX1_undertakings 11 = .ok (.getfield 7, 3) := by decide +kernel
theorem dX1_undertakings_14 : decode cX1_undertakings 14 = .ok (.iload_n 2, 1) := by decide +kernel
theorem dX1_undertakings_15 : decode cX1_undertakings 15 = .ok (.baload, 1) := by decide +kernel
theorem dX1_undertakings_16 : decode cX1_undertakings 16 = .ok (.ifCond .eq 11, 3) := by decide +kernel
theorem dX1_undertakings_19 : decode cX1_undertakings 19 = .ok (.iload_n 1, 1) := by decide +kernel
theorem dX1_undertakings_20 : decode cX1_undertakings 20 = .ok (.iconst 1, 1) := by decide +kernel
theorem dX1_undertakings_21 : decode cX1_undertakings 21 = .ok (.iload_n 2, 1) := by decide +kernel
theorem dX1_undertakings_22 : decode cX1_undertakings 22 = .ok (.ishl, 1) := by decide +kernel
theorem dX1_undertakings_23 : decode cX1_undertakings 23 = .ok (.ior, 1) := by decide +kernel
theorem dX1_undertakings_24 : decode cX1_undertakings 24 = .ok (.goto 4, 3) := by decide +kernel
theorem dX1_undertakings_27 : decode cX1_undertakings 27 = .ok (.iload_n 1, 1) := by decide +kernel
theorem dX1_undertakings_28 : decode cX1_undertakings 28 = .ok (.istore_n 1, 1) := by decide +kernel
theorem dX1_undertakings_29 : decode cX1_undertakings 29 = .ok (.iinc 2 1, 3) := by decide +kernel
theorem dX1_undertakings_32 : decode cX1_undertakings 32 = .ok (.goto (-28), 3) := by decide +kernel
theorem dX1_undertakings_35 : decode cX1_undertakings 35 = .ok (.iload_n 1, 1) := by decide +kernel
theorem dX1_undertakings_36 : decode cX1_undertakings 36 = .ok (.ireturn, 1) := by decide +kernel
theorem dX1_closed_0 : decode cX1_closed 0 = .ok (.iload_n 1, 1) := by decide +kernel
theorem dX1_closed_1 : decode cX1_closed 1 = .ok (.aload_n 0, 1) := by decide +kernel
theorem dX1_closed_2 : decode cX1_closed 2 = .ok (.invokevirtual 27, 3) := by decide +kernel
theorem dX1_closed_5 : decode cX1_closed 5 = .ok (.iconst (-1), 1) := by decide +kernel
theorem dX1_closed_6 : decode cX1_closed 6 = .ok (.ixor, 1) := by decide +kernel
theorem dX1_closed_7 : decode cX1_closed 7 = .ok (.iand, 1) := by decide +kernel
theorem dX1_closed_8 : decode cX1_closed 8 = .ok (.ifCond .ne 7, 3) := by decide +kernel
theorem dX1_closed_11 : decode cX1_closed 11 = .ok (.iconst 1, 1) := by decide +kernel
theorem dX1_closed_12 : decode cX1_closed 12 = .ok (.goto 4, 3) := by decide +kernel
theorem dX1_closed_15 : decode cX1_closed 15 = .ok (.iconst 0, 1) := by decide +kernel
theorem dX1_closed_16 : decode cX1_closed 16 = .ok (.istore_n 2, 1) := by decide +kernel
theorem dX1_closed_17 : decode cX1_closed 17 = .ok (.iconst 0, 1) := by decide +kernel
theorem dX1_closed_18 : decode cX1_closed 18 = .ok (.istore_n 3, 1) := by decide +kernel
theorem dX1_closed_19 : decode cX1_closed 19 = .ok (.iload_n 3, 1) := by decide +kernel
theorem dX1_closed_20 : decode cX1_closed 20 = .ok (.bipush 9, 2) := by decide +kernel
theorem dX1_closed_22 : decode cX1_closed 22 = .ok (.if_icmp .ge 40, 3) := by decide +kernel
theorem dX1_closed_25 : decode cX1_closed 25 = .ok (.iload_n 2, 1) := by decide +kernel
theorem dX1_closed_26 : decode cX1_closed 26 = .ok (.ifCond .eq 28, 3) := by decide +kernel
theorem dX1_closed_29 : decode cX1_closed 29 = .ok (.iload_n 1, 1) := by decide +kernel
theorem dX1_closed_30 : decode cX1_closed 30 = .ok (.iload_n 3, 1) := by decide +kernel
theorem dX1_closed_31 : decode cX1_closed 31 = .ok (.ishr, 1) := by decide +kernel
theorem dX1_closed_32 : decode cX1_closed 32 = .ok (.iconst 1, 1) := by decide +kernel
theorem dX1_closed_33 : decode cX1_closed 33 = .ok (.iand, 1) := by decide +kernel
theorem dX1_closed_34 : decode cX1_closed 34 = .ok (.ifCond .eq 16, 3) := by decide +kernel
theorem dX1_closed_37 : decode cX1_closed 37 = .ok (.aload_n 0, 1) := by decide +kernel
theorem dX1_closed_38 : decode cX1_closed 38 = .ok (.getfield 17, 3) := by decide +kernel
theorem dX1_closed_41 : decode cX1_closed 41 = .ok (.iload_n 3, 1) := by decide +kernel
theorem dX1_closed_42 : decode cX1_closed 42 = .ok (.iaload, 1) := by decide +kernel
theorem dX1_closed_43 : decode cX1_closed 43 = .ok (.iload_n 1, 1) := by decide +kernel
theorem dX1_closed_44 : decode cX1_closed 44 = .ok (.iconst (-1), 1) := by decide +kernel
theorem dX1_closed_45 : decode cX1_closed 45 = .ok (.ixor, 1) := by decide +kernel
theorem dX1_closed_46 : decode cX1_closed 46 = .ok (.iand, 1) := by decide +kernel
theorem dX1_closed_47 : decode cX1_closed 47 = .ok (.ifCond .ne 7, 3) := by decide +kernel
theorem dX1_closed_50 : decode cX1_closed 50 = .ok (.iconst 1, 1) := by decide +kernel
theorem dX1_closed_51 : decode cX1_closed 51 = .ok (.goto 4, 3) := by decide +kernel
theorem dX1_closed_54 : decode cX1_closed 54 = .ok (.iconst 0, 1) := by decide +kernel
theorem dX1_closed_55 : decode cX1_closed 55 = .ok (.istore_n 2, 1) := by decide +kernel
theorem dX1_closed_56 : decode cX1_closed 56 = .ok (.iinc 3 1, 3) := by decide +kernel
theorem dX1_closed_59 : decode cX1_closed 59 = .ok (.goto (-40), 3) := by decide +kernel
theorem dX1_closed_62 : decode cX1_closed 62 = .ok (.iload_n 2, 1) := by decide +kernel
theorem dX1_closed_63 : decode cX1_closed 63 = .ok (.ireturn, 1) := by decide +kernel
theorem dX1_closure_0 : decode cX1_closure 0 = .ok (.iload_n 1, 1) := by decide +kernel
theorem dX1_closure_1 : decode cX1_closure 1 = .ok (.aload_n 0, 1) := by decide +kernel
theorem dX1_closure_2 : decode cX1_closure 2 = .ok (.invokevirtual 27, 3) := by decide +kernel
theorem dX1_closure_5 : decode cX1_closure 5 = .ok (.iand, 1) := by decide +kernel
theorem dX1_closure_6 : decode cX1_closure 6 = .ok (.istore_n 2, 1) := by decide +kernel
theorem dX1_closure_7 : decode cX1_closure 7 = .ok (.iconst 0, 1) := by decide +kernel
theorem dX1_closure_8 : decode cX1_closure 8 = .ok (.istore_n 3, 1) := by decide +kernel
theorem dX1_closure_9 : decode cX1_closure 9 = .ok (.sipush 511, 3) := by decide +kernel
theorem dX1_closure_12 : decode cX1_closure 12 = .ok (.istore 4, 2) := by decide +kernel
theorem dX1_closure_14 : decode cX1_closure 14 = .ok (.iload 4, 2) := by decide +kernel
theorem dX1_closure_16 : decode cX1_closure 16 = .ok (.ifCond .lt 34, 3) := by decide +kernel
theorem dX1_closure_19 : decode cX1_closure 19 = .ok (.aload_n 0, 1) := by decide +kernel
theorem dX1_closure_20 : decode cX1_closure 20 = .ok (.iload 4, 2) := by decide +kernel
theorem dX1_closure_22 : decode cX1_closure 22 = .ok (.invokevirtual 31, 3) := by decide +kernel
theorem dX1_closure_25 : decode cX1_closure 25 = .ok (.ifCond .eq 17, 3) := by decide +kernel
theorem dX1_closure_28 : decode cX1_closure 28 = .ok (.iload_n 2, 1) := by decide +kernel
theorem dX1_closure_29 : decode cX1_closure 29 = .ok (.iload 4, 2) := by decide +kernel
theorem dX1_closure_31 : decode cX1_closure 31 = .ok (.iconst (-1), 1) := by decide +kernel
theorem dX1_closure_32 : decode cX1_closure 32 = .ok (.ixor, 1) := by decide +kernel
theorem dX1_closure_33 : decode cX1_closure 33 = .ok (.iand, 1) := by decide +kernel
theorem dX1_closure_34 : decode cX1_closure 34 = .ok (.ifCond .ne 8, 3) := by decide +kernel
theorem dX1_closure_37 : decode cX1_closure 37 = .ok (.iload 4, 2) := by decide +kernel
theorem dX1_closure_39 : decode cX1_closure 39 = .ok (.goto 4, 3) := by decide +kernel
theorem dX1_closure_42 : decode cX1_closure 42 = .ok (.iload_n 3, 1) := by decide +kernel
theorem dX1_closure_43 : decode cX1_closure 43 = .ok (.istore_n 3, 1) := by decide +kernel
theorem dX1_closure_44 : decode cX1_closure 44 = .ok (.iinc 4 (-1), 3) := by decide +kernel
theorem dX1_closure_47 : decode cX1_closure 47 = .ok (.goto (-33), 3) := by decide +kernel
theorem dX1_closure_50 : decode cX1_closure 50 = .ok (.iload_n 3, 1) := by decide +kernel
theorem dX1_closure_51 : decode cX1_closure 51 = .ok (.ireturn, 1) := by decide +kernel
theorem dX1_best_0 : decode cX1_best 0 = .ok (.aload_n 0, 1) := by decide +kernel
theorem dX1_best_1 : decode cX1_best 1 = .ok (.iconst 0, 1) := by decide +kernel
theorem dX1_best_2 : decode cX1_best 2 = .ok (.iconst 0, 1) := by decide +kernel
theorem dX1_best_3 : decode cX1_best 3 = .ok (.invokevirtual 39, 3) := by decide +kernel
theorem dX1_best_6 : decode cX1_best 6 = .ok (.ireturn, 1) := by decide +kernel
theorem dX1_greatest_0 : decode cX1_greatest 0 = .ok (.ldc 34, 2) := by decide +kernel
theorem dX1_greatest_2 : decode cX1_greatest 2 = .ok (.istore_n 3, 1) := by decide +kernel
theorem dX1_greatest_3 : decode cX1_greatest 3 = .ok (.iconst 0, 1) := by decide +kernel
theorem dX1_greatest_4 : decode cX1_greatest 4 = .ok (.istore 4, 2) := by decide +kernel
end
section
/-! decode rows (claim/names) -/
set_option maxRecDepth 100000
theorem dX1_greatest_6 : decode cX1_greatest 6 = .ok (.iload 4, 2) := by decide +kernel
theorem dX1_greatest_8 : decode cX1_greatest 8 = .ok (.sipush 512, 3) := by decide +kernel
theorem dX1_greatest_11 : decode cX1_greatest 11 = .ok (.if_icmp .ge 55, 3) := by decide +kernel
theorem dX1_greatest_14 : decode cX1_greatest 14 = .ok (.iload_n 1, 1) := by decide +kernel
theorem dX1_greatest_15 : decode cX1_greatest 15 = .ok (.iload 4, 2) := by decide +kernel
theorem dX1_greatest_17 : decode cX1_greatest 17 = .ok (.iconst (-1), 1) := by decide +kernel
theorem dX1_greatest_18 : decode cX1_greatest 18 = .ok (.ixor, 1) := by decide +kernel
theorem dX1_greatest_19 : decode cX1_greatest 19 = .ok (.iand, 1) := by decide +kernel
theorem dX1_greatest_20 : decode cX1_greatest 20 = .ok (.ifCond .ne 40, 3) := by decide +kernel
theorem dX1_greatest_23 : decode cX1_greatest 23 = .ok (.iload_n 2, 1) := by decide +kernel
theorem dX1_greatest_24 : decode cX1_greatest 24 = .ok (.iload 4, 2) := by decide +kernel
theorem dX1_greatest_26 : decode cX1_greatest 26 = .ok (.iand, 1) := by decide +kernel
theorem dX1_greatest_27 : decode cX1_greatest 27 = .ok (.ifCond .ne 33, 3) := by decide +kernel
theorem dX1_greatest_30 : decode cX1_greatest 30 = .ok (.aload_n 0, 1) := by decide +kernel
theorem dX1_greatest_31 : decode cX1_greatest 31 = .ok (.iload 4, 2) := by decide +kernel
theorem dX1_greatest_33 : decode cX1_greatest 33 = .ok (.invokevirtual 31, 3) := by decide +kernel
theorem dX1_greatest_36 : decode cX1_greatest 36 = .ok (.ifCond .eq 24, 3) := by decide +kernel
theorem dX1_greatest_39 : decode cX1_greatest 39 = .ok (.aload_n 0, 1) := by decide +kernel
theorem dX1_greatest_40 : decode cX1_greatest 40 = .ok (.iload 4, 2) := by decide +kernel
theorem dX1_greatest_42 : decode cX1_greatest 42 = .ok (.invokevirtual 35, 3) := by decide +kernel
theorem dX1_greatest_45 : decode cX1_greatest 45 = .ok (.istore 5, 2) := by decide +kernel
theorem dX1_greatest_47 : decode cX1_greatest 47 = .ok (.iload 5, 2) := by decide +kernel
theorem dX1_greatest_49 : decode cX1_greatest 49 = .ok (.iload_n 3, 1) := by decide +kernel
theorem dX1_greatest_50 : decode cX1_greatest 50 = .ok (.if_icmp .le 8, 3) := by decide +kernel
theorem dX1_greatest_53 : decode cX1_greatest 53 = .ok (.iload 5, 2) := by decide +kernel
theorem dX1_greatest_55 : decode cX1_greatest 55 = .ok (.goto 4, 3) := by decide +kernel
theorem dX1_greatest_58 : decode cX1_greatest 58 = .ok (.iload_n 3, 1) := by decide +kernel
theorem dX1_greatest_59 : decode cX1_greatest 59 = .ok (.istore_n 3, 1) := by decide +kernel
theorem dX1_greatest_60 : decode cX1_greatest 60 = .ok (.iinc 4 1, 3) := by decide +kernel
theorem dX1_greatest_63 : decode cX1_greatest 63 = .ok (.goto (-57), 3) := by decide +kernel
theorem dX1_greatest_66 : decode cX1_greatest 66 = .ok (.iload_n 3, 1) := by decide +kernel
theorem dX1_greatest_67 : decode cX1_greatest 67 = .ok (.ireturn, 1) := by decide +kernel
theorem dX1_sum_0 : decode cX1_sum 0 = .ok (.iconst 0, 1) := by decide +kernel
theorem dX1_sum_1 : decode cX1_sum 1 = .ok (.istore_n 2, 1) := by decide +kernel
theorem dX1_sum_2 : decode cX1_sum 2 = .ok (.iconst 0, 1) := by decide +kernel
theorem dX1_sum_3 : decode cX1_sum 3 = .ok (.istore_n 3, 1) := by decide +kernel
theorem dX1_sum_4 : decode cX1_sum 4 = .ok (.iload_n 3, 1) := by decide +kernel
theorem dX1_sum_5 : decode cX1_sum 5 = .ok (.bipush 9, 2) := by decide +kernel
theorem dX1_sum_7 : decode cX1_sum 7 = .ok (.if_icmp .ge 31, 3) := by decide +kernel
theorem dX1_sum_10 : decode cX1_sum 10 = .ok (.iload_n 1, 1) := by decide +kernel
theorem dX1_sum_11 : decode cX1_sum 11 = .ok (.iload_n 3, 1) := by decide +kernel
theorem dX1_sum_12 : decode cX1_sum 12 = .ok (.ishr, 1) := by decide +kernel
theorem dX1_sum_13 : decode cX1_sum 13 = .ok (.iconst 1, 1) := by decide +kernel
theorem dX1_sum_14 : decode cX1_sum 14 = .ok (.iand, 1) := by decide +kernel
theorem dX1_sum_15 : decode cX1_sum 15 = .ok (.iconst 1, 1) := by decide +kernel
theorem dX1_sum_16 : decode cX1_sum 16 = .ok (.if_icmp .ne 14, 3) := by decide +kernel
theorem dX1_sum_19 : decode cX1_sum 19 = .ok (.iload_n 2, 1) := by decide +kernel
theorem dX1_sum_20 : decode cX1_sum 20 = .ok (.aload_n 0, 1) := by decide +kernel
theorem dX1_sum_21 : decode cX1_sum 21 = .ok (.getfield 13, 3) := by decide +kernel
theorem dX1_sum_24 : decode cX1_sum 24 = .ok (.iload_n 3, 1) := by decide +kernel
theorem dX1_sum_25 : decode cX1_sum 25 = .ok (.iaload, 1) := by decide +kernel
theorem dX1_sum_26 : decode cX1_sum 26 = .ok (.iadd, 1) := by decide +kernel
theorem dX1_sum_27 : decode cX1_sum 27 = .ok (.goto 4, 3) := by decide +kernel
theorem dX1_sum_30 : decode cX1_sum 30 = .ok (.iload_n 2, 1) := by decide +kernel
theorem dX1_sum_31 : decode cX1_sum 31 = .ok (.istore_n 2, 1) := by decide +kernel
theorem dX1_sum_32 : decode cX1_sum 32 = .ok (.iinc 3 1, 3) := by decide +kernel
theorem dX1_sum_35 : decode cX1_sum 35 = .ok (.goto (-31), 3) := by decide +kernel
theorem dX1_sum_38 : decode cX1_sum 38 = .ok (.iload_n 2, 1) := by decide +kernel
theorem dX1_sum_39 : decode cX1_sum 39 = .ok (.ireturn, 1) := by decide +kernel
theorem dX1_leastBest_0 : decode cX1_leastBest 0 = .ok (.aload_n 0, 1) := by decide +kernel
theorem dX1_leastBest_1 : decode cX1_leastBest 1 = .ok (.invokevirtual 43, 3) := by decide +kernel
theorem dX1_leastBest_4 : decode cX1_leastBest 4 = .ok (.istore_n 1, 1) := by decide +kernel
theorem dX1_leastBest_5 : decode cX1_leastBest 5 = .ok (.aload_n 0, 1) := by decide +kernel
theorem dX1_leastBest_6 : decode cX1_leastBest 6 = .ok (.invokevirtual 27, 3) := by decide +kernel
theorem dX1_leastBest_9 : decode cX1_leastBest 9 = .ok (.istore_n 2, 1) := by decide +kernel
theorem dX1_leastBest_10 : decode cX1_leastBest 10 = .ok (.iconst 0, 1) := by decide +kernel
theorem dX1_leastBest_11 : decode cX1_leastBest 11 = .ok (.istore_n 3, 1) := by decide +kernel
theorem dX1_leastBest_12 : decode cX1_leastBest 12 = .ok (.iload_n 3, 1) := by decide +kernel
theorem dX1_leastBest_13 : decode cX1_leastBest 13 = .ok (.sipush 512, 3) := by decide +kernel
theorem dX1_leastBest_16 : decode cX1_leastBest 16 = .ok (.if_icmp .ge 34, 3) := by decide +kernel
theorem dX1_leastBest_19 : decode cX1_leastBest 19 = .ok (.aload_n 0, 1) := by decide +kernel
theorem dX1_leastBest_20 : decode cX1_leastBest 20 = .ok (.iload_n 3, 1) := by decide +kernel
theorem dX1_leastBest_21 : decode cX1_leastBest 21 = .ok (.invokevirtual 31, 3) := by decide +kernel
theorem dX1_leastBest_24 : decode cX1_leastBest 24 = .ok (.ifCond .eq 18, 3) := by decide +kernel
theorem dX1_leastBest_27 : decode cX1_leastBest 27 = .ok (.aload_n 0, 1) := by decide +kernel
theorem dX1_leastBest_28 : decode cX1_leastBest 28 = .ok (.iload_n 3, 1) := by decide +kernel
theorem dX1_leastBest_29 : decode cX1_leastBest 29 = .ok (.invokevirtual 35, 3) := by decide +kernel
theorem dX1_leastBest_32 : decode cX1_leastBest 32 = .ok (.iload_n 1, 1) := by decide +kernel
theorem dX1_leastBest_33 : decode cX1_leastBest 33 = .ok (.if_icmp .ne 9, 3) := by decide +kernel
theorem dX1_leastBest_36 : decode cX1_leastBest 36 = .ok (.iload_n 2, 1) := by decide +kernel
theorem dX1_leastBest_37 : decode cX1_leastBest 37 = .ok (.iload_n 3, 1) := by decide +kernel
theorem dX1_leastBest_38 : decode cX1_leastBest 38 = .ok (.iand, 1) := by decide +kernel
theorem dX1_leastBest_39 : decode cX1_leastBest 39 = .ok (.goto 4, 3) := by decide +kernel
theorem dX1_leastBest_42 : decode cX1_leastBest 42 = .ok (.iload_n 2, 1) := by decide +kernel
theorem dX1_leastBest_43 : decode cX1_leastBest 43 = .ok (.istore_n 2, 1) := by decide +kernel
theorem dX1_leastBest_44 : decode cX1_leastBest 44 = .ok (.iinc 3 1, 3) := by decide +kernel
theorem dX1_leastBest_47 : decode cX1_leastBest 47 = .ok (.goto (-35), 3) := by decide +kernel
theorem dX1_leastBest_50 : decode cX1_leastBest 50 = .ok (.iload_n 2, 1) := by decide +kernel
theorem dX1_leastBest_51 : decode cX1_leastBest 51 = .ok (.ireturn, 1) := by decide +kernel
theorem dX1_greatestBest_0 : decode cX1_greatestBest 0 = .ok (.aload_n 0, 1) := by decide +kernel
theorem dX1_greatestBest_1 : decode cX1_greatestBest 1 = .ok (.invokevirtual 43, 3) := by decide +kernel
theorem dX1_greatestBest_4 : decode cX1_greatestBest 4 = .ok (.istore_n 1, 1) := by decide +kernel
theorem dX1_greatestBest_5 : decode cX1_greatestBest 5 = .ok (.iconst 0, 1) := by decide +kernel
theorem dX1_greatestBest_6 : decode cX1_greatestBest 6 = .ok (.istore_n 2, 1) := by decide +kernel
theorem dX1_greatestBest_7 : decode cX1_greatestBest 7 = .ok (.iconst 0, 1) := by decide +kernel
theorem dX1_greatestBest_8 : decode cX1_greatestBest 8 = .ok (.istore_n 3, 1) := by decide +kernel
theorem dX1_greatestBest_9 : decode cX1_greatestBest 9 = .ok (.iload_n 3, 1) := by decide +kernel
theorem dX1_greatestBest_10 : decode cX1_greatestBest 10 = .ok (.sipush 512, 3) := by decide +kernel
theorem dX1_greatestBest_13 : decode cX1_greatestBest 13 = .ok (.if_icmp .ge 34, 3) := by decide +kernel
theorem dX1_greatestBest_16 : decode cX1_greatestBest 16 = .ok (.aload_n 0, 1) := by decide +kernel
theorem dX1_greatestBest_17 : decode cX1_greatestBest 17 = .ok (.iload_n 3, 1) := by decide +kernel
theorem dX1_greatestBest_18 : decode cX1_greatestBest 18 = .ok (.invokevirtual 31, 3) := by decide +kernel
theorem dX1_greatestBest_21 : decode cX1_greatestBest 21 = .ok (.ifCond .eq 18, 3) := by decide +kernel
theorem dX1_greatestBest_24 : decode cX1_greatestBest 24 = .ok (.aload_n 0, 1) := by decide +kernel
theorem dX1_greatestBest_25 : decode cX1_greatestBest 25 = .ok (.iload_n 3, 1) := by decide +kernel
theorem dX1_greatestBest_26 : decode cX1_greatestBest 26 = .ok (.invokevirtual 35, 3) := by decide +kernel
theorem dX1_greatestBest_29 : decode cX1_greatestBest 29 = .ok (.iload_n 1, 1) := by decide +kernel
theorem dX1_greatestBest_30 : decode cX1_greatestBest 30 = .ok (.if_icmp .ne 9, 3) := by decide +kernel
theorem dX1_greatestBest_33 : decode cX1_greatestBest 33 = .ok (.iload_n 2, 1) := by decide +kernel
theorem dX1_greatestBest_34 : decode cX1_greatestBest 34 = .ok (.iload_n 3, 1) := by decide +kernel
theorem dX1_greatestBest_35 : decode cX1_greatestBest 35 = .ok (.ior, 1) := by decide +kernel
theorem dX1_greatestBest_36 : decode cX1_greatestBest 36 = .ok (.goto 4, 3) := by decide +kernel
theorem dX1_greatestBest_39 : decode cX1_greatestBest 39 = .ok (.iload_n 2, 1) := by decide +kernel
theorem dX1_greatestBest_40 : decode cX1_greatestBest 40 = .ok (.istore_n 2, 1) := by decide +kernel
theorem dX1_greatestBest_41 : decode cX1_greatestBest 41 = .ok (.iinc 3 1, 3) := by decide +kernel
theorem dX1_greatestBest_44 : decode cX1_greatestBest 44 = .ok (.goto (-35), 3) := by decide +kernel
theorem dX1_greatestBest_47 : decode cX1_greatestBest 47 = .ok (.iload_n 2, 1) := by decide +kernel
theorem dX1_greatestBest_48 : decode cX1_greatestBest 48 = .ok (.ireturn, 1) := by decide +kernel
theorem dX1_bestWith_0 : decode cX1_bestWith 0 = .ok (.aload_n 0, 1) := by decide +kernel
theorem dX1_bestWith_1 : decode cX1_bestWith 1 = .ok (.iload_n 1, 1) := by decide +kernel
theorem dX1_bestWith_2 : decode cX1_bestWith 2 = .ok (.invokevirtual 24, 3) := by decide +kernel
theorem dX1_bestWith_5 : decode cX1_bestWith 5 = .ok (.ifCond .eq 14, 3) := by decide +kernel
theorem dX1_bestWith_8 : decode cX1_bestWith 8 = .ok (.aload_n 0, 1) := by decide +kernel
theorem dX1_bestWith_9 : decode cX1_bestWith 9 = .ok (.iconst 1, 1) := by decide +kernel
theorem dX1_bestWith_10 : decode cX1_bestWith 10 = .ok (.iload_n 1, 1) := by decide +kernel
theorem dX1_bestWith_11 : decode cX1_bestWith 11 = .ok (.ishl, 1) := by decide +kernel
theorem dX1_bestWith_12 : decode cX1_bestWith 12 = .ok (.iconst 0, 1) := by decide +kernel
theorem dX1_bestWith_13 : decode cX1_bestWith 13 = .ok (.invokevirtual 39, 3) := by decide +kernel
theorem dX1_bestWith_16 : decode cX1_bestWith 16 = .ok (.goto 5, 3) := by decide +kernel
theorem dX1_bestWith_19 : decode cX1_bestWith 19 = .ok (.ldc 34, 2) := by decide +kernel
theorem dX1_bestWith_21 : decode cX1_bestWith 21 = .ok (.ireturn, 1) := by decide +kernel
theorem dX1_bestWithout_0 : decode cX1_bestWithout 0 = .ok (.aload_n 0, 1) := by decide +kernel
theorem dX1_bestWithout_1 : decode cX1_bestWithout 1 = .ok (.iconst 0, 1) := by decide +kernel
theorem dX1_bestWithout_2 : decode cX1_bestWithout 2 = .ok (.iload_n 1, 1) := by decide +kernel
theorem dX1_bestWithout_3 : decode cX1_bestWithout 3 = .ok (.ifCond .lt 15, 3) := by decide +kernel
theorem dX1_bestWithout_6 : decode cX1_bestWithout 6 = .ok (.iload_n 1, 1) := by decide +kernel
theorem dX1_bestWithout_7 : decode cX1_bestWithout 7 = .ok (.bipush 9, 2) := by decide +kernel
theorem dX1_bestWithout_9 : decode cX1_bestWithout 9 = .ok (.if_icmp .ge 9, 3) := by decide +kernel
theorem dX1_bestWithout_12 : decode cX1_bestWithout 12 = .ok (.iconst 1, 1) := by decide +kernel
theorem dX1_bestWithout_13 : decode cX1_bestWithout 13 = .ok (.iload_n 1, 1) := by decide +kernel
theorem dX1_bestWithout_14 : decode cX1_bestWithout 14 = .ok (.ishl, 1) := by decide +kernel
theorem dX1_bestWithout_15 : decode cX1_bestWithout 15 = .ok (.goto 4, 3) := by decide +kernel
theorem dX1_bestWithout_18 : decode cX1_bestWithout 18 = .ok (.iconst 0, 1) := by decide +kernel
theorem dX1_bestWithout_19 : decode cX1_bestWithout 19 = .ok (.invokevirtual 39, 3) := by decide +kernel
theorem dX1_bestWithout_22 : decode cX1_bestWithout 22 = .ok (.ireturn, 1) := by decide +kernel
theorem dX1_threshold_0 : decode cX1_threshold 0 = .ok (.aload_n 0, 1) := by decide +kernel
theorem dX1_threshold_1 : decode cX1_threshold 1 = .ok (.iload_n 1, 1) := by decide +kernel
theorem dX1_threshold_2 : decode cX1_threshold 2 = .ok (.invokevirtual 24, 3) := by decide +kernel
theorem dX1_threshold_5 : decode cX1_threshold 5 = .ok (.ifCond .ne 6, 3) := by decide +kernel
theorem dX1_threshold_8 : decode cX1_threshold 8 = .ok (.ldc 34, 2) := by decide +kernel
theorem dX1_threshold_10 : decode cX1_threshold 10 = .ok (.ireturn, 1) := by decide +kernel
theorem dX1_threshold_11 : decode cX1_threshold 11 = .ok (.aload_n 0, 1) := by decide +kernel
theorem dX1_threshold_12 : decode cX1_threshold 12 = .ok (.getfield 13, 3) := by decide +kernel
theorem dX1_threshold_15 : decode cX1_threshold 15 = .ok (.iload_n 1, 1) := by decide +kernel
theorem dX1_threshold_16 : decode cX1_threshold 16 = .ok (.iaload, 1) := by decide +kernel
theorem dX1_threshold_17 : decode cX1_threshold 17 = .ok (.istore_n 2, 1) := by decide +kernel
theorem dX1_threshold_18 : decode cX1_threshold 18 = .ok (.bipush 51, 2) := by decide +kernel
theorem dX1_threshold_20 : decode cX1_threshold 20 = .ok (.istore_n 3, 1) := by decide +kernel
theorem dX1_threshold_21 : decode cX1_threshold 21 = .ok (.bipush 50, 2) := by decide +kernel
theorem dX1_threshold_23 : decode cX1_threshold 23 = .ok (.istore 4, 2) := by decide +kernel
theorem dX1_threshold_25 : decode cX1_threshold 25 = .ok (.iload 4, 2) := by decide +kernel
theorem dX1_threshold_27 : decode cX1_threshold 27 = .ok (.bipush (-50), 2) := by decide +kernel
theorem dX1_threshold_29 : decode cX1_threshold 29 = .ok (.if_icmp .lt 36, 3) := by decide +kernel
theorem dX1_threshold_32 : decode cX1_threshold 32 = .ok (.aload_n 0, 1) := by decide +kernel
theorem dX1_threshold_33 : decode cX1_threshold 33 = .ok (.getfield 13, 3) := by decide +kernel
theorem dX1_threshold_36 : decode cX1_threshold 36 = .ok (.iload_n 1, 1) := by decide +kernel
theorem dX1_threshold_37 : decode cX1_threshold 37 = .ok (.iload 4, 2) := by decide +kernel
theorem dX1_threshold_39 : decode cX1_threshold 39 = .ok (.iastore, 1) := by decide +kernel
theorem dX1_threshold_40 : decode cX1_threshold 40 = .ok (.aload_n 0, 1) := by decide +kernel
theorem dX1_threshold_41 : decode cX1_threshold 41 = .ok (.iload_n 1, 1) := by decide +kernel
theorem dX1_threshold_42 : decode cX1_threshold 42 = .ok (.invokevirtual 46, 3) := by decide +kernel
theorem dX1_threshold_45 : decode cX1_threshold 45 = .ok (.aload_n 0, 1) := by decide +kernel
theorem dX1_threshold_46 : decode cX1_threshold 46 = .ok (.invokevirtual 43, 3) := by decide +kernel
theorem dX1_threshold_49 : decode cX1_threshold 49 = .ok (.if_icmp .ne 8, 3) := by decide +kernel
theorem dX1_threshold_52 : decode cX1_threshold 52 = .ok (.iload 4, 2) := by decide +kernel
theorem dX1_threshold_54 : decode cX1_threshold 54 = .ok (.goto 4, 3) := by decide +kernel
theorem dX1_threshold_57 : decode cX1_threshold 57 = .ok (.iload_n 3, 1) := by decide +kernel
theorem dX1_threshold_58 : decode cX1_threshold 58 = .ok (.istore_n 3, 1) := by decide +kernel
theorem dX1_threshold_59 : decode cX1_threshold 59 = .ok (.iinc 4 (-1), 3) := by decide +kernel
theorem dX1_threshold_62 : decode cX1_threshold 62 = .ok (.goto (-37), 3) := by decide +kernel
theorem dX1_threshold_65 : decode cX1_threshold 65 = .ok (.aload_n 0, 1) := by decide +kernel
theorem dX1_threshold_66 : decode cX1_threshold 66 = .ok (.getfield 13, 3) := by decide +kernel
theorem dX1_threshold_69 : decode cX1_threshold 69 = .ok (.iload_n 1, 1) := by decide +kernel
theorem dX1_threshold_70 : decode cX1_threshold 70 = .ok (.iload_n 2, 1) := by decide +kernel
theorem dX1_threshold_71 : decode cX1_threshold 71 = .ok (.iastore, 1) := by decide +kernel
theorem dX1_threshold_72 : decode cX1_threshold 72 = .ok (.iload_n 3, 1) := by decide +kernel
theorem dX1_threshold_73 : decode cX1_threshold 73 = .ok (.ireturn, 1) := by decide +kernel
theorem dX1_burden_0 : decode cX1_burden 0 = .ok (.iload_n 1, 1) := by decide +kernel
theorem dX1_burden_1 : decode cX1_burden 1 = .ok (.iload_n 2, 1) := by decide +kernel
theorem dX1_burden_2 : decode cX1_burden 2 = .ok (.if_icmp .eq 19, 3) := by decide +kernel
theorem dX1_burden_5 : decode cX1_burden 5 = .ok (.aload_n 0, 1) := by decide +kernel
theorem dX1_burden_6 : decode cX1_burden 6 = .ok (.iload_n 1, 1) := by decide +kernel
theorem dX1_burden_7 : decode cX1_burden 7 = .ok (.invokevirtual 24, 3) := by decide +kernel
theorem dX1_burden_10 : decode cX1_burden 10 = .ok (.ifCond .eq 11, 3) := by decide +kernel
theorem dX1_burden_13 : decode cX1_burden 13 = .ok (.aload_n 0, 1) := by decide +kernel
theorem dX1_burden_14 : decode cX1_burden 14 = .ok (.iload_n 2, 1) := by decide +kernel
theorem dX1_burden_15 : decode cX1_burden 15 = .ok (.invokevirtual 24, 3) := by decide +kernel
theorem dX1_burden_18 : decode cX1_burden 18 = .ok (.ifCond .ne 6, 3) := by decide +kernel
theorem dX1_burden_21 : decode cX1_burden 21 = .ok (.ldc 34, 2) := by decide +kernel
theorem dX1_burden_23 : decode cX1_burden 23 = .ok (.ireturn, 1) := by decide +kernel
theorem dX1_burden_24 : decode cX1_burden 24 = .ok (.aload_n 0, 1) := by decide +kernel
theorem dX1_burden_25 : decode cX1_burden 25 = .ok (.getfield 17, 3) := by decide +kernel
theorem dX1_burden_28 : decode cX1_burden 28 = .ok (.iload_n 1, 1) := by decide +kernel
theorem dX1_burden_29 : decode cX1_burden 29 = .ok (.iaload, 1) := by decide +kernel
theorem dX1_burden_30 : decode cX1_burden 30 = .ok (.istore_n 3, 1) := by decide +kernel
theorem dX1_burden_31 : decode cX1_burden 31 = .ok (.aload_n 0, 1) := by decide +kernel
theorem dX1_burden_32 : decode cX1_burden 32 = .ok (.invokevirtual 43, 3) := by decide +kernel
theorem dX1_burden_35 : decode cX1_burden 35 = .ok (.istore 4, 2) := by decide +kernel
theorem dX1_burden_37 : decode cX1_burden 37 = .ok (.aload_n 0, 1) := by decide +kernel
theorem dX1_burden_38 : decode cX1_burden 38 = .ok (.getfield 17, 3) := by decide +kernel
theorem dX1_burden_41 : decode cX1_burden 41 = .ok (.iload_n 1, 1) := by decide +kernel
theorem dX1_burden_42 : decode cX1_burden 42 = .ok (.iload_n 3, 1) := by decide +kernel
theorem dX1_burden_43 : decode cX1_burden 43 = .ok (.iconst 1, 1) := by decide +kernel
theorem dX1_burden_44 : decode cX1_burden 44 = .ok (.iload_n 2, 1) := by decide +kernel
theorem dX1_burden_45 : decode cX1_burden 45 = .ok (.ishl, 1) := by decide +kernel
theorem dX1_burden_46 : decode cX1_burden 46 = .ok (.iconst (-1), 1) := by decide +kernel
theorem dX1_burden_47 : decode cX1_burden 47 = .ok (.ixor, 1) := by decide +kernel
theorem dX1_burden_48 : decode cX1_burden 48 = .ok (.iand, 1) := by decide +kernel
theorem dX1_burden_49 : decode cX1_burden 49 = .ok (.iastore, 1) := by decide +kernel
theorem dX1_burden_50 : decode cX1_burden 50 = .ok (.aload_n 0, 1) := by decide +kernel
theorem dX1_burden_51 : decode cX1_burden 51 = .ok (.invokevirtual 43, 3) := by decide +kernel
theorem dX1_burden_54 : decode cX1_burden 54 = .ok (.istore 5, 2) := by decide +kernel
theorem dX1_burden_56 : decode cX1_burden 56 = .ok (.aload_n 0, 1) := by decide +kernel
theorem dX1_burden_57 : decode cX1_burden 57 = .ok (.getfield 17, 3) := by decide +kernel
theorem dX1_burden_60 : decode cX1_burden 60 = .ok (.iload_n 1, 1) := by decide +kernel
theorem dX1_burden_61 : decode cX1_burden 61 = .ok (.iload_n 3, 1) := by decide +kernel
theorem dX1_burden_62 : decode cX1_burden 62 = .ok (.iastore, 1) := by decide +kernel
theorem dX1_burden_63 : decode cX1_burden 63 = .ok (.iload 5, 2) := by decide +kernel
theorem dX1_burden_65 : decode cX1_burden 65 = .ok (.iload 4, 2) := by decide +kernel
theorem dX1_burden_67 : decode cX1_burden 67 = .ok (.isub, 1) := by decide +kernel
theorem dX1_burden_68 : decode cX1_burden 68 = .ok (.ireturn, 1) := by decide +kernel
theorem dX1_choices_0 : decode cX1_choices 0 = .ok (.aload_n 0, 1) := by decide +kernel
theorem dX1_choices_1 : decode cX1_choices 1 = .ok (.invokevirtual 43, 3) := by decide +kernel
theorem dX1_choices_4 : decode cX1_choices 4 = .ok (.istore_n 1, 1) := by decide +kernel
theorem dX1_choices_5 : decode cX1_choices 5 = .ok (.iconst 0, 1) := by decide +kernel
theorem dX1_choices_6 : decode cX1_choices 6 = .ok (.istore_n 2, 1) := by decide +kernel
theorem dX1_choices_7 : decode cX1_choices 7 = .ok (.iconst 0, 1) := by decide +kernel
theorem dX1_choices_8 : decode cX1_choices 8 = .ok (.istore_n 3, 1) := by decide +kernel
theorem dX1_choices_9 : decode cX1_choices 9 = .ok (.iload_n 3, 1) := by decide +kernel
theorem dX1_choices_10 : decode cX1_choices 10 = .ok (.sipush 512, 3) := by decide +kernel
theorem dX1_choices_13 : decode cX1_choices 13 = .ok (.if_icmp .ge 34, 3) := by decide +kernel
theorem dX1_choices_16 : decode cX1_choices 16 = .ok (.aload_n 0, 1) := by decide +kernel
theorem dX1_choices_17 : decode cX1_choices 17 = .ok (.iload_n 3, 1) := by decide +kernel
theorem dX1_choices_18 : decode cX1_choices 18 = .ok (.invokevirtual 31, 3) := by decide +kernel
theorem dX1_choices_21 : decode cX1_choices 21 = .ok (.ifCond .eq 18, 3) := by decide +kernel
theorem dX1_choices_24 : decode cX1_choices 24 = .ok (.aload_n 0, 1) := by decide +kernel
theorem dX1_choices_25 : decode cX1_choices 25 = .ok (.iload_n 3, 1) := by decide +kernel
theorem dX1_choices_26 : decode cX1_choices 26 = .ok (.invokevirtual 35, 3) := by decide +kernel
theorem dX1_choices_29 : decode cX1_choices 29 = .ok (.iload_n 1, 1) := by decide +kernel
theorem dX1_choices_30 : decode cX1_choices 30 = .ok (.if_icmp .ne 9, 3) := by decide +kernel
theorem dX1_choices_33 : decode cX1_choices 33 = .ok (.iload_n 2, 1) := by decide +kernel
theorem dX1_choices_34 : decode cX1_choices 34 = .ok (.iconst 1, 1) := by decide +kernel
theorem dX1_choices_35 : decode cX1_choices 35 = .ok (.iadd, 1) := by decide +kernel
theorem dX1_choices_36 : decode cX1_choices 36 = .ok (.goto 4, 3) := by decide +kernel
theorem dX1_choices_39 : decode cX1_choices 39 = .ok (.iload_n 2, 1) := by decide +kernel
theorem dX1_choices_40 : decode cX1_choices 40 = .ok (.istore_n 2, 1) := by decide +kernel
theorem dX1_choices_41 : decode cX1_choices 41 = .ok (.iinc 3 1, 3) := by decide +kernel
theorem dX1_choices_44 : decode cX1_choices 44 = .ok (.goto (-35), 3) := by decide +kernel
theorem dX1_choices_47 : decode cX1_choices 47 = .ok (.iload_n 2, 1) := by decide +kernel
theorem dX1_choices_48 : decode cX1_choices 48 = .ok (.ireturn, 1) := by decide +kernel
end
section
/-! decode rows (claim/names) -/
set_option maxRecDepth 100000
theorem dL_law_0 : decode cL_law 0 = .ok (.new 7, 3) := by decide +kernel
theorem dL_law_3 : decode cL_law 3 = .ok (.dup, 1) := by decide +kernel
theorem dL_law_4 : decode cL_law 4 = .ok (.invokespecial 9, 3) := by decide +kernel
theorem dL_law_7 : decode cL_law 7 = .ok (.astore_n 1, 1) := by decide +kernel
theorem dL_law_8 : decode cL_law 8 = .ok (.new 10, 3) := by decide +kernel
theorem dL_law_11 : decode cL_law 11 = .ok (.dup, 1) := by decide +kernel
theorem dL_law_12 : decode cL_law 12 = .ok (.invokespecial 12, 3) := by decide +kernel
theorem dL_law_15 : decode cL_law 15 = .ok (.astore_n 2, 1) := by decide +kernel
theorem dL_law_16 : decode cL_law 16 = .ok (.iconst 0, 1) := by decide +kernel
theorem dL_law_17 : decode cL_law 17 = .ok (.istore_n 3, 1) := by decide +kernel
theorem dL_law_18 : decode cL_law 18 = .ok (.iload_n 3, 1) := by decide +kernel
theorem dL_law_19 : decode cL_law 19 = .ok (.aload_n 0, 1) := by decide +kernel
theorem dL_law_20 : decode cL_law 20 = .ok (.arraylength, 1) := by decide +kernel
theorem dL_law_21 : decode cL_law 21 = .ok (.iconst 4, 1) := by decide +kernel
theorem dL_law_22 : decode cL_law 22 = .ok (.isub, 1) := by decide +kernel
theorem dL_law_23 : decode cL_law 23 = .ok (.if_icmp .gt 442, 3) := by decide +kernel
theorem dL_law_26 : decode cL_law 26 = .ok (.aload_n 0, 1) := by decide +kernel
theorem dL_law_27 : decode cL_law 27 = .ok (.iload_n 3, 1) := by decide +kernel
theorem dL_law_28 : decode cL_law 28 = .ok (.iaload, 1) := by decide +kernel
theorem dL_law_29 : decode cL_law 29 = .ok (.bipush 15, 2) := by decide +kernel
theorem dL_law_31 : decode cL_law 31 = .ok (.iand, 1) := by decide +kernel
theorem dL_law_32 : decode cL_law 32 = .ok (.tableswitch 427 0 14 #[76, 99, 122, 155, 214, 227, 250, 273, 286, 299, 312, 335, 358, 381, 414], 76) := by decide +kernel
theorem dL_law_108 : decode cL_law 108 = .ok (.aload_n 1, 1) := by decide +kernel
theorem dL_law_109 : decode cL_law 109 = .ok (.aload_n 0, 1) := by decide +kernel
theorem dL_law_110 : decode cL_law 110 = .ok (.iload_n 3, 1) := by decide +kernel
theorem dL_law_111 : decode cL_law 111 = .ok (.iconst 1, 1) := by decide +kernel
theorem dL_law_112 : decode cL_law 112 = .ok (.iadd, 1) := by decide +kernel
theorem dL_law_113 : decode cL_law 113 = .ok (.iaload, 1) := by decide +kernel
theorem dL_law_114 : decode cL_law 114 = .ok (.invokevirtual 13, 3) := by decide +kernel
theorem dL_law_117 : decode cL_law 117 = .ok (.aload_n 2, 1) := by decide +kernel
theorem dL_law_118 : decode cL_law 118 = .ok (.aload_n 0, 1) := by decide +kernel
theorem dL_law_119 : decode cL_law 119 = .ok (.iload_n 3, 1) := by decide +kernel
theorem dL_law_120 : decode cL_law 120 = .ok (.iconst 1, 1) := by decide +kernel
theorem dL_law_121 : decode cL_law 121 = .ok (.iadd, 1) := by decide +kernel
theorem dL_law_122 : decode cL_law 122 = .ok (.iaload, 1) := by decide +kernel
theorem dL_law_123 : decode cL_law 123 = .ok (.invokevirtual 17, 3) := by decide +kernel
theorem dL_law_126 : decode cL_law 126 = .ok (.if_icmp .eq 333, 3) := by decide +kernel
theorem dL_law_129 : decode cL_law 129 = .ok (.iconst 0, 1) := by decide +kernel
theorem dL_law_130 : decode cL_law 130 = .ok (.ireturn, 1) := by decide +kernel
theorem dL_law_131 : decode cL_law 131 = .ok (.aload_n 1, 1) := by decide +kernel
theorem dL_law_132 : decode cL_law 132 = .ok (.aload_n 0, 1) := by decide +kernel
theorem dL_law_133 : decode cL_law 133 = .ok (.iload_n 3, 1) := by decide +kernel
theorem dL_law_134 : decode cL_law 134 = .ok (.iconst 1, 1) := by decide +kernel
theorem dL_law_135 : decode cL_law 135 = .ok (.iadd, 1) := by decide +kernel
theorem dL_law_136 : decode cL_law 136 = .ok (.iaload, 1) := by decide +kernel
theorem dL_law_137 : decode cL_law 137 = .ok (.invokevirtual 18, 3) := by decide +kernel
theorem dL_law_140 : decode cL_law 140 = .ok (.aload_n 2, 1) := by decide +kernel
theorem dL_law_141 : decode cL_law 141 = .ok (.aload_n 0, 1) := by decide +kernel
theorem dL_law_142 : decode cL_law 142 = .ok (.iload_n 3, 1) := by decide +kernel
theorem dL_law_143 : decode cL_law 143 = .ok (.iconst 1, 1) := by decide +kernel
theorem dL_law_144 : decode cL_law 144 = .ok (.iadd, 1) := by decide +kernel
theorem dL_law_145 : decode cL_law 145 = .ok (.iaload, 1) := by decide +kernel
theorem dL_law_146 : decode cL_law 146 = .ok (.invokevirtual 22, 3) := by decide +kernel
theorem dL_law_149 : decode cL_law 149 = .ok (.if_icmp .eq 310, 3) := by decide +kernel
theorem dL_law_152 : decode cL_law 152 = .ok (.iconst 0, 1) := by decide +kernel
theorem dL_law_153 : decode cL_law 153 = .ok (.ireturn, 1) := by decide +kernel
theorem dL_law_154 : decode cL_law 154 = .ok (.aload_n 1, 1) := by decide +kernel
theorem dL_law_155 : decode cL_law 155 = .ok (.aload_n 0, 1) := by decide +kernel
theorem dL_law_156 : decode cL_law 156 = .ok (.iload_n 3, 1) := by decide +kernel
theorem dL_law_157 : decode cL_law 157 = .ok (.iconst 1, 1) := by decide +kernel
theorem dL_law_158 : decode cL_law 158 = .ok (.iadd, 1) := by decide +kernel
theorem dL_law_159 : decode cL_law 159 = .ok (.iaload, 1) := by decide +kernel
theorem dL_law_160 : decode cL_law 160 = .ok (.aload_n 0, 1) := by decide +kernel
theorem dL_law_161 : decode cL_law 161 = .ok (.iload_n 3, 1) := by decide +kernel
theorem dL_law_162 : decode cL_law 162 = .ok (.iconst 2, 1) := by decide +kernel
theorem dL_law_163 : decode cL_law 163 = .ok (.iadd, 1) := by decide +kernel
theorem dL_law_164 : decode cL_law 164 = .ok (.iaload, 1) := by decide +kernel
theorem dL_law_165 : decode cL_law 165 = .ok (.invokevirtual 23, 3) := by decide +kernel
theorem dL_law_168 : decode cL_law 168 = .ok (.aload_n 2, 1) := by decide +kernel
theorem dL_law_169 : decode cL_law 169 = .ok (.aload_n 0, 1) := by decide +kernel
end
section
/-! decode rows (claim/names) -/
set_option maxRecDepth 100000
theorem dL_law_170 : decode cL_law 170 = .ok (.iload_n 3, 1) := by decide +kernel
theorem dL_law_171 : decode cL_law 171 = .ok (.iconst 1, 1) := by decide +kernel
theorem dL_law_172 : decode cL_law 172 = .ok (.iadd, 1) := by decide +kernel
theorem dL_law_173 : decode cL_law 173 = .ok (.iaload, 1) := by decide +kernel
theorem dL_law_174 : decode cL_law 174 = .ok (.aload_n 0, 1) := by decide +kernel
theorem dL_law_175 : decode cL_law 175 = .ok (.iload_n 3, 1) := by decide +kernel
theorem dL_law_176 : decode cL_law 176 = .ok (.iconst 2, 1) := by decide +kernel
theorem dL_law_177 : decode cL_law 177 = .ok (.iadd, 1) := by decide +kernel
theorem dL_law_178 : decode cL_law 178 = .ok (.iaload, 1) := by decide +kernel
theorem dL_law_179 : decode cL_law 179 = .ok (.invokevirtual 27, 3) := by decide +kernel
theorem dL_law_182 : decode cL_law 182 = .ok (.if_icmp .eq 277, 3) := by decide +kernel
theorem dL_law_185 : decode cL_law 185 = .ok (.iconst 0, 1) := by decide +kernel
theorem dL_law_186 : decode cL_law 186 = .ok (.ireturn, 1) := by decide +kernel
theorem dL_law_187 : decode cL_law 187 = .ok (.aload_n 1, 1) := by decide +kernel
theorem dL_law_188 : decode cL_law 188 = .ok (.aload_n 0, 1) := by decide +kernel
theorem dL_law_189 : decode cL_law 189 = .ok (.iload_n 3, 1) := by decide +kernel
theorem dL_law_190 : decode cL_law 190 = .ok (.iconst 1, 1) := by decide +kernel
theorem dL_law_191 : decode cL_law 191 = .ok (.iadd, 1) := by decide +kernel
theorem dL_law_192 : decode cL_law 192 = .ok (.iaload, 1) := by decide +kernel
theorem dL_law_193 : decode cL_law 193 = .ok (.aload_n 0, 1) := by decide +kernel
theorem dL_law_194 : decode cL_law 194 = .ok (.iload_n 3, 1) := by decide +kernel
theorem dL_law_195 : decode cL_law 195 = .ok (.iconst 2, 1) := by decide +kernel
theorem dL_law_196 : decode cL_law 196 = .ok (.iadd, 1) := by decide +kernel
theorem dL_law_197 : decode cL_law 197 = .ok (.iaload, 1) := by decide +kernel
theorem dL_law_198 : decode cL_law 198 = .ok (.aload_n 0, 1) := by decide +kernel
theorem dL_law_199 : decode cL_law 199 = .ok (.iload_n 3, 1) := by decide +kernel
theorem dL_law_200 : decode cL_law 200 = .ok (.iconst 3, 1) := by decide +kernel
theorem dL_law_201 : decode cL_law 201 = .ok (.iadd, 1) := by decide +kernel
theorem dL_law_202 : decode cL_law 202 = .ok (.iaload, 1) := by decide +kernel
theorem dL_law_203 : decode cL_law 203 = .ok (.ifCond .eq 7, 3) := by decide +kernel
theorem dL_law_206 : decode cL_law 206 = .ok (.iconst 1, 1) := by decide +kernel
theorem dL_law_207 : decode cL_law 207 = .ok (.goto 4, 3) := by decide +kernel
theorem dL_law_210 : decode cL_law 210 = .ok (.iconst 0, 1) := by decide +kernel
theorem dL_law_211 : decode cL_law 211 = .ok (.invokevirtual 28, 3) := by decide +kernel
theorem dL_law_214 : decode cL_law 214 = .ok (.aload_n 2, 1) := by decide +kernel
theorem dL_law_215 : decode cL_law 215 = .ok (.aload_n 0, 1) := by decide +kernel
theorem dL_law_216 : decode cL_law 216 = .ok (.iload_n 3, 1) := by decide +kernel
theorem dL_law_217 : decode cL_law 217 = .ok (.iconst 1, 1) := by decide +kernel
theorem dL_law_218 : decode cL_law 218 = .ok (.iadd, 1) := by decide +kernel
theorem dL_law_219 : decode cL_law 219 = .ok (.iaload, 1) := by decide +kernel
theorem dL_law_220 : decode cL_law 220 = .ok (.aload_n 0, 1) := by decide +kernel
theorem dL_law_221 : decode cL_law 221 = .ok (.iload_n 3, 1) := by decide +kernel
theorem dL_law_222 : decode cL_law 222 = .ok (.iconst 2, 1) := by decide +kernel
theorem dL_law_223 : decode cL_law 223 = .ok (.iadd, 1) := by decide +kernel
theorem dL_law_224 : decode cL_law 224 = .ok (.iaload, 1) := by decide +kernel
theorem dL_law_225 : decode cL_law 225 = .ok (.aload_n 0, 1) := by decide +kernel
theorem dL_law_226 : decode cL_law 226 = .ok (.iload_n 3, 1) := by decide +kernel
theorem dL_law_227 : decode cL_law 227 = .ok (.iconst 3, 1) := by decide +kernel
theorem dL_law_228 : decode cL_law 228 = .ok (.iadd, 1) := by decide +kernel
theorem dL_law_229 : decode cL_law 229 = .ok (.iaload, 1) := by decide +kernel
theorem dL_law_230 : decode cL_law 230 = .ok (.ifCond .eq 7, 3) := by decide +kernel
theorem dL_law_233 : decode cL_law 233 = .ok (.iconst 1, 1) := by decide +kernel
theorem dL_law_234 : decode cL_law 234 = .ok (.goto 4, 3) := by decide +kernel
theorem dL_law_237 : decode cL_law 237 = .ok (.iconst 0, 1) := by decide +kernel
theorem dL_law_238 : decode cL_law 238 = .ok (.invokevirtual 32, 3) := by decide +kernel
theorem dL_law_241 : decode cL_law 241 = .ok (.if_icmp .eq 218, 3) := by decide +kernel
theorem dL_law_244 : decode cL_law 244 = .ok (.iconst 0, 1) := by decide +kernel
theorem dL_law_245 : decode cL_law 245 = .ok (.ireturn, 1) := by decide +kernel
theorem dL_law_246 : decode cL_law 246 = .ok (.aload_n 1, 1) := by decide +kernel
theorem dL_law_247 : decode cL_law 247 = .ok (.invokevirtual 33, 3) := by decide +kernel
theorem dL_law_250 : decode cL_law 250 = .ok (.aload_n 2, 1) := by decide +kernel
theorem dL_law_251 : decode cL_law 251 = .ok (.invokevirtual 37, 3) := by decide +kernel
theorem dL_law_254 : decode cL_law 254 = .ok (.if_icmp .eq 205, 3) := by decide +kernel
theorem dL_law_257 : decode cL_law 257 = .ok (.iconst 0, 1) := by decide +kernel
theorem dL_law_258 : decode cL_law 258 = .ok (.ireturn, 1) := by decide +kernel
theorem dL_law_259 : decode cL_law 259 = .ok (.aload_n 1, 1) := by decide +kernel
theorem dL_law_260 : decode cL_law 260 = .ok (.aload_n 0, 1) := by decide +kernel
theorem dL_law_261 : decode cL_law 261 = .ok (.iload_n 3, 1) := by decide +kernel
theorem dL_law_262 : decode cL_law 262 = .ok (.iconst 1, 1) := by decide +kernel
theorem dL_law_263 : decode cL_law 263 = .ok (.iadd, 1) := by decide +kernel
end
section
/-! decode rows (claim/names) -/
set_option maxRecDepth 100000
theorem dL_law_264 : decode cL_law 264 = .ok (.iaload, 1) := by decide +kernel
theorem dL_law_265 : decode cL_law 265 = .ok (.invokevirtual 38, 3) := by decide +kernel
theorem dL_law_268 : decode cL_law 268 = .ok (.aload_n 2, 1) := by decide +kernel
theorem dL_law_269 : decode cL_law 269 = .ok (.aload_n 0, 1) := by decide +kernel
theorem dL_law_270 : decode cL_law 270 = .ok (.iload_n 3, 1) := by decide +kernel
theorem dL_law_271 : decode cL_law 271 = .ok (.iconst 1, 1) := by decide +kernel
theorem dL_law_272 : decode cL_law 272 = .ok (.iadd, 1) := by decide +kernel
theorem dL_law_273 : decode cL_law 273 = .ok (.iaload, 1) := by decide +kernel
theorem dL_law_274 : decode cL_law 274 = .ok (.invokevirtual 41, 3) := by decide +kernel
theorem dL_law_277 : decode cL_law 277 = .ok (.if_icmp .eq 182, 3) := by decide +kernel
theorem dL_law_280 : decode cL_law 280 = .ok (.iconst 0, 1) := by decide +kernel
theorem dL_law_281 : decode cL_law 281 = .ok (.ireturn, 1) := by decide +kernel
theorem dL_law_282 : decode cL_law 282 = .ok (.aload_n 1, 1) := by decide +kernel
theorem dL_law_283 : decode cL_law 283 = .ok (.aload_n 0, 1) := by decide +kernel
theorem dL_law_284 : decode cL_law 284 = .ok (.iload_n 3, 1) := by decide +kernel
theorem dL_law_285 : decode cL_law 285 = .ok (.iconst 1, 1) := by decide +kernel
theorem dL_law_286 : decode cL_law 286 = .ok (.iadd, 1) := by decide +kernel
theorem dL_law_287 : decode cL_law 287 = .ok (.iaload, 1) := by decide +kernel
theorem dL_law_288 : decode cL_law 288 = .ok (.invokevirtual 42, 3) := by decide +kernel
theorem dL_law_291 : decode cL_law 291 = .ok (.aload_n 2, 1) := by decide +kernel
theorem dL_law_292 : decode cL_law 292 = .ok (.aload_n 0, 1) := by decide +kernel
theorem dL_law_293 : decode cL_law 293 = .ok (.iload_n 3, 1) := by decide +kernel
theorem dL_law_294 : decode cL_law 294 = .ok (.iconst 1, 1) := by decide +kernel
theorem dL_law_295 : decode cL_law 295 = .ok (.iadd, 1) := by decide +kernel
theorem dL_law_296 : decode cL_law 296 = .ok (.iaload, 1) := by decide +kernel
theorem dL_law_297 : decode cL_law 297 = .ok (.invokevirtual 45, 3) := by decide +kernel
theorem dL_law_300 : decode cL_law 300 = .ok (.if_icmp .eq 159, 3) := by decide +kernel
theorem dL_law_303 : decode cL_law 303 = .ok (.iconst 0, 1) := by decide +kernel
theorem dL_law_304 : decode cL_law 304 = .ok (.ireturn, 1) := by decide +kernel
theorem dL_law_305 : decode cL_law 305 = .ok (.aload_n 1, 1) := by decide +kernel
theorem dL_law_306 : decode cL_law 306 = .ok (.invokevirtual 46, 3) := by decide +kernel
theorem dL_law_309 : decode cL_law 309 = .ok (.aload_n 2, 1) := by decide +kernel
theorem dL_law_310 : decode cL_law 310 = .ok (.invokevirtual 49, 3) := by decide +kernel
theorem dL_law_313 : decode cL_law 313 = .ok (.if_icmp .eq 146, 3) := by decide +kernel
theorem dL_law_316 : decode cL_law 316 = .ok (.iconst 0, 1) := by decide +kernel
theorem dL_law_317 : decode cL_law 317 = .ok (.ireturn, 1) := by decide +kernel
theorem dL_law_318 : decode cL_law 318 = .ok (.aload_n 1, 1) := by decide +kernel
theorem dL_law_319 : decode cL_law 319 = .ok (.invokevirtual 50, 3) := by decide +kernel
theorem dL_law_322 : decode cL_law 322 = .ok (.aload_n 2, 1) := by decide +kernel
theorem dL_law_323 : decode cL_law 323 = .ok (.invokevirtual 53, 3) := by decide +kernel
theorem dL_law_326 : decode cL_law 326 = .ok (.if_icmp .eq 133, 3) := by decide +kernel
theorem dL_law_329 : decode cL_law 329 = .ok (.iconst 0, 1) := by decide +kernel
theorem dL_law_330 : decode cL_law 330 = .ok (.ireturn, 1) := by decide +kernel
theorem dL_law_331 : decode cL_law 331 = .ok (.aload_n 1, 1) := by decide +kernel
theorem dL_law_332 : decode cL_law 332 = .ok (.invokevirtual 54, 3) := by decide +kernel
theorem dL_law_335 : decode cL_law 335 = .ok (.aload_n 2, 1) := by decide +kernel
theorem dL_law_336 : decode cL_law 336 = .ok (.invokevirtual 57, 3) := by decide +kernel
theorem dL_law_339 : decode cL_law 339 = .ok (.if_icmp .eq 120, 3) := by decide +kernel
theorem dL_law_342 : decode cL_law 342 = .ok (.iconst 0, 1) := by decide +kernel
theorem dL_law_343 : decode cL_law 343 = .ok (.ireturn, 1) := by decide +kernel
theorem dL_law_344 : decode cL_law 344 = .ok (.aload_n 1, 1) := by decide +kernel
theorem dL_law_345 : decode cL_law 345 = .ok (.aload_n 0, 1) := by decide +kernel
theorem dL_law_346 : decode cL_law 346 = .ok (.iload_n 3, 1) := by decide +kernel
theorem dL_law_347 : decode cL_law 347 = .ok (.iconst 1, 1) := by decide +kernel
theorem dL_law_348 : decode cL_law 348 = .ok (.iadd, 1) := by decide +kernel
theorem dL_law_349 : decode cL_law 349 = .ok (.iaload, 1) := by decide +kernel
theorem dL_law_350 : decode cL_law 350 = .ok (.invokevirtual 58, 3) := by decide +kernel
theorem dL_law_353 : decode cL_law 353 = .ok (.aload_n 2, 1) := by decide +kernel
theorem dL_law_354 : decode cL_law 354 = .ok (.aload_n 0, 1) := by decide +kernel
theorem dL_law_355 : decode cL_law 355 = .ok (.iload_n 3, 1) := by decide +kernel
theorem dL_law_356 : decode cL_law 356 = .ok (.iconst 1, 1) := by decide +kernel
theorem dL_law_357 : decode cL_law 357 = .ok (.iadd, 1) := by decide +kernel
theorem dL_law_358 : decode cL_law 358 = .ok (.iaload, 1) := by decide +kernel
theorem dL_law_359 : decode cL_law 359 = .ok (.invokevirtual 61, 3) := by decide +kernel
theorem dL_law_362 : decode cL_law 362 = .ok (.if_icmp .eq 97, 3) := by decide +kernel
theorem dL_law_365 : decode cL_law 365 = .ok (.iconst 0, 1) := by decide +kernel
theorem dL_law_366 : decode cL_law 366 = .ok (.ireturn, 1) := by decide +kernel
theorem dL_law_367 : decode cL_law 367 = .ok (.aload_n 1, 1) := by decide +kernel
theorem dL_law_368 : decode cL_law 368 = .ok (.aload_n 0, 1) := by decide +kernel
theorem dL_law_369 : decode cL_law 369 = .ok (.iload_n 3, 1) := by decide +kernel
end
section
/-! decode rows (claim/names) -/
set_option maxRecDepth 100000
theorem dL_law_370 : decode cL_law 370 = .ok (.iconst 1, 1) := by decide +kernel
theorem dL_law_371 : decode cL_law 371 = .ok (.iadd, 1) := by decide +kernel
theorem dL_law_372 : decode cL_law 372 = .ok (.iaload, 1) := by decide +kernel
theorem dL_law_373 : decode cL_law 373 = .ok (.invokevirtual 62, 3) := by decide +kernel
theorem dL_law_376 : decode cL_law 376 = .ok (.aload_n 2, 1) := by decide +kernel
theorem dL_law_377 : decode cL_law 377 = .ok (.aload_n 0, 1) := by decide +kernel
theorem dL_law_378 : decode cL_law 378 = .ok (.iload_n 3, 1) := by decide +kernel
theorem dL_law_379 : decode cL_law 379 = .ok (.iconst 1, 1) := by decide +kernel
theorem dL_law_380 : decode cL_law 380 = .ok (.iadd, 1) := by decide +kernel
theorem dL_law_381 : decode cL_law 381 = .ok (.iaload, 1) := by decide +kernel
theorem dL_law_382 : decode cL_law 382 = .ok (.invokevirtual 65, 3) := by decide +kernel
theorem dL_law_385 : decode cL_law 385 = .ok (.if_icmp .eq 74, 3) := by decide +kernel
theorem dL_law_388 : decode cL_law 388 = .ok (.iconst 0, 1) := by decide +kernel
theorem dL_law_389 : decode cL_law 389 = .ok (.ireturn, 1) := by decide +kernel
theorem dL_law_390 : decode cL_law 390 = .ok (.aload_n 1, 1) := by decide +kernel
theorem dL_law_391 : decode cL_law 391 = .ok (.aload_n 0, 1) := by decide +kernel
theorem dL_law_392 : decode cL_law 392 = .ok (.iload_n 3, 1) := by decide +kernel
theorem dL_law_393 : decode cL_law 393 = .ok (.iconst 1, 1) := by decide +kernel
theorem dL_law_394 : decode cL_law 394 = .ok (.iadd, 1) := by decide +kernel
theorem dL_law_395 : decode cL_law 395 = .ok (.iaload, 1) := by decide +kernel
theorem dL_law_396 : decode cL_law 396 = .ok (.invokevirtual 66, 3) := by decide +kernel
theorem dL_law_399 : decode cL_law 399 = .ok (.aload_n 2, 1) := by decide +kernel
theorem dL_law_400 : decode cL_law 400 = .ok (.aload_n 0, 1) := by decide +kernel
theorem dL_law_401 : decode cL_law 401 = .ok (.iload_n 3, 1) := by decide +kernel
theorem dL_law_402 : decode cL_law 402 = .ok (.iconst 1, 1) := by decide +kernel
theorem dL_law_403 : decode cL_law 403 = .ok (.iadd, 1) := by decide +kernel
theorem dL_law_404 : decode cL_law 404 = .ok (.iaload, 1) := by decide +kernel
theorem dL_law_405 : decode cL_law 405 = .ok (.invokevirtual 69, 3) := by decide +kernel
theorem dL_law_408 : decode cL_law 408 = .ok (.if_icmp .eq 51, 3) := by decide +kernel
theorem dL_law_411 : decode cL_law 411 = .ok (.iconst 0, 1) := by decide +kernel
theorem dL_law_412 : decode cL_law 412 = .ok (.ireturn, 1) := by decide +kernel
theorem dL_law_413 : decode cL_law 413 = .ok (.aload_n 1, 1) := by decide +kernel
theorem dL_law_414 : decode cL_law 414 = .ok (.aload_n 0, 1) := by decide +kernel
theorem dL_law_415 : decode cL_law 415 = .ok (.iload_n 3, 1) := by decide +kernel
theorem dL_law_416 : decode cL_law 416 = .ok (.iconst 1, 1) := by decide +kernel
theorem dL_law_417 : decode cL_law 417 = .ok (.iadd, 1) := by decide +kernel
theorem dL_law_418 : decode cL_law 418 = .ok (.iaload, 1) := by decide +kernel
theorem dL_law_419 : decode cL_law 419 = .ok (.aload_n 0, 1) := by decide +kernel
theorem dL_law_420 : decode cL_law 420 = .ok (.iload_n 3, 1) := by decide +kernel
theorem dL_law_421 : decode cL_law 421 = .ok (.iconst 2, 1) := by decide +kernel
theorem dL_law_422 : decode cL_law 422 = .ok (.iadd, 1) := by decide +kernel
theorem dL_law_423 : decode cL_law 423 = .ok (.iaload, 1) := by decide +kernel
theorem dL_law_424 : decode cL_law 424 = .ok (.invokevirtual 70, 3) := by decide +kernel
theorem dL_law_427 : decode cL_law 427 = .ok (.aload_n 2, 1) := by decide +kernel
theorem dL_law_428 : decode cL_law 428 = .ok (.aload_n 0, 1) := by decide +kernel
theorem dL_law_429 : decode cL_law 429 = .ok (.iload_n 3, 1) := by decide +kernel
theorem dL_law_430 : decode cL_law 430 = .ok (.iconst 1, 1) := by decide +kernel
theorem dL_law_431 : decode cL_law 431 = .ok (.iadd, 1) := by decide +kernel
theorem dL_law_432 : decode cL_law 432 = .ok (.iaload, 1) := by decide +kernel
theorem dL_law_433 : decode cL_law 433 = .ok (.aload_n 0, 1) := by decide +kernel
theorem dL_law_434 : decode cL_law 434 = .ok (.iload_n 3, 1) := by decide +kernel
theorem dL_law_435 : decode cL_law 435 = .ok (.iconst 2, 1) := by decide +kernel
theorem dL_law_436 : decode cL_law 436 = .ok (.iadd, 1) := by decide +kernel
theorem dL_law_437 : decode cL_law 437 = .ok (.iaload, 1) := by decide +kernel
theorem dL_law_438 : decode cL_law 438 = .ok (.invokevirtual 74, 3) := by decide +kernel
theorem dL_law_441 : decode cL_law 441 = .ok (.if_icmp .eq 18, 3) := by decide +kernel
theorem dL_law_444 : decode cL_law 444 = .ok (.iconst 0, 1) := by decide +kernel
theorem dL_law_445 : decode cL_law 445 = .ok (.ireturn, 1) := by decide +kernel
theorem dL_law_446 : decode cL_law 446 = .ok (.aload_n 1, 1) := by decide +kernel
theorem dL_law_447 : decode cL_law 447 = .ok (.invokevirtual 75, 3) := by decide +kernel
theorem dL_law_450 : decode cL_law 450 = .ok (.aload_n 2, 1) := by decide +kernel
theorem dL_law_451 : decode cL_law 451 = .ok (.invokevirtual 78, 3) := by decide +kernel
theorem dL_law_454 : decode cL_law 454 = .ok (.if_icmp .eq 5, 3) := by decide +kernel
theorem dL_law_457 : decode cL_law 457 = .ok (.iconst 0, 1) := by decide +kernel
theorem dL_law_458 : decode cL_law 458 = .ok (.ireturn, 1) := by decide +kernel
theorem dL_law_459 : decode cL_law 459 = .ok (.iinc 3 4, 3) := by decide +kernel
theorem dL_law_462 : decode cL_law 462 = .ok (.goto (-444), 3) := by decide +kernel
theorem dL_law_465 : decode cL_law 465 = .ok (.iconst 1, 1) := by decide +kernel
theorem dL_law_466 : decode cL_law 466 = .ok (.ireturn, 1) := by decide +kernel
end
section
/-! pure words: iteration, all, a boolean as an int, one bit -/
def cd_it {α : Type} (f : Nat → α → α) : Nat → α → α
  | 0, a => a
  | n + 1, a => f n (cd_it f n a)
def cd_all (q : Nat → Bool) : Nat → Bool
  | 0 => true
  | n + 1 => cd_all q n && q n
def cd_zb (b : Bool) : Int32 := if b then 1 else 0
def cd_in (x y : Int32) : Bool := decide (¬ (x >>> (y &&& 31)) &&& 1 = 0)
def cd_has (x u : Int32) : Bool := decide (¬ u < 0) && decide (¬ 9 ≤ u) && cd_in x u
def cd_wok (w : Int32) : Bool := decide (¬ w < -50) && decide (¬ 50 < w)
theorem cd_all_iff {q : Nat → Bool} : ∀ {n : Nat}, cd_all q n = true ↔ ∀ i, i < n → q i = true := by
  intro n
  induction n with
  | zero => exact ⟨fun _ i h => absurd h (Nat.not_lt_zero i), fun _ => rfl⟩
  | succ n ih =>
    show (cd_all q n && q n) = true ↔ _
    rw [Bool.and_eq_true, ih]
    constructor
    · rintro ⟨h1, h2⟩ i hi
      rcases Nat.lt_or_ge i n with h | h
      · exact h1 i h
      · have : i = n := by omega
        rw [this]; exact h2
    · intro h
      exact ⟨fun i hi => h i (by omega), h n (by omega)⟩
theorem cd_all_false {q : Nat → Bool} {n i : Nat} (hi : i < n) (h : q i = false) : cd_all q n = false := by
  cases hq : cd_all q n with
  | false => rfl
  | true => rw [cd_all_iff.mp hq i hi] at h; cases h
theorem cd_zb_nar (b : Bool) : narrow .boolean (.int (cd_zb b)) = .int (cd_zb b) := by cases b <;> rfl
theorem cd_zb_t {b : Bool} (h : b = true) : cd_zb b = 1 := by rw [h]; rfl
theorem cd_zb_f {b : Bool} (h : b = false) : cd_zb b = 0 := by rw [h]; rfl
theorem cd_zb_eq {b : Bool} (h : cd_zb b = 0) : b = false := by cases b with
  | false => rfl
  | true => exact absurd h (by decide)
theorem cd_zb_ne {b : Bool} (h : ¬ cd_zb b = 0) : b = true := by cases b with
  | true => rfl
  | false => exact absurd rfl h
theorem cd_inc (i : Nat) : nI i + Int32.ofInt 1 = nI (i + 1) := nI_1 i
theorem cd_ixm (a b : Nat) : nI a * 11 + nI b = nI (a * 11 + b) := by
  rw [show (11 : Int32) = nI 11 from rfl, pk_mul, nI_add]
theorem cd_ixs (a : Nat) : nI a * 11 + 10 = nI (a * 11 + 10) := cd_ixm a 10
theorem cd_ix9 (u : Nat) : 99 + nI u = nI (99 + u) := nI_add 99 u
/-- the bound of a loop: the counter's head test -/
theorem cd_ge {i N : Nat} (hi : i ≤ N) (hN : N < 2 ^ 31) (h : nI N ≤ nI i) : i = N := by
  have := (nI_leI hN (by omega)).mp h
  omega
theorem cd_lt {i N : Nat} (hi : i ≤ N) (hN : N < 2 ^ 31) (h : ¬ nI N ≤ nI i) : i < N := by
  rcases Nat.lt_or_ge i N with q | q
  · exact q
  · exact absurd (nI_le q (by omega)) h
theorem cd_it_s {α : Type} (f : Nat → α → α) (n : Nat) (a : α) : cd_it f (n + 1) a = f n (cd_it f n a) := rfl
theorem cd_in_f {x y : Int32} (h : (x >>> (y &&& 31)) &&& 1 = 0) : cd_in x y = false := decide_eq_false (fun n => n h)
theorem cd_in_t {x y : Int32} (h : ¬ (x >>> (y &&& 31)) &&& 1 = 0) : cd_in x y = true := decide_eq_true h
theorem cd_has_lt {x u : Int32} (h : u < 0) : cd_has x u = false := by
  unfold cd_has
  rw [decide_eq_false (p := ¬ u < 0) (fun n => n h)]
  rfl
theorem cd_has_ge {x u : Int32} (h : 9 ≤ u) : cd_has x u = false := by
  unfold cd_has
  rw [decide_eq_false (p := ¬ 9 ≤ u) (fun n => n h), Bool.and_false, Bool.false_and]
theorem cd_has_i {x u : Int32} (h1 : ¬ u < 0) (h2 : ¬ 9 ≤ u) : cd_has x u = cd_in x u := by
  unfold cd_has
  rw [decide_eq_true h1, decide_eq_true h2]
  rfl
theorem cd_has_n {x : Int32} {i : Nat} (h : i < 9) : cd_has x (nI i) = cd_in x (nI i) :=
  cd_has_i (nI_pos (by omega)) (nI_ge (b := 9) h (by omega))
theorem cd_ix {u : Int32} (h1 : ¬ u < 0) (h2 : ¬ 9 ≤ u) : ∃ j : Nat, j < 9 ∧ u = nI j := by
  rcases pk_ix u (n := 9) (by omega) with h | h | h
  · exact absurd h h1
  · exact absurd h h2
  · exact h
theorem cd_has_ix {x u : Int32} (h : cd_has x u = true) : ∃ j : Nat, j < 9 ∧ u = nI j := by
  refine cd_ix (fun g => ?_) (fun g => ?_)
  · rw [cd_has_lt g] at h; cases h
  · rw [cd_has_ge g] at h; cases h
theorem cd_wok_lt {w : Int32} (h : w < -50) : cd_wok w = false := by
  unfold cd_wok
  rw [decide_eq_false (p := ¬ w < -50) (fun n => n h)]
  rfl
theorem cd_wok_gt {w : Int32} (h : 50 < w) : cd_wok w = false := by
  unfold cd_wok
  rw [decide_eq_false (p := ¬ 50 < w) (fun n => n h), Bool.and_false]
theorem cd_wok_ok {w : Int32} (h1 : ¬ w < -50) (h2 : ¬ 50 < w) : cd_wok w = true := by
  unfold cd_wok
  rw [decide_eq_true h1, decide_eq_true h2]
  rfl
/-! the worlds -/
abbrev vwCl : List vw_C := [(RX0, TX0, 8), (RX1, TX1, 3)]
abbrev cd_D : Type := Int32 × Int32 × (Nat → Int32) × (Nat → Int32) × (Nat → Int32) × (Nat → Int32) × (Nat → Int32) × (Nat → Int32)
abbrev gP (σ : cd_D) : Int32 := σ.1
abbrev gS (σ : cd_D) : Int32 := σ.2.1
abbrev gW (σ : cd_D) : Nat → Int32 := σ.2.2.1
abbrev gN (σ : cd_D) : Nat → Int32 := σ.2.2.2.1
abbrev gK (σ : cd_D) : Nat → Int32 := σ.2.2.2.2.1
abbrev gR (σ : cd_D) : Nat → Int32 := σ.2.2.2.2.2.1
abbrev gF (σ : cd_D) : Nat → Int32 := σ.2.2.2.2.2.2.1
abbrev gL (σ : cd_D) : Nat → Int32 := σ.2.2.2.2.2.2.2
abbrev sP (σ : cd_D) (x : Int32) : cd_D := (x, gS σ, gW σ, gN σ, gK σ, gR σ, gF σ, gL σ)
abbrev sS (σ : cd_D) (x : Int32) : cd_D := (gP σ, x, gW σ, gN σ, gK σ, gR σ, gF σ, gL σ)
abbrev sW (σ : cd_D) (x : Nat → Int32) : cd_D := (gP σ, gS σ, x, gN σ, gK σ, gR σ, gF σ, gL σ)
abbrev sN (σ : cd_D) (x : Nat → Int32) : cd_D := (gP σ, gS σ, gW σ, x, gK σ, gR σ, gF σ, gL σ)
abbrev sK (σ : cd_D) (x : Nat → Int32) : cd_D := (gP σ, gS σ, gW σ, gN σ, x, gR σ, gF σ, gL σ)
abbrev sR (σ : cd_D) (x : Nat → Int32) : cd_D := (gP σ, gS σ, gW σ, gN σ, gK σ, x, gF σ, gL σ)
abbrev sF (σ : cd_D) (x : Nat → Int32) : cd_D := (gP σ, gS σ, gW σ, gN σ, gK σ, gR σ, x, gL σ)
abbrev sL (σ : cd_D) (x : Nat → Int32) : cd_D := (gP σ, gS σ, gW σ, gN σ, gK σ, gR σ, gF σ, x)
def dkW (ad : Nat → Nat) (ca : Nat → ClassId) (σ : cd_D) : va_W := [(ad 0, .inr (0, [.int (gP σ), .ref (ad 1), .ref (ad 2), .ref (ad 3), .ref (ad 4), .int (gS σ), .ref (ad 5), .ref (ad 6)])), (ad 1, .inl (ca 1, 9, .inl (gW σ))), (ad 2, .inl (ca 2, 9, .inl (gN σ))), (ad 3, .inl (ca 3, 9, .inl (gK σ))), (ad 4, .inl (ca 4, 121, .inl (gR σ))), (ad 5, .inl (ca 5, 11, .inl (gF σ))), (ad 6, .inl (ca 6, 12, .inl (gL σ)))]
def dkT (ca : Nat → ClassId) : List (ClassId × FieldType) := [(ca 1, .byte), (ca 2, .short), (ca 3, .int), (ca 4, .int), (ca 5, .byte), (ca 6, .byte)]
abbrev cd_M : Type := (Nat → Int32) × (Nat → Int32) × (Nat → Int32)
abbrev mT (μ : cd_M) : Nat → Int32 := μ.1
abbrev mW (μ : cd_M) : Nat → Int32 := μ.2.1
abbrev mN (μ : cd_M) : Nat → Int32 := μ.2.2
abbrev tT (μ : cd_M) (x : Nat → Int32) : cd_M := (x, mW μ, mN μ)
abbrev tW (μ : cd_M) (x : Nat → Int32) : cd_M := (mT μ, x, mN μ)
abbrev tN (μ : cd_M) (x : Nat → Int32) : cd_M := (mT μ, mW μ, x)
def mdW (ad : Nat → Nat) (ca : Nat → ClassId) (μ : cd_M) : va_W := [(ad 0, .inr (1, [.ref (ad 1), .ref (ad 2), .ref (ad 3)])), (ad 1, .inl (ca 1, 9, .inl (mT μ))), (ad 2, .inl (ca 2, 9, .inl (mW μ))), (ad 3, .inl (ca 3, 9, .inl (mN μ)))]
def mdT (ca : Nat → ClassId) : List (ClassId × FieldType) := [(ca 1, .boolean), (ca 2, .int), (ca 3, .int)]
def wP (D : va_G) (tys : List (ClassId × FieldType)) (w : va_W) (s : State) (H : Heap) : Prop := va_K D vwCl tys s ∧ va_P D vwCl w H
def wS (D : va_G) (tys : List (ClassId × FieldType)) (A : Nat → Prop) (H0 : Heap) (w : va_W) (s : State) (H : Heap) (locs : List Loc) : Prop := wP D tys w s H ∧ va_D A w ∧ va_S A H0 H locs ∧ ∀ q : Nat, H0.size ≤ q → A q
abbrev cd_rm (d : Nat) : Room := { frames := d, cells := 0, slots := 0, locals := 25 * d }
/-- a contract of a method that only reads -/
abbrev cR (l : Launch) (D : va_G) (tys : List (ClassId × FieldType)) (w : va_W) (y : MethodName) (cc : ByteArray) (nL : Nat) (ret : Option FieldType) (rm : Room) (As : List Value) (r : Int32) : Prop := Met l y (ws_ y cc nL ret) rm (va_Pc As (fun U => wP D tys w U U.heap)) (QcRead r) 0 0 (fun _ => False)
/-- a contract of a method that writes its own cells, and answers an int -/
abbrev cWi (l : Launch) (D : va_G) (tys : List (ClassId × FieldType)) {S : Type} (Wf : S → va_W) (u0 : S) (y : MethodName) (cc : ByteArray) (nL : Nat) (ret : Option FieldType) (rm : Room) (As : List Value) (post : Int32 → S → Prop) : Prop := ∀ sz : Nat, Met l y (ws_ y cc nL ret) rm (va_Pc As (fun U => U.heap.size = sz ∧ wP D tys (Wf u0) U U.heap ∧ va_D (fun _ => True) (Wf u0))) (va_Qi post (fun u t => wP D tys (Wf u) t t.heap ∧ va_D (va_A (Wf u0) sz) (Wf u)) (va_A (Wf u0) sz)) 0 0 (va_A (Wf u0) sz)
/-- .. and answers nothing -/
abbrev cWv (l : Launch) (D : va_G) (tys : List (ClassId × FieldType)) {S : Type} (Wf : S → va_W) (u0 : S) (y : MethodName) (cc : ByteArray) (nL : Nat) (ret : Option FieldType) (rm : Room) (As : List Value) (post : S → Prop) : Prop := ∀ sz : Nat, Met l y (ws_ y cc nL ret) rm (va_Pc As (fun U => U.heap.size = sz ∧ wP D tys (Wf u0) U U.heap ∧ va_D (fun _ => True) (Wf u0))) (va_Qv post (fun u t => wP D tys (Wf u) t t.heap ∧ va_D (va_A (Wf u0) sz) (Wf u)) (va_A (Wf u0) sz)) 0 0 (va_A (Wf u0) sz)
/-- a contract of a static method of numbers -/
abbrev cSt (l : Launch) (y : MethodName) (cc : ByteArray) (nL : Nat) (ret : Option FieldType) (rm : Room) (As : List Value) (r : Int32) : Prop := Met l y (ws_ y cc nL ret) rm (va_Pc As (fun _ => True)) (QcRead r) 0 0 (fun _ => False)
/-! entries -/
section EN
variable {l : Launch} {D : va_G} {tys : List (ClassId × FieldType)} {w : va_W} {S : Type} {Wf : S → va_W} {u0 : S} {y : MethodName} {cc : ByteArray} {nL : Nat} {ret : Option FieldType} {rm : Room} {As : List Value} {own : String}
theorem en_R {r : Int32} (hy : plainName y.cls = true) (ho : y.cls = own) (hn : (lg_sl As).length ≤ nL)
    (body : ∀ (p : Program) (e : Env) (s : State) (m : MethodId) (below : List Frame) (meth : Method) (c : Code) (ls : Array Slot), CallFix p m c cc nL s As.toArray lw_all own → meth.sig.returnType = ret → meth.locks = false → wP D tys w s s.heap → lv_has ls nL (lv_args 0 As) → W p l e rm s m As.toArray below meth c s.heap [] 0 0 (MQ below (QcRead r) As.toArray s 0 0 (fun _ => False)) (F0 m 0 ls [])) : cR l D tys w y cc nL ret rm As r := by
  refine Met.ofW (cc := cc) (maxL := nL) (ret := ret) hy rfl ?_
  intro p e s m args below meth c s₁ B hml hv
  obtain ⟨rfl, hP⟩ := hv
  have hts := atoms_spec (ws := ws_ y cc nL ret) B.pre
  have hts : ∀ w ∈ lw_all, w.before _ s = true := fun w h => hts w (List.mem_cons_of_mem _ h)
  have hown : s.vm.findClass own = some m.cls := by rw [← ho]; exact findClass_of_methodNamed B.named
  rw [lg_entry_eq]
  exact body p e s m below meth c _ ⟨B.exec, B.bytes, hml, hown, hts⟩ B.returns B.notSynchronized hP (lv_entry As hn)
theorem en_S {r : Int32} (hy : plainName y.cls = true) (ho : y.cls = own) (hn : (lg_sl As).length ≤ nL)
    (body : ∀ (p : Program) (e : Env) (s : State) (m : MethodId) (below : List Frame) (meth : Method) (c : Code) (ls : Array Slot), CallFix p m c cc nL s As.toArray lw_all own → meth.sig.returnType = ret → meth.locks = false → lv_has ls nL (lv_args 0 As) → W p l e rm s m As.toArray below meth c s.heap [] 0 0 (MQ below (QcRead r) As.toArray s 0 0 (fun _ => False)) (F0 m 0 ls [])) : cSt l y cc nL ret rm As r := by
  refine Met.ofW (cc := cc) (maxL := nL) (ret := ret) hy rfl ?_
  intro p e s m args below meth c s₁ B hml hv
  obtain ⟨rfl, -⟩ := hv
  have hts := atoms_spec (ws := ws_ y cc nL ret) B.pre
  have hts : ∀ w ∈ lw_all, w.before _ s = true := fun w h => hts w (List.mem_cons_of_mem _ h)
  have hown : s.vm.findClass own = some m.cls := by rw [← ho]; exact findClass_of_methodNamed B.named
  rw [lg_entry_eq]
  exact body p e s m below meth c _ ⟨B.exec, B.bytes, hml, hown, hts⟩ B.returns B.notSynchronized (lv_entry As hn)
theorem en_Wi {post : Int32 → S → Prop} (hy : plainName y.cls = true) (ho : y.cls = own) (hn : (lg_sl As).length ≤ nL)
    (body : ∀ (p : Program) (e : Env) (s : State) (m : MethodId) (below : List Frame) (meth : Method) (c : Code) (ls : Array Slot) (A : Nat → Prop), CallFix p m c cc nL s As.toArray lw_all own → meth.sig.returnType = ret → meth.locks = false → wS D tys A s.heap (Wf u0) s s.heap [] → lv_has ls nL (lv_args 0 As) → W p l e rm s m As.toArray below meth c s.heap [] 0 0 (MQ below (va_Qi post (fun u t => wP D tys (Wf u) t t.heap ∧ va_D A (Wf u)) A) As.toArray s 0 0 A) (F0 m 0 ls [])) : cWi l D tys Wf u0 y cc nL ret rm As post := by
  intro sz
  refine Met.ofW (cc := cc) (maxL := nL) (ret := ret) hy rfl ?_
  intro p e s m args below meth c s₁ B hml hv
  obtain ⟨rfl, hsz, hP, hD0⟩ := hv
  have hts := atoms_spec (ws := ws_ y cc nL ret) B.pre
  have hts : ∀ w ∈ lw_all, w.before _ s = true := fun w h => hts w (List.mem_cons_of_mem _ h)
  have hown : s.vm.findClass own = some m.cls := by rw [← ho]; exact findClass_of_methodNamed B.named
  subst hsz
  rw [lg_entry_eq]
  exact body p e s m below meth c _ (va_A (Wf u0) s.heap.size) ⟨B.exec, B.bytes, hml, hown, hts⟩ B.returns B.notSynchronized ⟨hP, hD0.self, va_S.rf, fun q h => Or.inr h⟩ (lv_entry As hn)
theorem en_Wv {post : S → Prop} (hy : plainName y.cls = true) (ho : y.cls = own) (hn : (lg_sl As).length ≤ nL)
    (body : ∀ (p : Program) (e : Env) (s : State) (m : MethodId) (below : List Frame) (meth : Method) (c : Code) (ls : Array Slot) (A : Nat → Prop), CallFix p m c cc nL s As.toArray lw_all own → meth.sig.returnType = ret → meth.locks = false → wS D tys A s.heap (Wf u0) s s.heap [] → lv_has ls nL (lv_args 0 As) → W p l e rm s m As.toArray below meth c s.heap [] 0 0 (MQ below (va_Qv post (fun u t => wP D tys (Wf u) t t.heap ∧ va_D A (Wf u)) A) As.toArray s 0 0 A) (F0 m 0 ls [])) : cWv l D tys Wf u0 y cc nL ret rm As post := by
  intro sz
  refine Met.ofW (cc := cc) (maxL := nL) (ret := ret) hy rfl ?_
  intro p e s m args below meth c s₁ B hml hv
  obtain ⟨rfl, hsz, hP, hD0⟩ := hv
  have hts := atoms_spec (ws := ws_ y cc nL ret) B.pre
  have hts : ∀ w ∈ lw_all, w.before _ s = true := fun w h => hts w (List.mem_cons_of_mem _ h)
  have hown : s.vm.findClass own = some m.cls := by rw [← ho]; exact findClass_of_methodNamed B.named
  subst hsz
  rw [lg_entry_eq]
  exact body p e s m below meth c _ (va_A (Wf u0) s.heap.size) ⟨B.exec, B.bytes, hml, hown, hts⟩ B.returns B.notSynchronized ⟨hP, hD0.self, va_S.rf, fun q h => Or.inr h⟩ (lv_entry As hn)
end EN
/-! ends, calls, the top of the stack -/
section RC
variable {p : Program} {l : Launch} {e : Env} {R : Room} {s : State} {m : MethodId} {args : Array Value} {below : List Frame} {meth : Method} {c : Code} {H : Heap} {locs : List Loc} {cells slots : Nat} {Q : State → Prop}
variable {cc : ByteArray} {nL pc : Nat} {ls : Array Slot} {rest st0 : List Value} {D : va_G} {tys : List (ClassId × FieldType)} {A : Nat → Prop} {H0 : Heap} {w : va_W} {S : Type} {Wf : S → va_W} {Ts : List Cond} {own : String}
theorem tp_eq {x : Int32} (y : Int32) (h : x = y) (k : W p l e R s m args below meth c H locs cells slots Q (F0 m pc ls (.int y :: rest))) : W p l e R s m args below meth c H locs cells slots Q (F0 m pc ls (.int x :: rest)) := h ▸ k
theorem rt_R {r v : Int32} {ty : FieldType} (K : CallFix p m c cc nL s args Ts own) (hr : meth.sig.returnType = some ty) (hlocks : meth.locks = false) (hn : narrow ty (.int v) = .int v) (he : v = r) (hdg : decode cc pc = .ok (.ireturn, 1)) : W p l e R s m args below meth c s.heap [] 0 0 (MQ below (QcRead r) args s 0 0 (fun _ => False)) (F0 m pc ls [.int v]) := by
  subst he
  exact W.zret K.1 K.2.1 hr hn (fun t ht _ => ⟨rfl, ht⟩) (fun q h => by cases h) hdg hlocks
theorem rt_Wi {v : Int32} {ty : FieldType} {post : Int32 → S → Prop} {u : S} (K : CallFix p m c cc nL s args Ts own) (hr : meth.sig.returnType = some ty) (hlocks : meth.locks = false) (hn : narrow ty (.int v) = .int v) (h : wS D tys A s.heap (Wf u) s H locs) (hp : post v u) (hdg : decode cc pc = .ok (.ireturn, 1)) : W p l e R s m args below meth c H locs 0 0 (MQ below (va_Qi post (fun u t => wP D tys (Wf u) t t.heap ∧ va_D A (Wf u)) A) args s 0 0 A) (F0 m pc ls [.int v]) :=
  W.zret K.1 K.2.1 hr hn (fun t ht hW => ⟨⟨v, u, rfl, hp, ⟨va_K.moved hW.alike h.1.1, by rw [ht]; exact h.1.2⟩, h.2.1⟩, h.2.2.1.F ht⟩) h.2.2.1.2.2 hdg hlocks
theorem rt_Wv {post : S → Prop} {u : S} (K : CallFix p m c cc nL s args Ts own) (hr : meth.sig.returnType = none) (hlocks : meth.locks = false) (h : wS D tys A s.heap (Wf u) s H locs) (hp : post u) (hdg : decode cc pc = .ok (.return_, 1)) : W p l e R s m args below meth c H locs 0 0 (MQ below (va_Qv post (fun u t => wP D tys (Wf u) t t.heap ∧ va_D A (Wf u)) A) args s 0 0 A) (F0 m pc ls []) :=
  W.vret K.1 K.2.1 hr (fun t ht hW => ⟨⟨u, rfl, hp, ⟨va_K.moved hW.alike h.1.1, by rw [ht]; exact h.1.2⟩, h.2.1⟩, h.2.2.1.F ht⟩) h.2.2.1.2.2 hdg hlocks
variable {y : MethodName} {bytes : ByteArray} {maxL n index : Nat} {ret : Option FieldType} {rm : Room} {C : String} {b : Addr} {As : List Value}
theorem wP.blind (a : Array Value) (U : State) (g : JFrame) (mk : MethodId) (q : va_Pc As (fun U => wP D tys w U U.heap) a U) : va_Pc As (fun U => wP D tys w U U.heap) a (U.calling g mk a) := by
  obtain ⟨q0, q1, q2⟩ := q
  exact ⟨q0, va_K.moved (u := U) (U := U.calling g mk a) (Vm.Alike.refl U.vm) q1, q2⟩
theorem cl_R {r : Int32} (K : CallFix p m c cc nL s args Ts own) (hM : cR l D tys w y bytes maxL ret rm (.ref b :: As) r) (cw : CallW R s args own C index y bytes maxL ret (ws_ y bytes maxL ret) rm 0 0 n) (hP : wP D tys w s H) (hrv : ∃ cellB : Cell, H[b]? = some cellB ∧ cellB.vm.isStatics = false ∧ s.vm.findClass C = some cellB.cls) (hn : As.length = n) (hls : ls.size = nL) (hst : st0 = As.reverse ++ .ref b :: rest) (hrm : (rest.map fun v => v.category).sum ≤ 8) (hf : cells + 0 ≤ R.cells ∧ slots + 0 ≤ R.slots) (hdg : decode cc pc = .ok (.invokevirtual index, 3))
    (kk : W p l e R s m args below meth c H locs cells slots Q (F0 m (pc + 3) ls (.int r :: rest))) : W p l e R s m args below meth c H locs cells slots Q (F0 m pc ls st0) := by
  refine W.callR (W.runV K hM cw ⟨wP.blind, hrv, fun U hU hW => ?_⟩ rfl hn hls hst (lv_room hrm) hdg hf) kk
  exact ⟨rfl, va_K.moved hW.alike hP.1, by rw [hU]; exact hP.2⟩
theorem cl_S {r : Int32} (K : CallFix p m c cc nL s args Ts own) (hM : cSt l y bytes maxL ret rm As r) (cw : CallB R s args own index y bytes maxL ret (ws_ y bytes maxL ret) rm 0 0 n ∧ (Cond.static y).before args s = true) (hn : As.length = n) (hls : ls.size = nL) (hst : st0 = As.reverse ++ rest) (hrm : (rest.map fun v => v.category).sum ≤ 8) (hf : cells + 0 ≤ R.cells ∧ slots + 0 ≤ R.slots) (hdg : decode cc pc = .ok (.invokestatic index, 3))
    (kk : W p l e R s m args below meth c H locs cells slots Q (F0 m (pc + 3) ls (.int r :: rest))) : W p l e R s m args below meth c H locs cells slots Q (F0 m pc ls st0) :=
  W.callR (W.runS K hM cw ⟨fun _ _ _ _ q => q, fun U _ _ => ⟨rfl, trivial⟩⟩ rfl hn hls hst (lv_room hrm) hdg hf) kk
theorem cl_Wi {u0 : S} {post : Int32 → S → Prop} (K : CallFix p m c cc nL s args Ts own) (hM : cWi l D tys Wf u0 y bytes maxL ret rm (.ref b :: As) post) (cw : CallW R s args own C index y bytes maxL ret (ws_ y bytes maxL ret) rm 0 0 n) (h : wS D tys A H0 (Wf u0) s H locs) (hrv : ∃ cellB : Cell, H[b]? = some cellB ∧ cellB.vm.isStatics = false ∧ s.vm.findClass C = some cellB.cls) (hn : As.length = n) (hls : ls.size = nL) (hst : st0 = As.reverse ++ .ref b :: rest) (hrm : (rest.map fun v => v.category).sum ≤ 8) (hf : cells + 0 ≤ R.cells ∧ slots + 0 ≤ R.slots) (hdg : decode cc pc = .ok (.invokevirtual index, 3))
    (kk : ∀ (r : Int32) (u : S) (H1 : Heap) (locs1 : List Loc), post r u → wS D tys A H0 (Wf u) s H1 locs1 → W p l e R s m args below meth c H1 locs1 cells slots Q (F0 m (pc + 3) ls (.int r :: rest))) : W p l e R s m args below meth c H locs cells slots Q (F0 m pc ls st0) := by
  obtain ⟨⟨hK, hP⟩, hD, hS, hA⟩ := h
  have hFc : ∀ q, va_A (Wf u0) H.size q → A q := fun q hq => by
    rcases hq with ⟨k, x, hk⟩ | hq
    · exact hD.2 k (q, x) hk
    · exact hA q (Nat.le_trans hS.1 hq)
  refine va_calli (va_runV K (hM H.size) cw ⟨fun a U g mk q => ?_, hrv, fun U hU hW => ?_⟩ rfl hn hls hst (lv_room hrm) hdg hf) hS (fun q _ h => hFc q h) hFc (fun r u t H1 locs1 ht hvm hp hB hz hk hS1 => ?_)
  · obtain ⟨q0, q1, ⟨qK, qP⟩, qD⟩ := q
    exact ⟨q0, q1, ⟨va_K.moved (u := U) (U := U.calling g mk a) (Vm.Alike.refl U.vm) qK, qP⟩, qD⟩
  · exact ⟨rfl, by rw [hU], ⟨va_K.moved hW.alike hK, by rw [hU]; exact hP⟩, hD.weaken (fun _ _ _ _ => trivial)⟩
  · obtain ⟨⟨hK1, hP1⟩, hD1⟩ := hB
    subst ht
    exact kk r u t.heap locs1 hp ⟨⟨hK, hP1⟩, hD1.weaken (fun k q _ h => hFc q.1 h), hS1, hA⟩
theorem cl_Wv {u0 : S} {post : S → Prop} (K : CallFix p m c cc nL s args Ts own) (hM : cWv l D tys Wf u0 y bytes maxL ret rm (.ref b :: As) post) (cw : CallW R s args own C index y bytes maxL ret (ws_ y bytes maxL ret) rm 0 0 n) (h : wS D tys A H0 (Wf u0) s H locs) (hrv : ∃ cellB : Cell, H[b]? = some cellB ∧ cellB.vm.isStatics = false ∧ s.vm.findClass C = some cellB.cls) (hn : As.length = n) (hls : ls.size = nL) (hst : st0 = As.reverse ++ .ref b :: rest) (hrm : (rest.map fun v => v.category).sum ≤ 8) (hf : cells + 0 ≤ R.cells ∧ slots + 0 ≤ R.slots) (hdg : decode cc pc = .ok (.invokevirtual index, 3))
    (kk : ∀ (u : S) (H1 : Heap) (locs1 : List Loc), post u → wS D tys A H0 (Wf u) s H1 locs1 → W p l e R s m args below meth c H1 locs1 cells slots Q (F0 m (pc + 3) ls rest)) : W p l e R s m args below meth c H locs cells slots Q (F0 m pc ls st0) := by
  obtain ⟨⟨hK, hP⟩, hD, hS, hA⟩ := h
  have hFc : ∀ q, va_A (Wf u0) H.size q → A q := fun q hq => by
    rcases hq with ⟨k, x, hk⟩ | hq
    · exact hD.2 k (q, x) hk
    · exact hA q (Nat.le_trans hS.1 hq)
  refine va_callv (va_runV K (hM H.size) cw ⟨fun a U g mk q => ?_, hrv, fun U hU hW => ?_⟩ rfl hn hls hst (lv_room hrm) hdg hf) hS (fun q _ h => hFc q h) hFc (fun u t H1 locs1 ht hvm hp hB hz hk hS1 => ?_)
  · obtain ⟨q0, q1, ⟨qK, qP⟩, qD⟩ := q
    exact ⟨q0, q1, ⟨va_K.moved (u := U) (U := U.calling g mk a) (Vm.Alike.refl U.vm) qK, qP⟩, qD⟩
  · exact ⟨rfl, by rw [hU], ⟨va_K.moved hW.alike hK, by rw [hU]; exact hP⟩, hD.weaken (fun _ _ _ _ => trivial)⟩
  · obtain ⟨⟨hK1, hP1⟩, hD1⟩ := hB
    subst ht
    exact kk u t.heap locs1 hp ⟨⟨hK, hP1⟩, hD1.weaken (fun k q _ h => hFc q.1 h), hS1, hA⟩
end RC
end
section
/-! rows over the desk's and the model's cells (printed by genrows.py) -/
section DROW
variable {p : Program} {l : Launch} {e : Env} {R : Room} {s : State} {m : MethodId} {args : Array Value} {below : List Frame} {meth : Method} {c : Code} {H : Heap} {locs : List Loc} {cells slots : Nat} {Q : State → Prop}
variable {cc : ByteArray} {nL pc : Nat} {ls : Array Slot} {rest : List Value} {D : va_G} {A : Nat → Prop} {H0 : Heap} {ad : Nat → Nat} {ca : Nat → ClassId} {σ : cd_D}

theorem dg_P (K : CallFix p m c cc nL s args lw_all RX0) (hP : wP D (dkT ca) (dkW ad ca σ) s H) (hdg : decode cc pc = .ok (.getfield 30, 3)) (kk : W p l e R s m args below meth c H locs cells slots Q (F0 m (pc + 3) ls (.int (gP σ) :: rest))) : W p l e R s m args below meth c H locs cells slots Q (F0 m pc ls (.ref (ad 0) :: rest)) :=
  va_get (D := D) (ci := 0) (v := .int (gP σ)) (C := RX0) (T := TX0) (N := 8) K.1 K.2.1 K.2.2.2.2 in_X0 K.2.2.2.1 hP.1 hP.2 0 rfl rfl 0 (by decide) (K.2.2.2.2 _ q24) (fun _ h9 => h9) rfl hdg kk
theorem dp_P (K : CallFix p m c cc nL s args lw_all RX0) (h : wS D (dkT ca) A H0 (dkW ad ca σ) s H locs) {x : Int32} (hdg : decode cc pc = .ok (.putfield 30, 3)) (kk : ∀ (H1 : Heap) (locs1 : List Loc), wS D (dkT ca) A H0 (dkW ad ca (sP σ x)) s H1 locs1 → W p l e R s m args below meth c H1 locs1 cells slots Q (F0 m (pc + 3) ls rest)) : W p l e R s m args below meth c H locs cells slots Q (F0 m pc ls (.int x :: .ref (ad 0) :: rest)) :=
  va_put (D := D) (ci := 0) (v := .int x) (ty := .int) (C := RX0) (T := TX0) (N := 8) K.1 K.2.1 K.2.2.2.2 in_X0 tyX0 tyX0_ok nmX0 K.2.2.2.1 h.1.1 h.1.2 h.2.1 h.2.2.1 0 rfl rfl 0 (by decide) (K.2.2.2.2 _ q24) (fun _ h9 => h9) rfl (by decide +kernel) rfl rfl (Nat.le_of_ble_eq_true rfl) hdg (fun H1 locs1 hP hD hS => kk H1 locs1 ⟨⟨h.1.1, hP⟩, hD, hS, h.2.2.2⟩)
theorem dg_W (K : CallFix p m c cc nL s args lw_all RX0) (hP : wP D (dkT ca) (dkW ad ca σ) s H) (hdg : decode cc pc = .ok (.getfield 7, 3)) (kk : W p l e R s m args below meth c H locs cells slots Q (F0 m (pc + 3) ls (.ref (ad 1) :: rest))) : W p l e R s m args below meth c H locs cells slots Q (F0 m pc ls (.ref (ad 0) :: rest)) :=
  va_get (D := D) (ci := 0) (v := .ref (ad 1)) (C := RX0) (T := TX0) (N := 8) K.1 K.2.1 K.2.2.2.2 in_X0 K.2.2.2.1 hP.1 hP.2 0 rfl rfl 1 (by decide) (K.2.2.2.2 _ q25) (fun _ h9 => h9) rfl hdg kk
theorem dl_W (K : CallFix p m c cc nL s args lw_all RX0) (hP : wP D (dkT ca) (dkW ad ca σ) s H) {i : Int32} (j : Nat) (hj : j < 9) (hi : i = nI j) (hdg : decode cc pc = .ok (.baload, 1)) (kk : W p l e R s m args below meth c H locs cells slots Q (F0 m (pc + 1) ls (.int (gW σ j) :: rest))) : W p l e R s m args below meth c H locs cells slots Q (F0 m pc ls (.int i :: .ref (ad 1) :: rest)) := by
  subst hi
  refine va_bald K.1 K.2.1 hP.1 hP.2 1 0 rfl rfl (vp_in_nI hj (by omega)) hdg ?_
  rw [nI_clamp (by omega)]
  exact kk
theorem ds_W (K : CallFix p m c cc nL s args lw_all RX0) (h : wS D (dkT ca) A H0 (dkW ad ca σ) s H locs) {i x : Int32} (j : Nat) (hj : j < 9) (hi : i = nI j) (x' : Int32) (hx : vp_nar .byte x = x') (hdg : decode cc pc = .ok (.bastore, 1)) (kk : ∀ (H1 : Heap) (locs1 : List Loc), wS D (dkT ca) A H0 (dkW ad ca (sW σ (upd (gW σ) j x'))) s H1 locs1 → W p l e R s m args below meth c H1 locs1 cells slots Q (F0 m (pc + 1) ls rest)) : W p l e R s m args below meth c H locs cells slots Q (F0 m pc ls (.int x :: .int i :: .ref (ad 1) :: rest)) := by
  subst hi; subst hx
  refine va_bast K.1 K.2.1 h.1.1 h.1.2 h.2.1 h.2.2.1 1 0 rfl rfl (vp_in_nI hj (by omega)) hdg (fun H1 locs1 hP hD hS => ?_)
  rw [nI_clamp (by omega)] at hP hD
  exact kk H1 locs1 ⟨⟨h.1.1, hP⟩, hD, hS, h.2.2.2⟩
theorem dg_N (K : CallFix p m c cc nL s args lw_all RX0) (hP : wP D (dkT ca) (dkW ad ca σ) s H) (hdg : decode cc pc = .ok (.getfield 13, 3)) (kk : W p l e R s m args below meth c H locs cells slots Q (F0 m (pc + 3) ls (.ref (ad 2) :: rest))) : W p l e R s m args below meth c H locs cells slots Q (F0 m pc ls (.ref (ad 0) :: rest)) :=
  va_get (D := D) (ci := 0) (v := .ref (ad 2)) (C := RX0) (T := TX0) (N := 8) K.1 K.2.1 K.2.2.2.2 in_X0 K.2.2.2.1 hP.1 hP.2 0 rfl rfl 2 (by decide) (K.2.2.2.2 _ q26) (fun _ h9 => h9) rfl hdg kk
theorem dl_N (K : CallFix p m c cc nL s args lw_all RX0) (hP : wP D (dkT ca) (dkW ad ca σ) s H) {i : Int32} (j : Nat) (hj : j < 9) (hi : i = nI j) (hdg : decode cc pc = .ok (.saload, 1)) (kk : W p l e R s m args below meth c H locs cells slots Q (F0 m (pc + 1) ls (.int (gN σ j) :: rest))) : W p l e R s m args below meth c H locs cells slots Q (F0 m pc ls (.int i :: .ref (ad 2) :: rest)) := by
  subst hi
  refine va_sald K.1 K.2.1 hP.1 hP.2 2 1 rfl rfl (vp_in_nI hj (by omega)) hdg ?_
  rw [nI_clamp (by omega)]
  exact kk
theorem ds_N (K : CallFix p m c cc nL s args lw_all RX0) (h : wS D (dkT ca) A H0 (dkW ad ca σ) s H locs) {i x : Int32} (j : Nat) (hj : j < 9) (hi : i = nI j) (x' : Int32) (hx : vp_nar .short x = x') (hdg : decode cc pc = .ok (.sastore, 1)) (kk : ∀ (H1 : Heap) (locs1 : List Loc), wS D (dkT ca) A H0 (dkW ad ca (sN σ (upd (gN σ) j x'))) s H1 locs1 → W p l e R s m args below meth c H1 locs1 cells slots Q (F0 m (pc + 1) ls rest)) : W p l e R s m args below meth c H locs cells slots Q (F0 m pc ls (.int x :: .int i :: .ref (ad 2) :: rest)) := by
  subst hi; subst hx
  refine va_sast K.1 K.2.1 h.1.1 h.1.2 h.2.1 h.2.2.1 2 1 rfl rfl (vp_in_nI hj (by omega)) hdg (fun H1 locs1 hP hD hS => ?_)
  rw [nI_clamp (by omega)] at hP hD
  exact kk H1 locs1 ⟨⟨h.1.1, hP⟩, hD, hS, h.2.2.2⟩
theorem dg_K (K : CallFix p m c cc nL s args lw_all RX0) (hP : wP D (dkT ca) (dkW ad ca σ) s H) (hdg : decode cc pc = .ok (.getfield 17, 3)) (kk : W p l e R s m args below meth c H locs cells slots Q (F0 m (pc + 3) ls (.ref (ad 3) :: rest))) : W p l e R s m args below meth c H locs cells slots Q (F0 m pc ls (.ref (ad 0) :: rest)) :=
  va_get (D := D) (ci := 0) (v := .ref (ad 3)) (C := RX0) (T := TX0) (N := 8) K.1 K.2.1 K.2.2.2.2 in_X0 K.2.2.2.1 hP.1 hP.2 0 rfl rfl 3 (by decide) (K.2.2.2.2 _ q27) (fun _ h9 => h9) rfl hdg kk
theorem dl_K (K : CallFix p m c cc nL s args lw_all RX0) (hP : wP D (dkT ca) (dkW ad ca σ) s H) {i : Int32} (j : Nat) (hj : j < 9) (hi : i = nI j) (hdg : decode cc pc = .ok (.iaload, 1)) (kk : W p l e R s m args below meth c H locs cells slots Q (F0 m (pc + 1) ls (.int (gK σ j) :: rest))) : W p l e R s m args below meth c H locs cells slots Q (F0 m pc ls (.int i :: .ref (ad 3) :: rest)) := by
  subst hi
  refine va_iald K.1 K.2.1 hP.1 hP.2 3 2 rfl rfl (vp_in_nI hj (by omega)) hdg ?_
  rw [nI_clamp (by omega)]
  exact kk
theorem ds_K (K : CallFix p m c cc nL s args lw_all RX0) (h : wS D (dkT ca) A H0 (dkW ad ca σ) s H locs) {i x : Int32} (j : Nat) (hj : j < 9) (hi : i = nI j) (hdg : decode cc pc = .ok (.iastore, 1)) (kk : ∀ (H1 : Heap) (locs1 : List Loc), wS D (dkT ca) A H0 (dkW ad ca (sK σ (upd (gK σ) j x))) s H1 locs1 → W p l e R s m args below meth c H1 locs1 cells slots Q (F0 m (pc + 1) ls rest)) : W p l e R s m args below meth c H locs cells slots Q (F0 m pc ls (.int x :: .int i :: .ref (ad 3) :: rest)) := by
  subst hi
  refine va_iast K.1 K.2.1 h.1.1 h.1.2 h.2.1 h.2.2.1 3 2 rfl rfl (vp_in_nI hj (by omega)) hdg (fun H1 locs1 hP hD hS => ?_)
  rw [nI_clamp (by omega)] at hP hD
  exact kk H1 locs1 ⟨⟨h.1.1, hP⟩, hD, hS, h.2.2.2⟩
theorem dg_R (K : CallFix p m c cc nL s args lw_all RX0) (hP : wP D (dkT ca) (dkW ad ca σ) s H) (hdg : decode cc pc = .ok (.getfield 21, 3)) (kk : W p l e R s m args below meth c H locs cells slots Q (F0 m (pc + 3) ls (.ref (ad 4) :: rest))) : W p l e R s m args below meth c H locs cells slots Q (F0 m pc ls (.ref (ad 0) :: rest)) :=
  va_get (D := D) (ci := 0) (v := .ref (ad 4)) (C := RX0) (T := TX0) (N := 8) K.1 K.2.1 K.2.2.2.2 in_X0 K.2.2.2.1 hP.1 hP.2 0 rfl rfl 4 (by decide) (K.2.2.2.2 _ q28) (fun _ h9 => h9) rfl hdg kk
theorem dl_R (K : CallFix p m c cc nL s args lw_all RX0) (hP : wP D (dkT ca) (dkW ad ca σ) s H) {i : Int32} (j : Nat) (hj : j < 121) (hi : i = nI j) (hdg : decode cc pc = .ok (.iaload, 1)) (kk : W p l e R s m args below meth c H locs cells slots Q (F0 m (pc + 1) ls (.int (gR σ j) :: rest))) : W p l e R s m args below meth c H locs cells slots Q (F0 m pc ls (.int i :: .ref (ad 4) :: rest)) := by
  subst hi
  refine va_iald K.1 K.2.1 hP.1 hP.2 4 3 rfl rfl (vp_in_nI hj (by omega)) hdg ?_
  rw [nI_clamp (by omega)]
  exact kk
theorem ds_R (K : CallFix p m c cc nL s args lw_all RX0) (h : wS D (dkT ca) A H0 (dkW ad ca σ) s H locs) {i x : Int32} (j : Nat) (hj : j < 121) (hi : i = nI j) (hdg : decode cc pc = .ok (.iastore, 1)) (kk : ∀ (H1 : Heap) (locs1 : List Loc), wS D (dkT ca) A H0 (dkW ad ca (sR σ (upd (gR σ) j x))) s H1 locs1 → W p l e R s m args below meth c H1 locs1 cells slots Q (F0 m (pc + 1) ls rest)) : W p l e R s m args below meth c H locs cells slots Q (F0 m pc ls (.int x :: .int i :: .ref (ad 4) :: rest)) := by
  subst hi
  refine va_iast K.1 K.2.1 h.1.1 h.1.2 h.2.1 h.2.2.1 4 3 rfl rfl (vp_in_nI hj (by omega)) hdg (fun H1 locs1 hP hD hS => ?_)
  rw [nI_clamp (by omega)] at hP hD
  exact kk H1 locs1 ⟨⟨h.1.1, hP⟩, hD, hS, h.2.2.2⟩
theorem dg_S (K : CallFix p m c cc nL s args lw_all RX0) (hP : wP D (dkT ca) (dkW ad ca σ) s H) (hdg : decode cc pc = .ok (.getfield 54, 3)) (kk : W p l e R s m args below meth c H locs cells slots Q (F0 m (pc + 3) ls (.int (gS σ) :: rest))) : W p l e R s m args below meth c H locs cells slots Q (F0 m pc ls (.ref (ad 0) :: rest)) :=
  va_get (D := D) (ci := 0) (v := .int (gS σ)) (C := RX0) (T := TX0) (N := 8) K.1 K.2.1 K.2.2.2.2 in_X0 K.2.2.2.1 hP.1 hP.2 0 rfl rfl 5 (by decide) (K.2.2.2.2 _ q29) (fun _ h9 => h9) rfl hdg kk
theorem dp_S (K : CallFix p m c cc nL s args lw_all RX0) (h : wS D (dkT ca) A H0 (dkW ad ca σ) s H locs) {x : Int32} (hdg : decode cc pc = .ok (.putfield 54, 3)) (kk : ∀ (H1 : Heap) (locs1 : List Loc), wS D (dkT ca) A H0 (dkW ad ca (sS σ x)) s H1 locs1 → W p l e R s m args below meth c H1 locs1 cells slots Q (F0 m (pc + 3) ls rest)) : W p l e R s m args below meth c H locs cells slots Q (F0 m pc ls (.int x :: .ref (ad 0) :: rest)) :=
  va_put (D := D) (ci := 0) (v := .int x) (ty := .int) (C := RX0) (T := TX0) (N := 8) K.1 K.2.1 K.2.2.2.2 in_X0 tyX0 tyX0_ok nmX0 K.2.2.2.1 h.1.1 h.1.2 h.2.1 h.2.2.1 0 rfl rfl 5 (by decide) (K.2.2.2.2 _ q29) (fun _ h9 => h9) rfl (by decide +kernel) rfl rfl (Nat.le_of_ble_eq_true rfl) hdg (fun H1 locs1 hP hD hS => kk H1 locs1 ⟨⟨h.1.1, hP⟩, hD, hS, h.2.2.2⟩)
theorem dg_F (K : CallFix p m c cc nL s args lw_all RX0) (hP : wP D (dkT ca) (dkW ad ca σ) s H) (hdg : decode cc pc = .ok (.getfield 24, 3)) (kk : W p l e R s m args below meth c H locs cells slots Q (F0 m (pc + 3) ls (.ref (ad 5) :: rest))) : W p l e R s m args below meth c H locs cells slots Q (F0 m pc ls (.ref (ad 0) :: rest)) :=
  va_get (D := D) (ci := 0) (v := .ref (ad 5)) (C := RX0) (T := TX0) (N := 8) K.1 K.2.1 K.2.2.2.2 in_X0 K.2.2.2.1 hP.1 hP.2 0 rfl rfl 6 (by decide) (K.2.2.2.2 _ q30) (fun _ h9 => h9) rfl hdg kk
theorem dl_F (K : CallFix p m c cc nL s args lw_all RX0) (hP : wP D (dkT ca) (dkW ad ca σ) s H) {i : Int32} (j : Nat) (hj : j < 11) (hi : i = nI j) (hdg : decode cc pc = .ok (.baload, 1)) (kk : W p l e R s m args below meth c H locs cells slots Q (F0 m (pc + 1) ls (.int (gF σ j) :: rest))) : W p l e R s m args below meth c H locs cells slots Q (F0 m pc ls (.int i :: .ref (ad 5) :: rest)) := by
  subst hi
  refine va_bald K.1 K.2.1 hP.1 hP.2 5 4 rfl rfl (vp_in_nI hj (by omega)) hdg ?_
  rw [nI_clamp (by omega)]
  exact kk
theorem ds_F (K : CallFix p m c cc nL s args lw_all RX0) (h : wS D (dkT ca) A H0 (dkW ad ca σ) s H locs) {i x : Int32} (j : Nat) (hj : j < 11) (hi : i = nI j) (x' : Int32) (hx : vp_nar .byte x = x') (hdg : decode cc pc = .ok (.bastore, 1)) (kk : ∀ (H1 : Heap) (locs1 : List Loc), wS D (dkT ca) A H0 (dkW ad ca (sF σ (upd (gF σ) j x'))) s H1 locs1 → W p l e R s m args below meth c H1 locs1 cells slots Q (F0 m (pc + 1) ls rest)) : W p l e R s m args below meth c H locs cells slots Q (F0 m pc ls (.int x :: .int i :: .ref (ad 5) :: rest)) := by
  subst hi; subst hx
  refine va_bast K.1 K.2.1 h.1.1 h.1.2 h.2.1 h.2.2.1 5 4 rfl rfl (vp_in_nI hj (by omega)) hdg (fun H1 locs1 hP hD hS => ?_)
  rw [nI_clamp (by omega)] at hP hD
  exact kk H1 locs1 ⟨⟨h.1.1, hP⟩, hD, hS, h.2.2.2⟩
theorem dg_L (K : CallFix p m c cc nL s args lw_all RX0) (hP : wP D (dkT ca) (dkW ad ca σ) s H) (hdg : decode cc pc = .ok (.getfield 27, 3)) (kk : W p l e R s m args below meth c H locs cells slots Q (F0 m (pc + 3) ls (.ref (ad 6) :: rest))) : W p l e R s m args below meth c H locs cells slots Q (F0 m pc ls (.ref (ad 0) :: rest)) :=
  va_get (D := D) (ci := 0) (v := .ref (ad 6)) (C := RX0) (T := TX0) (N := 8) K.1 K.2.1 K.2.2.2.2 in_X0 K.2.2.2.1 hP.1 hP.2 0 rfl rfl 7 (by decide) (K.2.2.2.2 _ q31) (fun _ h9 => h9) rfl hdg kk
theorem dl_L (K : CallFix p m c cc nL s args lw_all RX0) (hP : wP D (dkT ca) (dkW ad ca σ) s H) {i : Int32} (j : Nat) (hj : j < 12) (hi : i = nI j) (hdg : decode cc pc = .ok (.baload, 1)) (kk : W p l e R s m args below meth c H locs cells slots Q (F0 m (pc + 1) ls (.int (gL σ j) :: rest))) : W p l e R s m args below meth c H locs cells slots Q (F0 m pc ls (.int i :: .ref (ad 6) :: rest)) := by
  subst hi
  refine va_bald K.1 K.2.1 hP.1 hP.2 6 5 rfl rfl (vp_in_nI hj (by omega)) hdg ?_
  rw [nI_clamp (by omega)]
  exact kk
theorem ds_L (K : CallFix p m c cc nL s args lw_all RX0) (h : wS D (dkT ca) A H0 (dkW ad ca σ) s H locs) {i x : Int32} (j : Nat) (hj : j < 12) (hi : i = nI j) (x' : Int32) (hx : vp_nar .byte x = x') (hdg : decode cc pc = .ok (.bastore, 1)) (kk : ∀ (H1 : Heap) (locs1 : List Loc), wS D (dkT ca) A H0 (dkW ad ca (sL σ (upd (gL σ) j x'))) s H1 locs1 → W p l e R s m args below meth c H1 locs1 cells slots Q (F0 m (pc + 1) ls rest)) : W p l e R s m args below meth c H locs cells slots Q (F0 m pc ls (.int x :: .int i :: .ref (ad 6) :: rest)) := by
  subst hi; subst hx
  refine va_bast K.1 K.2.1 h.1.1 h.1.2 h.2.1 h.2.2.1 6 5 rfl rfl (vp_in_nI hj (by omega)) hdg (fun H1 locs1 hP hD hS => ?_)
  rw [nI_clamp (by omega)] at hP hD
  exact kk H1 locs1 ⟨⟨h.1.1, hP⟩, hD, hS, h.2.2.2⟩
end DROW
section MROW
variable {p : Program} {l : Launch} {e : Env} {R : Room} {s : State} {m : MethodId} {args : Array Value} {below : List Frame} {meth : Method} {c : Code} {H : Heap} {locs : List Loc} {cells slots : Nat} {Q : State → Prop}
variable {cc : ByteArray} {nL pc : Nat} {ls : Array Slot} {rest : List Value} {D : va_G} {A : Nat → Prop} {H0 : Heap} {ad : Nat → Nat} {ca : Nat → ClassId} {μ : cd_M}

theorem eg_T (K : CallFix p m c cc nL s args lw_all RX1) (hP : wP D (mdT ca) (mdW ad ca μ) s H) (hdg : decode cc pc = .ok (.getfield 7, 3)) (kk : W p l e R s m args below meth c H locs cells slots Q (F0 m (pc + 3) ls (.ref (ad 1) :: rest))) : W p l e R s m args below meth c H locs cells slots Q (F0 m pc ls (.ref (ad 0) :: rest)) :=
  va_get (D := D) (ci := 1) (v := .ref (ad 1)) (C := RX1) (T := TX1) (N := 3) K.1 K.2.1 K.2.2.2.2 in_X1 K.2.2.2.1 hP.1 hP.2 0 rfl rfl 0 (by decide) (K.2.2.2.2 _ q164) (fun _ h9 => h9) rfl hdg kk
theorem el_T (K : CallFix p m c cc nL s args lw_all RX1) (hP : wP D (mdT ca) (mdW ad ca μ) s H) {i : Int32} (j : Nat) (hj : j < 9) (hi : i = nI j) (hdg : decode cc pc = .ok (.baload, 1)) (kk : W p l e R s m args below meth c H locs cells slots Q (F0 m (pc + 1) ls (.int (mT μ j) :: rest))) : W p l e R s m args below meth c H locs cells slots Q (F0 m pc ls (.int i :: .ref (ad 1) :: rest)) := by
  subst hi
  refine va_zald K.1 K.2.1 hP.1 hP.2 1 0 rfl rfl (vp_in_nI hj (by omega)) hdg ?_
  rw [nI_clamp (by omega)]
  exact kk
theorem es_T (K : CallFix p m c cc nL s args lw_all RX1) (h : wS D (mdT ca) A H0 (mdW ad ca μ) s H locs) {i x : Int32} (j : Nat) (hj : j < 9) (hi : i = nI j) (x' : Int32) (hx : vp_nar .boolean x = x') (hdg : decode cc pc = .ok (.bastore, 1)) (kk : ∀ (H1 : Heap) (locs1 : List Loc), wS D (mdT ca) A H0 (mdW ad ca (tT μ (upd (mT μ) j x'))) s H1 locs1 → W p l e R s m args below meth c H1 locs1 cells slots Q (F0 m (pc + 1) ls rest)) : W p l e R s m args below meth c H locs cells slots Q (F0 m pc ls (.int x :: .int i :: .ref (ad 1) :: rest)) := by
  subst hi; subst hx
  refine va_zast K.1 K.2.1 h.1.1 h.1.2 h.2.1 h.2.2.1 1 0 rfl rfl (vp_in_nI hj (by omega)) hdg (fun H1 locs1 hP hD hS => ?_)
  rw [nI_clamp (by omega)] at hP hD
  exact kk H1 locs1 ⟨⟨h.1.1, hP⟩, hD, hS, h.2.2.2⟩
theorem eg_W (K : CallFix p m c cc nL s args lw_all RX1) (hP : wP D (mdT ca) (mdW ad ca μ) s H) (hdg : decode cc pc = .ok (.getfield 13, 3)) (kk : W p l e R s m args below meth c H locs cells slots Q (F0 m (pc + 3) ls (.ref (ad 2) :: rest))) : W p l e R s m args below meth c H locs cells slots Q (F0 m pc ls (.ref (ad 0) :: rest)) :=
  va_get (D := D) (ci := 1) (v := .ref (ad 2)) (C := RX1) (T := TX1) (N := 3) K.1 K.2.1 K.2.2.2.2 in_X1 K.2.2.2.1 hP.1 hP.2 0 rfl rfl 1 (by decide) (K.2.2.2.2 _ q165) (fun _ h9 => h9) rfl hdg kk
theorem el_W (K : CallFix p m c cc nL s args lw_all RX1) (hP : wP D (mdT ca) (mdW ad ca μ) s H) {i : Int32} (j : Nat) (hj : j < 9) (hi : i = nI j) (hdg : decode cc pc = .ok (.iaload, 1)) (kk : W p l e R s m args below meth c H locs cells slots Q (F0 m (pc + 1) ls (.int (mW μ j) :: rest))) : W p l e R s m args below meth c H locs cells slots Q (F0 m pc ls (.int i :: .ref (ad 2) :: rest)) := by
  subst hi
  refine va_iald K.1 K.2.1 hP.1 hP.2 2 1 rfl rfl (vp_in_nI hj (by omega)) hdg ?_
  rw [nI_clamp (by omega)]
  exact kk
theorem es_W (K : CallFix p m c cc nL s args lw_all RX1) (h : wS D (mdT ca) A H0 (mdW ad ca μ) s H locs) {i x : Int32} (j : Nat) (hj : j < 9) (hi : i = nI j) (hdg : decode cc pc = .ok (.iastore, 1)) (kk : ∀ (H1 : Heap) (locs1 : List Loc), wS D (mdT ca) A H0 (mdW ad ca (tW μ (upd (mW μ) j x))) s H1 locs1 → W p l e R s m args below meth c H1 locs1 cells slots Q (F0 m (pc + 1) ls rest)) : W p l e R s m args below meth c H locs cells slots Q (F0 m pc ls (.int x :: .int i :: .ref (ad 2) :: rest)) := by
  subst hi
  refine va_iast K.1 K.2.1 h.1.1 h.1.2 h.2.1 h.2.2.1 2 1 rfl rfl (vp_in_nI hj (by omega)) hdg (fun H1 locs1 hP hD hS => ?_)
  rw [nI_clamp (by omega)] at hP hD
  exact kk H1 locs1 ⟨⟨h.1.1, hP⟩, hD, hS, h.2.2.2⟩
theorem eg_N (K : CallFix p m c cc nL s args lw_all RX1) (hP : wP D (mdT ca) (mdW ad ca μ) s H) (hdg : decode cc pc = .ok (.getfield 17, 3)) (kk : W p l e R s m args below meth c H locs cells slots Q (F0 m (pc + 3) ls (.ref (ad 3) :: rest))) : W p l e R s m args below meth c H locs cells slots Q (F0 m pc ls (.ref (ad 0) :: rest)) :=
  va_get (D := D) (ci := 1) (v := .ref (ad 3)) (C := RX1) (T := TX1) (N := 3) K.1 K.2.1 K.2.2.2.2 in_X1 K.2.2.2.1 hP.1 hP.2 0 rfl rfl 2 (by decide) (K.2.2.2.2 _ q166) (fun _ h9 => h9) rfl hdg kk
theorem el_N (K : CallFix p m c cc nL s args lw_all RX1) (hP : wP D (mdT ca) (mdW ad ca μ) s H) {i : Int32} (j : Nat) (hj : j < 9) (hi : i = nI j) (hdg : decode cc pc = .ok (.iaload, 1)) (kk : W p l e R s m args below meth c H locs cells slots Q (F0 m (pc + 1) ls (.int (mN μ j) :: rest))) : W p l e R s m args below meth c H locs cells slots Q (F0 m pc ls (.int i :: .ref (ad 3) :: rest)) := by
  subst hi
  refine va_iald K.1 K.2.1 hP.1 hP.2 3 2 rfl rfl (vp_in_nI hj (by omega)) hdg ?_
  rw [nI_clamp (by omega)]
  exact kk
theorem es_N (K : CallFix p m c cc nL s args lw_all RX1) (h : wS D (mdT ca) A H0 (mdW ad ca μ) s H locs) {i x : Int32} (j : Nat) (hj : j < 9) (hi : i = nI j) (hdg : decode cc pc = .ok (.iastore, 1)) (kk : ∀ (H1 : Heap) (locs1 : List Loc), wS D (mdT ca) A H0 (mdW ad ca (tN μ (upd (mN μ) j x))) s H1 locs1 → W p l e R s m args below meth c H1 locs1 cells slots Q (F0 m (pc + 1) ls rest)) : W p l e R s m args below meth c H locs cells slots Q (F0 m pc ls (.int x :: .int i :: .ref (ad 3) :: rest)) := by
  subst hi
  refine va_iast K.1 K.2.1 h.1.1 h.1.2 h.2.1 h.2.2.1 3 2 rfl rfl (vp_in_nI hj (by omega)) hdg (fun H1 locs1 hP hD hS => ?_)
  rw [nI_clamp (by omega)] at hP hD
  exact kk H1 locs1 ⟨⟨h.1.1, hP⟩, hD, hS, h.2.2.2⟩
end MROW
end
section
/-! the answers as plain functions, in the bytecode's own words -/
def cd_cl1 (n : Nat → Int32) (u : Nat) (a : Int32) : Int32 := a ||| (if cd_in a (nI u) then n u else 0)
def cd_clR (n : Nat → Int32) (_ : Nat) (a : Int32) : Int32 := cd_it (cd_cl1 n) 9 a
def cd_closure (P : Int32) (n : Nat → Int32) (S : Int32) : Int32 := cd_it (cd_clR n) 9 (S &&& P)
def cd_clq (n : Nat → Int32) (S : Int32) (u : Nat) : Bool := !cd_in S (nI u) || decide (n u &&& (S ^^^ (-1)) = 0)
def cd_closed (P : Int32) (n : Nat → Int32) (S : Int32) : Bool := decide (S &&& (P ^^^ (-1)) = 0) && cd_all (cd_clq n S) 9
def cd_pos (x : Int32) : Int32 := if x ≤ 0 then 0 else x
def cd_neg (x : Int32) : Int32 := if 0 ≤ x then 0 else -x
def cd_i0 (q : Nat) (r : Nat → Int32) : Nat → Int32 := upd r q 0
def cd_i1 (n : Nat → Int32) (u v : Nat) (r : Nat → Int32) : Nat → Int32 := upd r (u * 11 + v) (if cd_in (n u) (nI v) then 1048576 else 0)
def cd_i2 (P : Int32) (n k : Nat → Int32) (u : Nat) (x : Int32 × (Nat → Int32)) : Int32 × (Nat → Int32) := if cd_has P (nI u) then (x.1 + cd_pos (k u), cd_it (cd_i1 n u) 9 (upd (upd x.2 (99 + u) (cd_pos (k u))) (u * 11 + 10) (cd_neg (k u)))) else x
def cd_ini (P : Int32) (n k r : Nat → Int32) : Int32 × (Nat → Int32) := cd_it (cd_i2 P n k) 9 (0, cd_it cd_i0 121 r)
def cd_ap1 (r : Nat → Int32) (a b : Nat) (x : Int32) : Int32 := x ||| (if cd_in x (nI b) && decide (¬ r (a * 11 + b) ≤ 0) then (1 : Int32) <<< (nI a &&& 31) else 0)
def cd_ap2 (r : Nat → Int32) (a : Nat) (x : Int32) : Int32 := cd_it (cd_ap1 r a) 11 x
def cd_ap3 (r : Nat → Int32) (_ : Nat) (x : Int32) : Int32 := cd_it (cd_ap2 r) 11 x
def cd_near (r : Nat → Int32) : Int32 := cd_it (cd_ap3 r) 11 1024
def cd_apart (P : Int32) (r : Nat → Int32) : Int32 := P &&& (cd_near r ^^^ (-1))
def cd_stq (r : Nat → Int32) (S O : Int32) (a b : Nat) : Bool := !(cd_in S (nI a) && (cd_in (O &&& (S ^^^ (-1))) (nI b) && decide (¬ r (a * 11 + b) ≤ 0)))
def cd_str (r : Nat → Int32) (S O : Int32) (a : Nat) : Bool := cd_all (cd_stq r S O a) 9
def cd_stays (r : Nat → Int32) (S O : Int32) : Bool := cd_all (cd_str r S O) 9
def cd_chq (r : Nat → Int32) (O : Int32) (S : Nat) : Bool := decide (nI S &&& (O ^^^ (-1)) = 0) && cd_stays r (nI S) O
def cd_ch1 (r : Nat → Int32) (O : Int32) (S : Nat) (n : Int32) : Int32 := n + (if cd_chq r O S then 1 else 0)
def cd_off (u : Int32) (v : Nat) (x : Nat → Int32) : Nat → Int32 := upd x v (x v &&& (((1 : Int32) <<< (u &&& 31)) ^^^ (-1))).toInt16.toInt32
def cd_ask (w : Nat → Int32) (v : Nat) (x : Nat → Int32) : Nat → Int32 := upd x v (w v)
/-! the model's -/
def cd_is (t : Nat → Int32) (u : Int32) : Bool := decide (¬ u < 0) && decide (¬ 9 ≤ u) && decide (¬ t u.toNatClampNeg = 0)
def cd_un1 (t : Nat → Int32) (u : Nat) (x : Int32) : Int32 := if t u = 0 then x else x ||| ((1 : Int32) <<< (nI u &&& 31))
def cd_under (t : Nat → Int32) : Int32 := cd_it (cd_un1 t) 9 0
def cd_dn (a : Int) (i : Nat) : Int32 := Int32.ofInt (a - i)
def cd_mc1 (U : Int32) (n : Nat → Int32) (all : Int32) (i : Nat) (x : Int32) : Int32 := if cd_closed U n (cd_dn 511 i) && decide (all &&& (cd_dn 511 i ^^^ (-1)) = 0) then cd_dn 511 i else x
def cd_mclosure (U : Int32) (n : Nat → Int32) (S : Int32) : Int32 := cd_it (cd_mc1 U n (S &&& U)) 512 0
def cd_su1 (w : Nat → Int32) (S : Int32) (u : Nat) (x : Int32) : Int32 := if (S >>> (nI u &&& 31)) &&& 1 = 1 then x + w u else x
def cd_sum (w : Nat → Int32) (S : Int32) : Int32 := cd_it (cd_su1 w S) 9 0
def cd_gq (U : Int32) (n : Nat → Int32) (must never : Int32) (S : Nat) : Bool := decide (must &&& (nI S ^^^ (-1)) = 0) && (decide (never &&& nI S = 0) && cd_closed U n (nI S))
def cd_gr1 (U : Int32) (w n : Nat → Int32) (must never : Int32) (S : Nat) (x : Int32) : Int32 := if cd_gq U n must never S then (if cd_sum w (nI S) ≤ x then x else cd_sum w (nI S)) else x
def cd_greatest (U : Int32) (w n : Nat → Int32) (must never : Int32) : Int32 := cd_it (cd_gr1 U w n must never) 512 (-100000)
def cd_best (U : Int32) (w n : Nat → Int32) : Int32 := cd_greatest U w n 0 0
def cd_isb (U : Int32) (w n : Nat → Int32) (b : Int32) (S : Nat) : Bool := cd_closed U n (nI S) && decide (cd_sum w (nI S) = b)
def cd_lb1 (U : Int32) (w n : Nat → Int32) (b : Int32) (S : Nat) (x : Int32) : Int32 := if cd_isb U w n b S then x &&& nI S else x
def cd_gb1 (U : Int32) (w n : Nat → Int32) (b : Int32) (S : Nat) (x : Int32) : Int32 := if cd_isb U w n b S then x ||| nI S else x
def cd_co1 (U : Int32) (w n : Nat → Int32) (b : Int32) (S : Nat) (x : Int32) : Int32 := if cd_isb U w n b S then x + 1 else x
def cd_mwith (t w n : Nat → Int32) (u : Int32) : Int32 := if cd_is t u then cd_greatest (cd_under t) w n ((1 : Int32) <<< (u &&& 31)) 0 else -100000
def cd_mwithout (t w n : Nat → Int32) (u : Int32) : Int32 := cd_greatest (cd_under t) w n 0 (if decide (¬ u < 0) && decide (¬ 9 ≤ u) then (1 : Int32) <<< (u &&& 31) else 0)
def cd_th1 (t w n : Nat → Int32) (u : Int32) (i : Nat) (x : Int32) : Int32 := if cd_mwith t (upd w u.toNatClampNeg (cd_dn 50 i)) n u = cd_best (cd_under t) (upd w u.toNatClampNeg (cd_dn 50 i)) n then cd_dn 50 i else x
def cd_moff (u : Int32) (v : Nat) (x : Nat → Int32) : Nat → Int32 := upd x v (x v &&& (((1 : Int32) <<< (u &&& 31)) ^^^ (-1)))
theorem cd_is_lt {t : Nat → Int32} {u : Int32} (h : u < 0) : cd_is t u = false := by
  unfold cd_is
  rw [decide_eq_false (p := ¬ u < 0) (fun n => n h)]
  rfl
theorem cd_is_ge {t : Nat → Int32} {u : Int32} (h : 9 ≤ u) : cd_is t u = false := by
  unfold cd_is
  rw [decide_eq_false (p := ¬ 9 ≤ u) (fun n => n h), Bool.and_false, Bool.false_and]
theorem cd_is_n {t : Nat → Int32} {j : Nat} (h : j < 9) : cd_is t (nI j) = decide (¬ t j = 0) := by
  unfold cd_is
  rw [decide_eq_true (nI_pos (by omega)), decide_eq_true (p := ¬ 9 ≤ nI j) (nI_ge (b := 9) h (by omega)), nI_clamp (by omega)]
  rfl
theorem cd_is_ix {t : Nat → Int32} {u : Int32} (h : cd_is t u = true) : ∃ j : Nat, j < 9 ∧ u = nI j := by
  refine cd_ix (fun g => ?_) (fun g => ?_)
  · rw [cd_is_lt g] at h; cases h
  · rw [cd_is_ge g] at h; cases h
section WG
variable {p : Program} {l : Launch} {e : Env} {R : Room} {s : State} {m : MethodId} {args : Array Value} {below : List Frame} {meth : Method} {c : Code} {H : Heap} {locs : List Loc} {cells slots : Nat} {Q : State → Prop} {pc : Nat} {ls : Array Slot} {st : List Value}
theorem w_all (k : ∀ (H' : Heap) (locs' : List Loc) (ls' : Array Slot), H' = H → locs' = locs → ls' = ls → W p l e R s m args below meth c H' locs' cells slots Q (F0 m pc ls' st)) : W p l e R s m args below meth c H locs cells slots Q (F0 m pc ls st) := k H locs ls rfl rfl rfl
theorem w_ls (k : ∀ (ls' : Array Slot), ls' = ls → W p l e R s m args below meth c H locs cells slots Q (F0 m pc ls' st)) : W p l e R s m args below meth c H locs cells slots Q (F0 m pc ls st) := k ls rfl
end WG
theorem cd_dn_t {a : Int} {i : Nat} (h1 : -1000 ≤ a - i) (h2 : a - i ≤ 1000) : (cd_dn a i).toInt = a - i := by
  unfold cd_dn
  exact Int32.toInt_ofInt_of_le (by omega) (by omega)
theorem cd_dn_inc (a : Int) (i : Nat) : cd_dn a i + Int32.ofInt (-1) = cd_dn a (i + 1) := by
  unfold cd_dn
  rw [← Int32.ofInt_add]
  congr 1
  omega
theorem cd_dn_e1 {i : Nat} (hi : i ≤ 512) (h : cd_dn 511 i < 0) : i = 512 := by
  have h1 := Int32.lt_iff_toInt_lt.mp h
  rw [cd_dn_t (by omega) (by omega)] at h1
  have : (0 : Int32).toInt = 0 := rfl
  omega
theorem cd_dn_g1 {i : Nat} (hi : i ≤ 512) (h : ¬ cd_dn 511 i < 0) : i < 512 := by
  rcases Nat.lt_or_ge i 512 with g | g
  · exact g
  · refine absurd (Int32.lt_iff_toInt_lt.mpr ?_) h
    rw [cd_dn_t (by omega) (by omega)]
    have : (0 : Int32).toInt = 0 := rfl
    omega
theorem cd_dn_e2 {i : Nat} (hi : i ≤ 101) (h : cd_dn 50 i < -50) : i = 101 := by
  have h1 := Int32.lt_iff_toInt_lt.mp h
  rw [cd_dn_t (by omega) (by omega)] at h1
  have : (-50 : Int32).toInt = -50 := rfl
  omega
theorem cd_dn_g2 {i : Nat} (hi : i ≤ 101) (h : ¬ cd_dn 50 i < -50) : i < 101 := by
  rcases Nat.lt_or_ge i 101 with g | g
  · exact g
  · refine absurd (Int32.lt_iff_toInt_lt.mpr ?_) h
    rw [cd_dn_t (by omega) (by omega)]
    have : (-50 : Int32).toInt = -50 := rfl
    omega
theorem cd_dn_0 : cd_dn 511 0 = 511 := rfl
theorem cd_dn_1 : cd_dn 50 0 = 50 := rfl
section DM
variable {p : Program} {l : Launch} {e : Env} {R : Room} {s : State} {m : MethodId} {args : Array Value} {below : List Frame} {meth : Method} {c : Code} {H : Heap} {locs : List Loc} {cells slots : Nat} {Q : State → Prop} {cc : ByteArray} {pc : Nat} {ls : Array Slot} {rest : List Value}
/-- x == 0 as a boolean: ifne, 1, goto, 0 -/
theorem dm_ne (hx : p.tables.exec = Jvm.exec) (hb : c.code = cc) {x : Int32} (d1 : decode cc pc = .ok (.ifCond .ne 7, 3)) (d2 : decode cc (pc + 3) = .ok (.iconst 1, 1)) (d3 : decode cc (pc + 4) = .ok (.goto 4, 3)) (d4 : decode cc (pc + 7) = .ok (.iconst 0, 1)) (k : W p l e R s m args below meth c H locs cells slots Q (F0 m (pc + 8) ls (.int (cd_zb (decide (x = 0))) :: rest))) : W p l e R s m args below meth c H locs cells slots Q (F0 m pc ls (.int x :: rest)) := by
  refine lv_if_ne (tgt := pc + 7) hx hb d1 (by omega) (fun h => ?_) (fun h => ?_)
  · refine lv_iconst (v := 0) hx hb d4 (by decide) ?_
    rw [decide_eq_false h] at k
    exact k
  · refine lv_iconst (v := 1) hx hb d2 (by decide) ?_
    refine lv_goto (tgt := pc + 8) hx hb d3 (by omega) ?_
    rw [decide_eq_true h] at k
    exact k
end DM
/-! what the writers leave behind -/
def cd_addP (σ : cd_D) (w r : Int32) (τ : cd_D) : Prop := (cd_wok w = false ∧ r = -1 ∧ τ = σ) ∨ (cd_wok w = true ∧ ∃ u : Nat, u < 9 ∧ (∀ v, v < u → cd_has (gP σ) (nI v) = true) ∧ cd_has (gP σ) (nI u) = false ∧ r = nI u ∧ τ = sN (sW (sP σ (gP σ ||| ((1 : Int32) <<< (nI u &&& 31)))) (upd (gW σ) u w.toInt8.toInt32)) (upd (gN σ) u 0)) ∨ (cd_wok w = true ∧ (∀ v, v < 9 → cd_has (gP σ) (nI v) = true) ∧ r = -2 ∧ τ = σ)
def cd_remP (σ : cd_D) (u r : Int32) (τ : cd_D) : Prop := (cd_has (gP σ) u = false ∧ r = 0 ∧ τ = σ) ∨ (cd_has (gP σ) u = true ∧ r = 1 ∧ τ = sN (sP σ (gP σ &&& (((1 : Int32) <<< (u &&& 31)) ^^^ (-1)))) (cd_it (cd_off u) 9 (gN σ)))
def cd_ratP (σ : cd_D) (u w r : Int32) (τ : cd_D) : Prop := ((cd_has (gP σ) u && cd_wok w) = false ∧ r = 0 ∧ τ = σ) ∨ ((cd_has (gP σ) u && cd_wok w) = true ∧ r = 1 ∧ τ = sW σ (upd (gW σ) u.toNatClampNeg w.toInt8.toInt32))
def cd_nok (P u v : Int32) : Bool := cd_has P u && (cd_has P v && decide (¬ u = v))
def cd_nv (x v o : Int32) : Int32 := if o = 0 then x &&& (((1 : Int32) <<< (v &&& 31)) ^^^ (-1)) else x ||| ((1 : Int32) <<< (v &&& 31))
def cd_neeP (σ : cd_D) (u v o r : Int32) (τ : cd_D) : Prop := (cd_nok (gP σ) u v = false ∧ r = 0 ∧ τ = σ) ∨ (cd_nok (gP σ) u v = true ∧ r = 1 ∧ τ = sN σ (upd (gN σ) u.toNatClampNeg (cd_nv (gN σ u.toNatClampNeg) v o).toInt16.toInt32))
def cd_maddP (μ : cd_M) (w r : Int32) (τ : cd_M) : Prop := (cd_wok w = false ∧ r = -1 ∧ τ = μ) ∨ (cd_wok w = true ∧ ∃ u : Nat, u < 9 ∧ (∀ v, v < u → ¬ mT μ v = 0) ∧ mT μ u = 0 ∧ r = nI u ∧ τ = (upd (mT μ) u 1, upd (mW μ) u w, upd (mN μ) u 0)) ∨ (cd_wok w = true ∧ (∀ v, v < 9 → ¬ mT μ v = 0) ∧ r = -2 ∧ τ = μ)
def cd_mremP (μ : cd_M) (u r : Int32) (τ : cd_M) : Prop := (cd_is (mT μ) u = false ∧ r = 0 ∧ τ = μ) ∨ (cd_is (mT μ) u = true ∧ r = 1 ∧ τ = (upd (mT μ) u.toNatClampNeg 0, mW μ, cd_it (cd_moff u) 9 (mN μ)))
def cd_mratP (μ : cd_M) (u w r : Int32) (τ : cd_M) : Prop := ((cd_is (mT μ) u && cd_wok w) = false ∧ r = 0 ∧ τ = μ) ∨ ((cd_is (mT μ) u && cd_wok w) = true ∧ r = 1 ∧ τ = tW μ (upd (mW μ) u.toNatClampNeg w))
def cd_mnok (t : Nat → Int32) (u v : Int32) : Bool := decide (¬ u = v) && (cd_is t u && cd_is t v)
def cd_mneeP (μ : cd_M) (u v o r : Int32) (τ : cd_M) : Prop := (cd_mnok (mT μ) u v = false ∧ r = 0 ∧ τ = μ) ∨ (cd_mnok (mT μ) u v = true ∧ r = 1 ∧ τ = tN μ (upd (mN μ) u.toNatClampNeg (cd_nv (mN μ u.toNatClampNeg) v o)))
theorem cd_upd_self (f : Nat → Int32) (j : Nat) : upd f j (f j) = f := by
  funext k
  unfold upd
  by_cases h : k = j
  · rw [if_pos h, h]
  · rw [if_neg h]
theorem cd_upd2 (f : Nat → Int32) (j : Nat) (a b : Int32) : upd (upd f j a) j b = upd f j b := by
  funext k
  unfold upd
  by_cases h : k = j
  · rw [if_pos h, if_pos h]
  · rw [if_neg h, if_neg h, if_neg h]
end
section
/-! Int32 by its bits (out of the kit's BITS.to-paste) -/
def bt (x : Int32) (i : Nat) : Bool := x.toBitVec.getLsbD i
theorem b_ext {x y : Int32} (h : ∀ i, i < 32 → bt x i = bt y i) : x = y := Int32.toBitVec_inj.mp (BitVec.eq_of_getLsbD_eq (fun i hi => h i hi))
theorem b_or (x y : Int32) (i : Nat) : bt (x ||| y) i = (bt x i || bt y i) := by unfold bt; rw [Int32.toBitVec_or, BitVec.getLsbD_or]
theorem b_and (x y : Int32) (i : Nat) : bt (x &&& y) i = (bt x i && bt y i) := by unfold bt; rw [Int32.toBitVec_and, BitVec.getLsbD_and]
theorem b_xor (x y : Int32) (i : Nat) : bt (x ^^^ y) i = (bt x i ^^ bt y i) := by unfold bt; rw [Int32.toBitVec_xor, BitVec.getLsbD_xor]
theorem b_big {x : Int32} {i : Nat} (h : 32 ≤ i) : bt x i = false := BitVec.getLsbD_of_ge _ _ h
theorem b_m1 : ∀ i, i < 32 → bt (-1) i = true := by decide +kernel
theorem b_0 (i : Nat) : bt 0 i = false := BitVec.getLsbD_zero
theorem s_l : ∀ n, n < 32 → ((nI n &&& 31).toBitVec.smod 32).toNat = n := by decide +kernel
theorem b_shl (n : Nat) (hn : n < 32) (x : Int32) {i : Nat} (hi : i < 32) : bt (x <<< (nI n &&& 31)) i = (decide (n ≤ i) && bt x (i - n)) := by
  unfold bt
  rw [Int32.toBitVec_shiftLeft]
  show (x.toBitVec <<< ((nI n &&& 31).toBitVec.smod 32).toNat).getLsbD i = _
  rw [s_l n hn, BitVec.getLsbD_shiftLeft]
  rcases Nat.lt_or_ge i n with h | h
  · simp [h, Nat.not_le.mpr h]
  · simp [hi, h, Nat.not_lt.mpr h]
theorem b_sshr (n : Nat) (hn : n < 32) (x : Int32) {i : Nat} (hi : i < 32) : bt (x >>> (nI n &&& 31)) i = if n + i < 32 then bt x (n + i) else bt x 31 := by
  unfold bt
  rw [Int32.toBitVec_shiftRight]
  show (x.toBitVec.sshiftRight ((nI n &&& 31).toBitVec.smod 32).toNat).getLsbD i = _
  rw [s_l n hn, BitVec.getLsbD_sshiftRight, BitVec.msb_eq_getLsbD_last]
  simp [hi]
/-! what is needed here of bits -/
theorem cb_1 : ∀ i, i < 32 → bt 1 i = decide (i = 0) := by decide +kernel
theorem cb_one {n i : Nat} (hn : n < 32) (hi : i < 32) : bt ((1 : Int32) <<< (nI n &&& 31)) i = decide (i = n) := by
  rw [b_shl n hn _ hi]
  by_cases h : n ≤ i
  · rw [decide_eq_true h, Bool.true_and, cb_1 _ (by omega)]
    by_cases g : i = n
    · rw [decide_eq_true g, decide_eq_true (by omega)]
    · rw [decide_eq_false g, decide_eq_false (by omega)]
  · rw [decide_eq_false h, Bool.false_and, decide_eq_false (by omega)]
theorem cb_not (x : Int32) {i : Nat} (hi : i < 32) : bt (x ^^^ (-1)) i = !bt x i := by
  rw [b_xor, b_m1 i hi, Bool.xor_true]
theorem cb_zero {x : Int32} : x = 0 ↔ ∀ i, i < 32 → bt x i = false := by
  constructor
  · intro h i _
    rw [h, b_0]
  · intro h
    exact b_ext (fun i hi => by rw [h i hi, b_0])
theorem cb_and1 {y : Int32} : y &&& 1 = 0 ↔ bt y 0 = false := by
  rw [cb_zero]
  constructor
  · intro h
    have h1 := h 0 (by omega)
    rw [b_and, cb_1 0 (by omega)] at h1
    simpa using h1
  · intro h i hi
    rw [b_and, cb_1 i hi]
    by_cases g : i = 0
    · rw [g, h]; rfl
    · rw [decide_eq_false g, Bool.and_false]
theorem cb_in {x : Int32} {u : Nat} (hu : u < 32) : cd_in x (nI u) = bt x u := by
  have h := b_sshr u hu x (i := 0) (by omega)
  rw [if_pos (by omega), Nat.add_zero] at h
  unfold cd_in
  cases hb : bt x u with
  | false => exact decide_eq_false (fun n => n (cb_and1.mpr (h.trans hb)))
  | true => exact decide_eq_true (fun n => by rw [cb_and1.mp n] at h; rw [← h] at hb; cases hb)
theorem cb_eq1 {x : Int32} {u : Nat} (hu : u < 32) : (x >>> (nI u &&& 31)) &&& 1 = 1 ↔ bt x u = true := by
  have h := b_sshr u hu x (i := 0) (by omega)
  rw [if_pos (by omega), Nat.add_zero] at h
  rw [← h]
  generalize x >>> (nI u &&& 31) = y
  constructor
  · intro e
    cases hb : bt y 0 with
    | true => rfl
    | false =>
      rw [cb_and1.mpr hb] at e
      exact absurd e (by decide)
  · intro hb
    refine b_ext (fun i hi => ?_)
    rw [b_and, cb_1 i hi]
    by_cases g : i = 0
    · rw [g, hb]; rfl
    · rw [decide_eq_false g, Bool.and_false]
theorem cb_sub {x y : Int32} : x &&& (y ^^^ (-1)) = 0 ↔ ∀ i, i < 32 → bt x i = true → bt y i = true := by
  rw [cb_zero]
  constructor
  · intro h i hi hx
    have := h i hi
    rw [b_and, cb_not y hi, hx] at this
    cases hy : bt y i with
    | true => rfl
    | false => rw [hy] at this; cases this
  · intro h i hi
    rw [b_and, cb_not y hi]
    cases hx : bt x i with
    | false => rfl
    | true => rw [h i hi hx]; rfl
theorem cb_nI {n i : Nat} (hi : i < 32) : bt (nI n) i = n.testBit i := by
  show (BitVec.ofNat 32 n).getLsbD i = _
  rw [BitVec.getLsbD_ofNat, decide_eq_true hi, Bool.true_and]
/-- an int whose bits are among the first k is a small natural number -/
theorem cb_small {x : Int32} {k : Nat} (hk : k ≤ 31) (h : ∀ i, k ≤ i → i < 32 → bt x i = false) : ∃ n, n < 2 ^ k ∧ x = nI n := by
  refine ⟨x.toBitVec.toNat % 2 ^ k, Nat.mod_lt _ (Nat.two_pow_pos k), b_ext (fun i hi => ?_)⟩
  rw [cb_nI hi, Nat.testBit_mod_two_pow]
  by_cases g : i < k
  · rw [decide_eq_true g, Bool.true_and]
    show x.toBitVec.getLsbD i = _
    rw [BitVec.getLsbD_eq_getElem (by omega)]
    simp [BitVec.getElem_eq_testBit_toNat]
  · rw [decide_eq_false g, Bool.false_and, h i (by omega) hi]
theorem cb_hi {n k i : Nat} (hn : n < 2 ^ k) (hk : k ≤ i) (hi : i < 32) : bt (nI n) i = false := by
  rw [cb_nI hi]
  exact Nat.testBit_lt_two_pow (Nat.lt_of_lt_of_le hn (Nat.pow_le_pow_right (by omega) hk))
/-! numbers that stay small -/
theorem cd_addI {a b : Int32} (h1 : -2147483648 ≤ a.toInt + b.toInt) (h2 : a.toInt + b.toInt < 2147483648) : (a + b).toInt = a.toInt + b.toInt := by
  rw [Int32.toInt_add]
  exact Int.bmod_eq_of_le (by omega) (by omega)
theorem cd_subI {a b : Int32} (h1 : -2147483648 ≤ a.toInt - b.toInt) (h2 : a.toInt - b.toInt < 2147483648) : (a - b).toInt = a.toInt - b.toInt := by
  rw [Int32.toInt_sub]
  exact Int.bmod_eq_of_le (by omega) (by omega)
theorem cd_negI {a : Int32} (h1 : -2147483648 < a.toInt) : (-a).toInt = -a.toInt := by
  have := Int32.toInt_lt a
  rw [Int32.toInt_neg]
  exact Int.bmod_eq_of_le (by omega) (by omega)
theorem cd_leI {a b : Int32} : a ≤ b ↔ a.toInt ≤ b.toInt := Int32.le_iff_toInt_le
theorem cd_ltI {a b : Int32} : a < b ↔ a.toInt < b.toInt := Int32.lt_iff_toInt_lt
theorem cd_inj {a b : Int32} (h : a.toInt = b.toInt) : a = b := Int32.toInt_inj.mp h
theorem cd_i8 {w : Int32} (h1 : -128 ≤ w.toInt) (h2 : w.toInt < 128) : w.toInt8.toInt32 = w := by
  apply cd_inj
  rw [Int8.toInt_toInt32, Int32.toInt_toInt8]
  exact Int.bmod_eq_of_le (by omega) (by omega)
theorem cd_i16 {w : Int32} (h1 : -32768 ≤ w.toInt) (h2 : w.toInt < 32768) : w.toInt16.toInt32 = w := by
  apply cd_inj
  rw [Int16.toInt_toInt32, Int32.toInt_toInt16]
  exact Int.bmod_eq_of_le (by omega) (by omega)
theorem cd_le0 {x : Int32} : x ≤ 0 ↔ x.toInt ≤ 0 := cd_leI
theorem cd_ge0 {x : Int32} : 0 ≤ x ↔ 0 ≤ x.toInt := cd_leI
theorem cd_posI {x : Int32} : (cd_pos x).toInt = if x.toInt ≤ 0 then 0 else x.toInt := by
  unfold cd_pos
  by_cases h : x ≤ 0
  · rw [if_pos h, if_pos (cd_le0.mp h)]; rfl
  · rw [if_neg h, if_neg (fun g => h (cd_le0.mpr g))]
theorem cd_negI2 {x : Int32} (hx : -2147483648 < x.toInt) : (cd_neg x).toInt = if 0 ≤ x.toInt then 0 else -x.toInt := by
  unfold cd_neg
  by_cases h : 0 ≤ x
  · rw [if_pos h, if_pos (cd_ge0.mp h)]; rfl
  · rw [if_neg h, if_neg (fun g => h (cd_ge0.mpr g)), cd_negI hx]
end
section
/-! finite sums -/
def cd_sm : Nat → (Nat → Int) → Int
  | 0, _ => 0
  | n + 1, f => cd_sm n f + f n
theorem sm_congr {n : Nat} {f g : Nat → Int} (h : ∀ i, i < n → f i = g i) : cd_sm n f = cd_sm n g := by
  induction n with
  | zero => rfl
  | succ n ih =>
    show cd_sm n f + f n = cd_sm n g + g n
    rw [ih (fun i hi => h i (by omega)), h n (by omega)]
theorem sm_add (n : Nat) (f g : Nat → Int) : cd_sm n (fun i => f i + g i) = cd_sm n f + cd_sm n g := by
  induction n with
  | zero => rfl
  | succ n ih =>
    show cd_sm n _ + (f n + g n) = cd_sm n f + f n + (cd_sm n g + g n)
    rw [ih]; omega
theorem sm_sub (n : Nat) (f g : Nat → Int) : cd_sm n (fun i => f i - g i) = cd_sm n f - cd_sm n g := by
  induction n with
  | zero => rfl
  | succ n ih =>
    show cd_sm n _ + (f n - g n) = cd_sm n f + f n - (cd_sm n g + g n)
    rw [ih]; omega
theorem sm_le {n : Nat} {f g : Nat → Int} (h : ∀ i, i < n → f i ≤ g i) : cd_sm n f ≤ cd_sm n g := by
  induction n with
  | zero => exact Int.le_refl _
  | succ n ih =>
    show cd_sm n f + f n ≤ cd_sm n g + g n
    have h1 := ih (fun i hi => h i (by omega))
    have h2 := h n (by omega)
    omega
theorem sm_zero (n : Nat) : cd_sm n (fun _ => 0) = 0 := by
  induction n with
  | zero => rfl
  | succ n ih => show cd_sm n _ + 0 = 0; rw [ih]; rfl
theorem sm_const (n : Nat) (c : Int) : cd_sm n (fun _ => c) = n * c := by
  induction n with
  | zero => show (0 : Int) = ((0 : Nat) : Int) * c; rw [Int.ofNat_zero, Int.zero_mul]
  | succ n ih =>
    show cd_sm n _ + c = ((n + 1 : Nat) : Int) * c
    rw [ih, Int.natCast_add, Int.add_mul]
    omega
theorem sm_nonneg {n : Nat} {f : Nat → Int} (h : ∀ i, i < n → 0 ≤ f i) : 0 ≤ cd_sm n f := by
  have := sm_le (f := fun _ => 0) h
  rwa [sm_zero] at this
theorem sm_eq0 {n : Nat} {f : Nat → Int} (h : ∀ i, i < n → f i = 0) : cd_sm n f = 0 := by
  rw [sm_congr (g := fun _ => 0) h, sm_zero]
/-- one term is at most the sum of terms that aren't negative -/
theorem sm_term {n : Nat} {f : Nat → Int} (h : ∀ i, i < n → 0 ≤ f i) {k : Nat} (hk : k < n) : f k ≤ cd_sm n f := by
  induction n with
  | zero => omega
  | succ n ih =>
    show f k ≤ cd_sm n f + f n
    by_cases e : k = n
    · have := sm_nonneg (n := n) (f := f) (fun i hi => h i (by omega))
      rw [e]; omega
    · have h1 := ih (fun i hi => h i (by omega)) (by omega)
      have h2 := h n (by omega)
      omega
/-- a change at one place -/
theorem sm_point {n : Nat} {f g : Nat → Int} {k : Nat} (hk : k < n) (h : ∀ i, i < n → i ≠ k → g i = f i) : cd_sm n g = cd_sm n f + (g k - f k) := by
  induction n with
  | zero => omega
  | succ n ih =>
    show cd_sm n g + g n = cd_sm n f + f n + (g k - f k)
    by_cases e : k = n
    · rw [sm_congr (g := f) (fun i hi => h i (by omega) (by omega)), e]; omega
    · rw [ih (by omega) (fun i hi => h i (by omega)), h n (by omega) (fun q => e q.symm)]; omega
/-! counting -/
def cd_cnt (n : Nat) (q : Nat → Bool) : Int := cd_sm n (fun i => if q i then 1 else 0)
theorem cnt_off {n : Nat} {q : Nat → Bool} {k : Nat} (hk : k < n) (h : q k = true) : cd_cnt n q = cd_cnt n (fun i => q i && decide (i ≠ k)) + 1 := by
  unfold cd_cnt
  rw [sm_point (f := fun i => if q i && decide (i ≠ k) then 1 else 0) (g := fun i => if q i then 1 else 0) hk]
  · simp [h]
  · intro i _ hi
    simp [hi]
theorem cnt_inj {N : Nat} (φ : Nat → Nat) : ∀ (M : Nat) (a b : Nat → Bool), (∀ i, i < M → a i = true → φ i < N ∧ b (φ i) = true) → (∀ i j, i < M → j < M → a i = true → a j = true → φ i = φ j → i = j) → cd_cnt M a ≤ cd_cnt N b := by
  intro M
  induction M with
  | zero =>
    intro a b _ _
    exact sm_nonneg (fun i _ => by show (0 : Int) ≤ if b i then 1 else 0; split <;> omega)
  | succ M ih =>
    intro a b h1 h2
    show cd_sm M _ + (if a M then 1 else 0) ≤ _
    cases ha : a M with
    | false =>
      have := ih a b (fun i hi => h1 i (by omega)) (fun i j hi hj => h2 i j (by omega) (by omega))
      simpa [cd_cnt] using this
    | true =>
      obtain ⟨g1, g2⟩ := h1 M (by omega) ha
      rw [cnt_off g1 g2]
      have := ih a (fun i => b i && decide (i ≠ φ M)) (fun i hi hai => by
        obtain ⟨e1, e2⟩ := h1 i (by omega) hai
        refine ⟨e1, ?_⟩
        have hne : φ i ≠ φ M := fun q => by
          have := h2 i M (by omega) (by omega) hai ha q
          omega
        simp [e2, hne]) (fun i j hi hj => h2 i j (by omega) (by omega))
      exact Int.add_le_add_right this 1
theorem cnt_all {n : Nat} {q : Nat → Bool} (h : ∀ i, i < n → q i = true) : cd_cnt n q = n := by
  unfold cd_cnt
  rw [sm_congr (g := fun _ => 1) (fun i hi => by rw [h i hi]; rfl), sm_const]
  omega
theorem cnt_le (n : Nat) (q : Nat → Bool) : cd_cnt n q ≤ n := by
  unfold cd_cnt
  have := sm_le (n := n) (f := fun i => if q i then 1 else 0) (g := fun _ => 1) (fun i _ => by show (if q i then (1 : Int) else 0) ≤ 1; split <;> omega)
  rw [sm_const] at this
  omega
theorem cnt_congr {n : Nat} {a b : Nat → Bool} (h : ∀ i, i < n → a i = b i) : cd_cnt n a = cd_cnt n b := sm_congr (fun i hi => by rw [h i hi])
/-- pigeons: n different numbers below N -/
theorem pigeon {n N : Nat} (φ : Nat → Nat) (h1 : ∀ i, i < n → φ i < N) (h2 : ∀ i j, i < n → j < n → φ i = φ j → i = j) : n ≤ N := by
  have := cnt_inj (N := N) φ n (fun _ => true) (fun _ => true) (fun i hi _ => ⟨h1 i hi, rfl⟩) (fun i j hi hj _ _ => h2 i j hi hj)
  rw [cnt_all (fun _ _ => rfl), cnt_all (fun _ _ => rfl)] at this
  omega
end
section
/-! room left between nodes, and what of it leaves a set of nodes -/
def cd_cut (r : Nat → Int32) (S : Nat → Bool) : Int := cd_sm 11 (fun a => cd_sm 11 (fun b => if S a && !S b then (r (a * 11 + b)).toInt else 0))
theorem cut_upd {r : Nat → Int32} {S : Nat → Bool} {a b : Nat} (x : Int32) (ha : a < 11) (hb : b < 11) : cd_cut (upd r (a * 11 + b) x) S = cd_cut r S + (if S a && !S b then x.toInt - (r (a * 11 + b)).toInt else 0) := by
  unfold cd_cut
  rw [sm_point (f := fun a => cd_sm 11 (fun b => if S a && !S b then (r (a * 11 + b)).toInt else 0)) (k := a) ha]
  · try dsimp only
    rw [sm_point (n := 11) (f := fun j => if S a && !S j then (r (a * 11 + j)).toInt else 0) (g := fun j => if S a && !S j then (upd r (a * 11 + b) x (a * 11 + j)).toInt else 0) (k := b) hb]
    · try dsimp only
      rw [pk_us]
      by_cases h : (S a && !S b) = true
      · rw [if_pos h, if_pos h, if_pos h]; omega
      · rw [if_neg h, if_neg h, if_neg h]; omega
    · intro j hj hne
      try dsimp only
      rw [pk_un (by omega)]
  · intro i hi hne
    refine sm_congr (fun j hj => ?_)
    try dsimp only
    rw [pk_un (by omega)]
theorem cut_push {r : Nat → Int32} {S : Nat → Bool} {a b : Nat} {x y : Int32} {d : Int} (ha : a < 11) (hb : b < 11) (hab : a ≠ b) (h1 : x.toInt = (r (a * 11 + b)).toInt - d) (h2 : y.toInt = (r (b * 11 + a)).toInt + d) : cd_cut (upd (upd r (a * 11 + b) x) (b * 11 + a) y) S = cd_cut r S + (if S b then d else 0) - (if S a then d else 0) := by
  rw [cut_upd y hb ha, cut_upd x ha hb, pk_un (by omega), h1, h2]
  cases S a <;> cases S b <;> simp <;> omega
/-! the search from the source: what is found, along which way -/
def cd_sp (r : Nat → Int32) (fs : Int32) (f g : Nat → Int32) (en : Nat) (L q : Nat → Nat) : Prop :=
  0 < en ∧ L 0 = 9 ∧ q 0 = 0 ∧ (∀ i, i < en → L i < 11 ∧ g i = nI (L i)) ∧ (∀ b, b < 32 → (bt fs b = true ↔ ∃ i, i < en ∧ L i = b)) ∧ (∀ i j, i < en → j < en → L i = L j → i = j) ∧ (∀ i, 0 < i → i < en → q i < i ∧ f (L i) = nI (L (q i)) ∧ 0 < (r (L (q i) * 11 + L i)).toInt)
theorem sp_en {r : Nat → Int32} {fs : Int32} {f g : Nat → Int32} {en : Nat} {L q : Nat → Nat} (h : cd_sp r fs f g en L q) : en ≤ 11 :=
  pigeon L (fun i hi => (h.2.2.2.1 i hi).1) h.2.2.2.2.2.1
theorem cb_512 : ∀ b, b < 32 → bt 512 b = decide (b = 9) := by decide +kernel
theorem sp_0 (r f g : Nat → Int32) : cd_sp r 512 f (upd g 0 9) 1 (fun _ => 9) (fun _ => 0) := by
  refine ⟨by omega, rfl, rfl, fun i hi => ⟨(by decide : (9 : Nat) < 11), ?_⟩, fun b hb => ?_, fun i j hi hj _ => by omega, fun i h0 h1 => by omega⟩
  · have : i = 0 := by omega
    rw [this, pk_us]; rfl
  · rw [cb_512 b hb, decide_eq_true_eq]
    exact ⟨fun e => ⟨0, by omega, e.symm⟩, fun ⟨_, _, e⟩ => e.symm⟩
theorem sp_step {r : Nat → Int32} {fs : Int32} {f g : Nat → Int32} {en : Nat} {L q : Nat → Nat} (h : cd_sp r fs f g en L q) {k b : Nat} (hk : k < en) (hb : b < 11) (hn : bt fs b = false) (hr : 0 < (r (L k * 11 + b)).toInt) :
    cd_sp r (fs ||| ((1 : Int32) <<< (nI b &&& 31))) (upd f b (nI (L k))) (upd g en (nI b)) (en + 1) (fun i => if i = en then b else L i) (fun i => if i = en then k else q i) := by
  obtain ⟨h0, h1, h2, h3, h4, h5, h6⟩ := h
  have hnew : ∀ i, i < en → L i ≠ b := fun i hi e => by
    rw [(h4 b (by omega)).mpr ⟨i, hi, e⟩] at hn
    cases hn
  have hL : ∀ i, i < en → (fun i => if i = en then b else L i) i = L i := fun i hi => if_neg (by omega)
  have hq : ∀ i, i < en → (fun i => if i = en then k else q i) i = q i := fun i hi => if_neg (by omega)
  refine ⟨by omega, by rw [hL 0 h0]; exact h1, by rw [hq 0 h0]; exact h2, fun i hi => ?_, fun c hc => ?_, fun i j hi hj e => ?_, fun i hi0 hi => ?_⟩
  · by_cases e : i = en
    · subst e
      simp only [if_true]
      exact ⟨hb, pk_us⟩
    · rw [hL i (by omega), pk_un e]
      exact h3 i (by omega)
  · rw [b_or, cb_one (by omega) hc, Bool.or_eq_true, h4 c hc, decide_eq_true_eq]
    constructor
    · rintro (⟨i, hi, e⟩ | e)
      · exact ⟨i, by omega, by rw [hL i hi]; exact e⟩
      · exact ⟨en, by omega, by simp only [if_true]; exact e.symm⟩
    · rintro ⟨i, hi, e⟩
      by_cases g : i = en
      · subst g
        simp only [if_true] at e
        exact Or.inr e.symm
      · rw [hL i (by omega)] at e
        exact Or.inl ⟨i, by omega, e⟩
  · by_cases e1 : i = en <;> by_cases e2 : j = en
    · omega
    · subst e1
      rw [hL j (by omega)] at e
      simp only [if_true] at e
      exact absurd e.symm (hnew j (by omega))
    · subst e2
      rw [hL i (by omega)] at e
      simp only [if_true] at e
      exact absurd e (hnew i (by omega))
    · rw [hL i (by omega), hL j (by omega)] at e
      exact h5 i j (by omega) (by omega) e
  · by_cases e : i = en
    · subst e
      simp only [if_true]
      rw [if_neg (by omega)]
      exact ⟨hk, pk_us, hr⟩
    · have hi' : i < en := by omega
      obtain ⟨g1, g2, g3⟩ := h6 i hi0 hi'
      rw [hq i hi', hL i hi', hL (q i) (by omega), pk_un (hnew i hi')]
      exact ⟨g1, g2, g3⟩
/-- the rooms of the nodes that have been looked from are seen through -/
def cd_pr (r : Nat → Int32) (fs : Int32) (L : Nat → Nat) (k : Nat) : Prop := ∀ i, i < k → ∀ b, b < 11 → 0 < (r (L i * 11 + b)).toInt → bt fs b = true
def cd_pb (r : Nat → Int32) (fs : Int32) (a j : Nat) : Prop := ∀ b, b < j → 0 < (r (a * 11 + b)).toInt → bt fs b = true
def cd_so (r : Nat → Int32) (fs : Int32) (f g : Nat → Int32) (en : Nat) (L q : Nat → Nat) (k : Nat) : Prop := cd_sp r fs f g en L q ∧ k ≤ en ∧ cd_pr r fs L k
def cd_si (r : Nat → Int32) (fs : Int32) (f g : Nat → Int32) (en : Nat) (L q : Nat → Nat) (k a j : Nat) : Prop := cd_sp r fs f g en L q ∧ k < en ∧ L k = a ∧ cd_pr r fs L k ∧ cd_pb r fs a j
section SI
variable {r : Nat → Int32} {fs : Int32} {f g : Nat → Int32} {en : Nat} {L q : Nat → Nat} {k a j : Nat}
theorem so_0 (r f g : Nat → Int32) : cd_so r 512 f (upd g 0 9) 1 (fun _ => 9) (fun _ => 0) 0 := ⟨sp_0 r f g, by omega, fun i hi => absurd hi (Nat.not_lt_zero i)⟩
theorem so_in (h : cd_so r fs f g en L q k) (hk : k < en) : cd_si r fs f g en L q k (L k) 0 := ⟨h.1, hk, rfl, h.2.2, fun b hb => absurd hb (Nat.not_lt_zero b)⟩
theorem si_skip1 (h : cd_si r fs f g en L q k a j) (hj : bt fs j = true) : cd_si r fs f g en L q k a (j + 1) :=
  ⟨h.1, h.2.1, h.2.2.1, h.2.2.2.1, fun b hb hr => by
    by_cases e : b = j
    · rw [e]; exact hj
    · exact h.2.2.2.2 b (by omega) hr⟩
theorem si_skip2 (h : cd_si r fs f g en L q k a j) (hj : ¬ 0 < (r (a * 11 + j)).toInt) : cd_si r fs f g en L q k a (j + 1) :=
  ⟨h.1, h.2.1, h.2.2.1, h.2.2.2.1, fun b hb hr => by
    by_cases e : b = j
    · rw [e] at hr; exact absurd hr hj
    · exact h.2.2.2.2 b (by omega) hr⟩
theorem si_add (h : cd_si r fs f g en L q k a j) (hj : j < 11) (hn : bt fs j = false) (hr : 0 < (r (a * 11 + j)).toInt) :
    cd_si r (fs ||| ((1 : Int32) <<< (nI j &&& 31))) (upd f j (nI a)) (upd g en (nI j)) (en + 1) (fun i => if i = en then j else L i) (fun i => if i = en then k else q i) k a (j + 1) := by
  obtain ⟨h1, h2, h3, h4, h5⟩ := h
  subst h3
  have hsub : ∀ b, b < 32 → bt fs b = true → bt (fs ||| ((1 : Int32) <<< (nI j &&& 31))) b = true := fun b _ hb => by rw [b_or, hb]; rfl
  refine ⟨sp_step h1 h2 hj hn hr, by omega, if_neg (by omega), fun i hi b hb hr2 => ?_, fun b hb hr2 => ?_⟩
  · have e : (fun i => if i = en then j else L i) i = L i := if_neg (by omega)
    rw [e] at hr2
    exact hsub b (by omega) (h4 i hi b hb hr2)
  · by_cases e : b = j
    · rw [e, b_or, cb_one (by omega) (by omega), decide_eq_true rfl, Bool.or_true]
    · exact hsub b (by omega) (h5 b (by omega) hr2)
theorem si_done (h : cd_si r fs f g en L q k a 11) : cd_so r fs f g en L q (k + 1) := by
  obtain ⟨h1, h2, h3, h4, h5⟩ := h
  refine ⟨h1, h2, fun i hi b hb hr => ?_⟩
  by_cases e : i = k
  · rw [e, h3] at hr
    exact h5 b hb hr
  · exact h4 i (by omega) b hb hr
/-- all is seen through -/
theorem so_end (h : cd_so r fs f g en L q k) (hk : en ≤ k) : ∀ a b, a < 11 → b < 11 → bt fs a = true → 0 < (r (a * 11 + b)).toInt → bt fs b = true := by
  intro a b ha hb hfa hr
  obtain ⟨i, hi, e⟩ := (h.1.2.2.2.2.1 a (by omega)).mp hfa
  rw [← e] at hr
  exact h.2.2 i (by omega) b hb hr
end SI
/-! sending along the way that was found -/
def cd_ri (r : Nat → Int32) : Prop := ∀ a b, a < 11 → b < 11 → 0 ≤ (r (a * 11 + b)).toInt ∧ (r (a * 11 + b)).toInt + (r (b * 11 + a)).toInt ≤ 4194304
def cd_itq (q : Nat → Nat) : Nat → Nat → Nat
  | 0, i => i
  | t + 1, i => cd_itq q t (q i)
theorem itq_0 {q : Nat → Nat} (h : q 0 = 0) : ∀ t, cd_itq q t 0 = 0 := by
  intro t
  induction t with
  | zero => rfl
  | succ t ih => show cd_itq q t (q 0) = 0; rw [h]; exact ih
/-- z is at most every room on the way from place i of the line back to the source -/
def cd_pl (r : Nat → Int32) (L q : Nat → Nat) (z : Int) (i : Nat) : Prop := ∀ t, 0 < cd_itq q t i → z ≤ (r (L (q (cd_itq q t i)) * 11 + L (cd_itq q t i))).toInt
theorem pl_0 {r : Nat → Int32} {L q : Nat → Nat} {z : Int} (h : q 0 = 0) : cd_pl r L q z 0 := fun t ht => by rw [itq_0 h] at ht; omega
theorem pl_s {r : Nat → Int32} {L q : Nat → Nat} {z : Int} {i : Nat} (h1 : z ≤ (r (L (q i) * 11 + L i)).toInt) (h2 : cd_pl r L q z (q i)) : cd_pl r L q z i := by
  intro t ht
  cases t with
  | zero => exact h1
  | succ t => exact h2 t ht
theorem pl_t {r : Nat → Int32} {L q : Nat → Nat} {z : Int} {i : Nat} (h : cd_pl r L q z i) : cd_pl r L q z (q i) := fun t ht => h (t + 1) ht
def cd_p2 (r r' : Nat → Int32) (L q : Nat → Nat) (d : Int) (i : Nat) : Prop :=
  (∀ a b, a < 11 → b < 11 → 0 ≤ (r' (a * 11 + b)).toInt ∧ (r' (a * 11 + b)).toInt + (r' (b * 11 + a)).toInt = (r (a * 11 + b)).toInt + (r (b * 11 + a)).toInt) ∧ (∀ S : Nat → Bool, S 10 = false → cd_cut r' S = cd_cut r S - (if S (L i) then d else 0)) ∧ (∀ x, 0 < x → x ≤ i → r' (L (q x) * 11 + L x) = r (L (q x) * 11 + L x)) ∧ cd_pl r L q d i
def cd_pu (r r' : Nat → Int32) (z : Int32) : Prop := 0 < z.toInt ∧ (∀ a b, a < 11 → b < 11 → 0 ≤ (r' (a * 11 + b)).toInt ∧ (r' (a * 11 + b)).toInt + (r' (b * 11 + a)).toInt = (r (a * 11 + b)).toInt + (r (b * 11 + a)).toInt) ∧ (∀ S : Nat → Bool, S 9 = true → S 10 = false → cd_cut r' S = cd_cut r S - z.toInt)
theorem p2_0 {r : Nat → Int32} {L q : Nat → Nat} {d : Int} {i : Nat} (hr : cd_ri r) (h10 : L i = 10) (hp : cd_pl r L q d i) : cd_p2 r r L q d i := by
  refine ⟨fun a b ha hb => ⟨(hr a b ha hb).1, rfl⟩, fun S hS => ?_, fun _ _ _ => rfl, hp⟩
  rw [h10, hS]
  simp
theorem p2_step {r r' : Nat → Int32} {fs : Int32} {f g : Nat → Int32} {en : Nat} {L q : Nat → Nat} {d : Int32} {i a b : Nat} (hsp : cd_sp r fs f g en L q) (hri : cd_ri r) (hd : 0 < d.toInt) (hi0 : 0 < i) (hi : i < en) (ea : a = L (q i)) (eb : b = L i) (h : cd_p2 r r' L q d.toInt i) :
    cd_p2 r (upd (upd r' (a * 11 + b) (r' (a * 11 + b) - d)) (b * 11 + a) (upd r' (a * 11 + b) (r' (a * 11 + b) - d) (b * 11 + a) + d)) L q d.toInt (q i) := by
  obtain ⟨h1, h2, h3, h4⟩ := h
  obtain ⟨g1, g2, g3⟩ := hsp.2.2.2.2.2.2 i hi0 hi
  have ha : a < 11 := by rw [ea]; exact (hsp.2.2.2.1 (q i) (by omega)).1
  have hb : b < 11 := by rw [eb]; exact (hsp.2.2.2.1 i hi).1
  have hab : a ≠ b := fun e => by
    have := hsp.2.2.2.2.2.1 (q i) i (by omega) hi (by rw [← ea, ← eb]; exact e)
    omega
  have hle : d.toInt ≤ (r' (a * 11 + b)).toInt := by
    have := h4 0 hi0
    rw [ea, eb, h3 i hi0 (by omega)]
    exact this
  have hba : b * 11 + a ≠ a * 11 + b := by omega
  obtain ⟨k1, k2⟩ := h1 a b ha hb
  obtain ⟨k3, k4⟩ := h1 b a hb ha
  have k5 := (hri a b ha hb).2
  have e1 : (r' (a * 11 + b) - d).toInt = (r' (a * 11 + b)).toInt - d.toInt := cd_subI (by omega) (by omega)
  have e2 : (r' (b * 11 + a) + d).toInt = (r' (b * 11 + a)).toInt + d.toInt := cd_addI (by omega) (by omega)
  rw [pk_un hba]
  refine ⟨fun a2 b2 ha2 hb2 => ?_, fun S hS => ?_, fun x hx0 hx => ?_, pl_t h4⟩
  · have v : ∀ a2 b2, a2 < 11 → b2 < 11 → (upd (upd r' (a * 11 + b) (r' (a * 11 + b) - d)) (b * 11 + a) (r' (b * 11 + a) + d) (a2 * 11 + b2)).toInt = (r' (a2 * 11 + b2)).toInt + (if a2 = b ∧ b2 = a then d.toInt else 0) - (if a2 = a ∧ b2 = b then d.toInt else 0) := by
      intro a2 b2 ha2 hb2
      by_cases c1 : a2 = b ∧ b2 = a
      · obtain ⟨rfl, rfl⟩ := c1
        rw [pk_us, e2, if_pos ⟨rfl, rfl⟩, if_neg (fun q => hab q.2)]
        omega
      · rw [pk_un (fun e => c1 (by omega)), if_neg c1]
        by_cases c2 : a2 = a ∧ b2 = b
        · obtain ⟨rfl, rfl⟩ := c2
          rw [pk_us, e1, if_pos ⟨rfl, rfl⟩]
          omega
        · rw [pk_un (fun e => c2 (by omega)), if_neg c2]
          omega
    have m1 := h1 a2 b2 ha2 hb2
    rw [v a2 b2 ha2 hb2, v b2 a2 hb2 ha2]
    by_cases c1 : a2 = b ∧ b2 = a
    · obtain ⟨rfl, rfl⟩ := c1
      simp only [and_self, if_true]
      rw [if_neg (fun q => hab q.2), if_neg (fun q => hab q.1)]
      omega
    · by_cases c2 : a2 = a ∧ b2 = b
      · obtain ⟨rfl, rfl⟩ := c2
        simp only [and_self, if_true]
        rw [if_neg (fun q => hab q.1), if_neg (fun q => hab q.2)]
        omega
      · rw [if_neg c1, if_neg c2, if_neg (fun q => c2 ⟨q.2, q.1⟩), if_neg (fun q => c1 ⟨q.2, q.1⟩)]
        omega
  · rw [cut_push ha hb hab e1 e2, h2 S hS, ← eb, ← ea]
    omega
  · have c1 : L x ≠ L i := fun e => by
      have := hsp.2.2.2.2.2.1 x i (by omega) hi e
      omega
    have hLx := (hsp.2.2.2.1 x (by omega)).1
    have hqx := (hsp.2.2.2.2.2.2 x hx0 (by omega)).1
    have hLq := (hsp.2.2.2.1 (q x) (by omega)).1
    have c2 : L (q x) ≠ L i := fun e => by
      have := hsp.2.2.2.2.2.1 (q x) i (by omega) hi e
      omega
    rw [pk_un (by omega), pk_un (by omega)]
    exact h3 x hx0 (by omega)
theorem p2_end {r r' : Nat → Int32} {L q : Nat → Nat} {d : Int32} {i : Nat} (hd : 0 < d.toInt) (h9 : L i = 9) (h : cd_p2 r r' L q d.toInt i) : cd_pu r r' d := by
  refine ⟨hd, h.1, fun S h1 h2 => ?_⟩
  rw [h.2.1 S h2, h9, h1]
  simp
theorem cd_b8 : ∀ a, a < 12 → (nI a).toInt8.toInt32 = nI a := by decide +kernel
theorem cd_nb {a : Nat} (h : a < 12) : vp_nar .byte (nI a) = nI a := by rw [vp_nar_byte]; exact cd_b8 a h
def cd_sprP (σ : cd_D) (z : Int32) (τ : cd_D) : Prop := ∃ (fs : Int32) (f g : Nat → Int32) (en : Nat) (L q : Nat → Nat), τ = sL (sF (sS σ fs) f) g ∧ cd_sp (gR σ) fs f g en L q ∧ (∀ a b, a < 11 → b < 11 → bt fs a = true → 0 < (gR σ (a * 11 + b)).toInt → bt fs b = true) ∧ z = cd_zb (bt fs 10)
def cd_pusP (σ : cd_D) (z : Int32) (τ : cd_D) : Prop := ∃ r' : Nat → Int32, τ = sR σ r' ∧ cd_pu (gR σ) r' z
end
section
/-! the greatest flow: what the rooms say of every set, from the first room on -/
def cd_wor (k : Nat → Int32) (S : Nat → Bool) : Int := cd_sm 9 (fun u => if S u then (k u).toInt else 0)
def cd_vio (n : Nat → Int32) (S : Nat → Bool) : Int := cd_sm 9 (fun a => cd_sm 9 (fun b => if S a && !S b then (if bt (n a) b then 1048576 else 0) else 0))
def cd_cs (P : Int32) (S : Nat → Bool) : Prop := S 9 = true ∧ S 10 = false ∧ ∀ u, u < 9 → S u = true → bt P u = true
def cd_soI (P : Int32) (n k r : Nat → Int32) (x : Int32) : Prop := cd_ri r ∧ (∀ u a, u < 9 → a < 11 → bt P u = false → (r (u * 11 + a)).toInt + (r (a * 11 + u)).toInt = 0) ∧ ∀ S, cd_cs P S → cd_cut r S = x.toInt - cd_wor k S + cd_vio n S
def cd_tot (P : Int32) (k : Nat → Int32) (m : Nat) : Int := cd_sm m (fun u => if bt P u then (cd_pos (k u)).toInt else 0)
theorem cut_nonneg {r : Nat → Int32} (h : cd_ri r) (S : Nat → Bool) : 0 ≤ cd_cut r S := by
  refine sm_nonneg (fun a ha => sm_nonneg (fun b hb => ?_))
  show (0 : Int) ≤ if S a && !S b then (r (a * 11 + b)).toInt else 0
  split
  · exact (h a b ha hb).1
  · exact Int.le_refl 0
/-- the empty set -/
def cd_e0 : Nat → Bool := fun u => decide (u = 9)
theorem e0_cs (P : Int32) : cd_cs P cd_e0 := ⟨rfl, rfl, fun u hu h => by
  have : u = 9 := of_decide_eq_true h
  omega⟩
theorem e0_wor (k : Nat → Int32) : cd_wor k cd_e0 = 0 := sm_eq0 (fun u hu => by
  show (if cd_e0 u then (k u).toInt else 0) = 0
  rw [show cd_e0 u = false from decide_eq_false (by omega)]
  rfl)
theorem e0_vio (n : Nat → Int32) : cd_vio n cd_e0 = 0 := sm_eq0 (fun a ha => sm_eq0 (fun b _ => by
  show (if cd_e0 a && !cd_e0 b then _ else (0 : Int)) = 0
  rw [show cd_e0 a = false from decide_eq_false (by omega)]
  rfl))
theorem soI_low {P : Int32} {n k r : Nat → Int32} {x : Int32} (h : cd_soI P n k r x) {S : Nat → Bool} (hS : cd_cs P S) (hv : cd_vio n S = 0) : cd_wor k S ≤ x.toInt := by
  have h1 := h.2.2 S hS
  have h2 := cut_nonneg h.1 S
  omega
theorem soI_nn {P : Int32} {n k r : Nat → Int32} {x : Int32} (h : cd_soI P n k r x) : 0 ≤ x.toInt := by
  have := soI_low h (e0_cs P) (e0_vio n)
  rwa [e0_wor] at this
theorem soI_push {P : Int32} {n k r r' : Nat → Int32} {x z : Int32} (h : cd_soI P n k r x) (hp : cd_pu r r' z) : cd_soI P n k r' (x - z) ∧ (x - z).toInt = x.toInt - z.toInt := by
  obtain ⟨h1, h2, h3⟩ := h
  obtain ⟨p1, p2, p3⟩ := hp
  have hri : cd_ri r' := fun a b ha hb => ⟨(p2 a b ha hb).1, by rw [(p2 a b ha hb).2]; exact (h1 a b ha hb).2⟩
  have e0 := p3 cd_e0 rfl rfl
  have c0 := cut_nonneg hri cd_e0
  have d0 := h3 cd_e0 (e0_cs P)
  rw [e0_wor, e0_vio] at d0
  have hx := Int32.toInt_lt x
  have hxz : (x - z).toInt = x.toInt - z.toInt := cd_subI (by omega) (by omega)
  refine ⟨⟨hri, fun u a hu ha hP => ?_, fun S hS => ?_⟩, hxz⟩
  · rw [(p2 u a (by omega) ha).2]
    exact h2 u a hu ha hP
  · rw [p3 S hS.1 hS.2.1, h3 S hS, hxz]
    omega
/-! the first room -/
theorem it_i0 (r : Nat → Int32) : ∀ m q, cd_it cd_i0 m r q = if q < m then 0 else r q := by
  intro m
  induction m with
  | zero => intro q; rw [if_neg (by omega)]; rfl
  | succ m ih =>
    intro q
    rw [cd_it_s]
    unfold cd_i0
    by_cases h : q = m
    · rw [h, pk_us, if_pos (by omega)]
    · rw [pk_un h]
      have := ih q
      unfold cd_i0 at this
      rw [this]
      by_cases g : q < m
      · rw [if_pos g, if_pos (by omega)]
      · rw [if_neg g, if_neg (by omega)]
theorem it_i1 (n : Nat → Int32) (u : Nat) (r : Nat → Int32) : ∀ m, m ≤ 9 → ∀ q, cd_it (cd_i1 n u) m r q = if u * 11 ≤ q ∧ q < u * 11 + m then (if bt (n u) (q - u * 11) then 1048576 else 0) else r q := by
  intro m
  induction m with
  | zero => intro _ q; rw [if_neg (by omega)]; rfl
  | succ m ih =>
    intro hm q
    rw [cd_it_s]
    show upd (cd_it (cd_i1 n u) m r) (u * 11 + m) (if cd_in (n u) (nI m) then 1048576 else 0) q = _
    by_cases h : q = u * 11 + m
    · rw [h, pk_us, cb_in (by omega), if_pos (c := u * 11 ≤ u * 11 + m ∧ u * 11 + m < u * 11 + (m + 1)) (by omega), show u * 11 + m - u * 11 = m by omega]
    · rw [pk_un h, ih (by omega) q]
      by_cases g : u * 11 ≤ q ∧ q < u * 11 + m
      · rw [if_pos g, if_pos (c := u * 11 ≤ q ∧ q < u * 11 + (m + 1)) (by omega)]
      · rw [if_neg g, if_neg (c := u * 11 ≤ q ∧ q < u * 11 + (m + 1)) (by omega)]
/-- the first room between two nodes, when the first m undertakings have been laid -/
def cd_re (P : Int32) (n k : Nat → Int32) (m a b : Nat) : Int32 :=
  if a < 9 ∧ b < 9 then (if a < m ∧ bt P a = true then (if bt (n a) b then 1048576 else 0) else 0)
  else if a = 9 ∧ b < 9 then (if b < m ∧ bt P b = true then cd_pos (k b) else 0)
  else if a < 9 ∧ b = 10 then (if a < m ∧ bt P a = true then cd_neg (k a) else 0) else 0
theorem ini_room (P : Int32) (n k r : Nat → Int32) : ∀ m, m ≤ 9 → ∀ a b, a < 11 → b < 11 → (cd_it (cd_i2 P n k) m (0, cd_it cd_i0 121 r)).2 (a * 11 + b) = cd_re P n k m a b := by
  intro m
  induction m with
  | zero =>
    intro _ a b ha hb
    show cd_it cd_i0 121 r (a * 11 + b) = _
    rw [it_i0, if_pos (by omega)]
    unfold cd_re
    simp
  | succ m ih =>
    intro hm a b ha hb
    have ih := ih (by omega) a b ha hb
    rw [cd_it_s]
    generalize cd_it (cd_i2 P n k) m (0, cd_it cd_i0 121 r) = y at ih ⊢
    unfold cd_i2
    rw [cd_has_n (by omega), cb_in (by omega)]
    cases hp : bt P m with
    | false =>
      show y.2 (a * 11 + b) = _
      rw [ih]
      unfold cd_re
      have e1 : ∀ c : Nat, (c < m + 1 ∧ bt P c = true) ↔ (c < m ∧ bt P c = true) := fun c => by
        constructor
        · rintro ⟨h1, h2⟩
          refine ⟨?_, h2⟩
          rcases Nat.lt_or_ge c m with h | h
          · exact h
          · have : c = m := by omega
            rw [this, hp] at h2
            cases h2
        · rintro ⟨h1, h2⟩
          exact ⟨by omega, h2⟩
      simp only [e1]
    | true =>
      show cd_it (cd_i1 n m) 9 (upd (upd y.2 (99 + m) (cd_pos (k m))) (m * 11 + 10) (cd_neg (k m))) (a * 11 + b) = _
      rw [it_i1 n m _ 9 (by omega)]
      by_cases c1 : a = m ∧ b < 9
      · obtain ⟨rfl, hb9⟩ := c1
        rw [if_pos (c := a * 11 ≤ a * 11 + b ∧ a * 11 + b < a * 11 + 9) (by omega), show a * 11 + b - a * 11 = b by omega]
        unfold cd_re
        rw [if_pos (c := a < 9 ∧ b < 9) ⟨by omega, hb9⟩, if_pos (c := a < a + 1 ∧ bt P a = true) ⟨by omega, hp⟩]
      · rw [if_neg (by omega)]
        by_cases c2 : a = m ∧ b = 10
        · obtain ⟨rfl, rfl⟩ := c2
          rw [pk_us]
          unfold cd_re
          rw [if_neg (by omega), if_neg (by omega), if_pos ⟨by omega, rfl⟩, if_pos ⟨by omega, hp⟩]
        · rw [pk_un (by omega)]
          by_cases c3 : a = 9 ∧ b = m
          · obtain ⟨rfl, rfl⟩ := c3
            rw [show 9 * 11 + b = 99 + b by omega, pk_us]
            unfold cd_re
            rw [if_neg (by omega), if_pos ⟨rfl, by omega⟩, if_pos ⟨by omega, hp⟩]
          · rw [pk_un (by omega), ih]
            unfold cd_re
            by_cases d1 : a < 9 ∧ b < 9
            · rw [if_pos d1, if_pos d1]
              have e : (a < m + 1 ∧ bt P a = true) ↔ (a < m ∧ bt P a = true) := ⟨fun h => ⟨by omega, h.2⟩, fun h => ⟨by omega, h.2⟩⟩
              simp only [e]
            · rw [if_neg d1, if_neg d1]
              by_cases d2 : a = 9 ∧ b < 9
              · rw [if_pos d2, if_pos d2]
                have e : (b < m + 1 ∧ bt P b = true) ↔ (b < m ∧ bt P b = true) := ⟨fun h => ⟨by omega, h.2⟩, fun h => ⟨by omega, h.2⟩⟩
                simp only [e]
              · rw [if_neg d2, if_neg d2]
                by_cases d3 : a < 9 ∧ b = 10
                · rw [if_pos d3, if_pos d3]
                  have e : (a < m + 1 ∧ bt P a = true) ↔ (a < m ∧ bt P a = true) := ⟨fun h => ⟨by omega, h.2⟩, fun h => ⟨by omega, h.2⟩⟩
                  simp only [e]
                · rw [if_neg d3, if_neg d3]
theorem ini_sum (P : Int32) (n k r : Nat → Int32) (hb : ∀ u, u < 9 → -1000 ≤ (k u).toInt ∧ (k u).toInt ≤ 1000) : ∀ m, m ≤ 9 → (cd_it (cd_i2 P n k) m (0, cd_it cd_i0 121 r)).1.toInt = cd_tot P k m ∧ 0 ≤ cd_tot P k m ∧ cd_tot P k m ≤ 1000 * m := by
  intro m
  induction m with
  | zero => intro _; exact ⟨rfl, Int.le_refl _, Int.le_refl _⟩
  | succ m ih =>
    intro hm
    obtain ⟨i1, i2, i3⟩ := ih (by omega)
    rw [cd_it_s]
    generalize cd_it (cd_i2 P n k) m (0, cd_it cd_i0 121 r) = y at i1 ⊢
    have hbm := hb m (by omega)
    have hpos : 0 ≤ (cd_pos (k m)).toInt ∧ (cd_pos (k m)).toInt ≤ 1000 := by
      rw [cd_posI]
      split <;> omega
    have e : cd_tot P k (m + 1) = cd_tot P k m + (if bt P m then (cd_pos (k m)).toInt else 0) := rfl
    rw [e]
    unfold cd_i2
    rw [cd_has_n (by omega), cb_in (by omega)]
    cases hp : bt P m with
    | false =>
      simp only [Bool.false_eq_true, if_false]
      refine ⟨by omega, by omega, by omega⟩
    | true =>
      simp only [if_true]
      refine ⟨?_, by omega, by omega⟩
      rw [cd_addI (by omega) (by omega), i1]
theorem cd_neg_b {x : Int32} (h : -1000 ≤ x.toInt ∧ x.toInt ≤ 1000) : 0 ≤ (cd_neg x).toInt ∧ (cd_neg x).toInt ≤ 1000 ∧ (cd_neg x).toInt = (cd_pos x).toInt - x.toInt := by
  rw [cd_negI2 (by omega), cd_posI]
  split <;> split <;> omega
theorem cd_pos_b {x : Int32} (h : -1000 ≤ x.toInt ∧ x.toInt ≤ 1000) : 0 ≤ (cd_pos x).toInt ∧ (cd_pos x).toInt ≤ 1000 := by
  rw [cd_posI]
  split <;> omega
theorem re_b {P : Int32} {n k : Nat → Int32} (hb : ∀ u, u < 9 → -1000 ≤ (k u).toInt ∧ (k u).toInt ≤ 1000) (a b : Nat) : 0 ≤ (cd_re P n k 9 a b).toInt ∧ (cd_re P n k 9 a b).toInt ≤ 1048576 := by
  have z0 : (0 : Int32).toInt = 0 := rfl
  have z1 : (1048576 : Int32).toInt = 1048576 := rfl
  unfold cd_re
  split
  · split
    · split <;> omega
    · omega
  · split
    · split
      · have := cd_pos_b (hb b (by omega)); omega
      · omega
    · split
      · split
        · have := cd_neg_b (hb a (by omega)); omega
        · omega
      · omega
theorem re_src {P : Int32} {n k : Nat → Int32} {b : Nat} (h : b < 9) : cd_re P n k 9 9 b = if bt P b then cd_pos (k b) else 0 := by
  unfold cd_re
  rw [if_neg (c := 9 < 9 ∧ b < 9) (by omega), if_pos (c := 9 = 9 ∧ b < 9) ⟨rfl, h⟩]
  cases hp : bt P b with
  | true => rw [if_pos (c := b < 9 ∧ true = true) ⟨h, rfl⟩]; rfl
  | false => rw [if_neg (c := b < 9 ∧ false = true) (fun q => by cases q.2)]; rfl
theorem re_snk {P : Int32} {n k : Nat → Int32} {a : Nat} (h : a < 9) : cd_re P n k 9 a 10 = if bt P a then cd_neg (k a) else 0 := by
  unfold cd_re
  rw [if_neg (c := a < 9 ∧ 10 < 9) (by omega), if_neg (c := a = 9 ∧ 10 < 9) (by omega), if_pos (c := a < 9 ∧ 10 = 10) ⟨h, rfl⟩]
  cases hp : bt P a with
  | true => rw [if_pos (c := a < 9 ∧ true = true) ⟨h, rfl⟩]; rfl
  | false => rw [if_neg (c := a < 9 ∧ false = true) (fun q => by cases q.2)]; rfl
theorem re_need {P : Int32} {n k : Nat → Int32} {a b : Nat} (h : a < 9) (g : b < 9) : cd_re P n k 9 a b = if bt P a then (if bt (n a) b then 1048576 else 0) else 0 := by
  unfold cd_re
  rw [if_pos (c := a < 9 ∧ b < 9) ⟨h, g⟩]
  cases hp : bt P a with
  | true => rw [if_pos (c := a < 9 ∧ true = true) ⟨h, rfl⟩]; rfl
  | false => rw [if_neg (c := a < 9 ∧ false = true) (fun q => by cases q.2)]; rfl
theorem soI_0 {P : Int32} {n k r : Nat → Int32} (hb : ∀ u, u < 9 → -1000 ≤ (k u).toInt ∧ (k u).toInt ≤ 1000) (hN : ∀ a b, a < 9 → b < 9 → bt (n a) b = true → bt P b = true) : cd_soI P n k (cd_ini P n k r).2 (cd_ini P n k r).1 := by
  have hr := ini_room P n k r 9 (by omega)
  have hs := ini_sum P n k r hb 9 (by omega)
  change ∀ a b, a < 11 → b < 11 → (cd_ini P n k r).2 (a * 11 + b) = cd_re P n k 9 a b at hr
  change (cd_ini P n k r).1.toInt = cd_tot P k 9 ∧ _ at hs
  generalize (cd_ini P n k r).2 = R at hr ⊢
  generalize (cd_ini P n k r).1 = x at hs ⊢
  refine ⟨fun a b ha hb2 => ?_, fun u a hu ha hP => ?_, fun S hS => ?_⟩
  · rw [hr a b ha hb2, hr b a hb2 ha]
    have h1 := re_b (P := P) (n := n) hb a b
    have h2 := re_b (P := P) (n := n) hb b a
    omega
  · rw [hr u a (by omega) ha, hr a u ha (by omega)]
    have z1 : cd_re P n k 9 u a = 0 := by
      unfold cd_re
      split
      · rw [if_neg (fun q => by rw [hP] at q; cases q.2)]
      · rw [if_neg (by omega)]
        split
        · rw [if_neg (fun q => by rw [hP] at q; cases q.2)]
        · rfl
    have z2 : cd_re P n k 9 a u = 0 := by
      unfold cd_re
      split
      · split
        · rename_i g1 g2
          have : bt (n a) u = false := by
            cases hq : bt (n a) u with
            | false => rfl
            | true => rw [hN a u g1.1 hu hq] at hP; cases hP
          rw [this]
          rfl
        · rfl
      · split
        · rw [if_neg (fun q => by rw [hP] at q; cases q.2)]
        · rw [if_neg (by omega)]
    rw [z1, z2]
    rfl
  · obtain ⟨s9, s10, sP⟩ := hS
    have e : cd_cut R S = cd_sm 9 (fun a => cd_sm 9 (fun b => if S a && !S b then (if bt (n a) b then 1048576 else 0) else 0) + (if S a then (cd_neg (k a)).toInt else 0)) + cd_sm 9 (fun b => if S b then 0 else if bt P b then (cd_pos (k b)).toInt else 0) := by
      show cd_sm 9 _ + _ + _ = _
      have r10 : cd_sm 11 (fun b => if S 10 && !S b then (R (10 * 11 + b)).toInt else 0) = 0 := sm_eq0 (fun b _ => by rw [s10]; rfl)
      have r9 : cd_sm 11 (fun b => if S 9 && !S b then (R (9 * 11 + b)).toInt else 0) = cd_sm 9 (fun b => if S b then 0 else if bt P b then (cd_pos (k b)).toInt else 0) := by
        show cd_sm 9 (fun b => if S 9 && !S b then (R (9 * 11 + b)).toInt else 0) + (if S 9 && !S 9 then (R (9 * 11 + 9)).toInt else 0) + (if S 9 && !S 10 then (R (9 * 11 + 10)).toInt else 0) = _
        rw [s9, s10, hr 9 10 (by omega) (by omega)]
        have : cd_re P n k 9 9 10 = 0 := rfl
        rw [this, sm_congr (g := fun b => if S b then 0 else if bt P b then (cd_pos (k b)).toInt else 0) (fun b hb2 => by
          rw [hr 9 b (by omega) (by omega), re_src hb2]
          cases S b <;> cases bt P b <;> rfl)]
        simp
      try dsimp only
      rw [r10, r9, Int.add_zero]
      congr 1
      refine sm_congr (fun a ha => ?_)
      try dsimp only
      show cd_sm 9 (fun b => if S a && !S b then (R (a * 11 + b)).toInt else 0) + (if S a && !S 9 then (R (a * 11 + 9)).toInt else 0) + (if S a && !S 10 then (R (a * 11 + 10)).toInt else 0) = _
      rw [s9, s10, hr a 10 (by omega) (by omega)]
      rw [re_snk ha, sm_congr (g := fun b => if S a && !S b then (if bt (n a) b then 1048576 else 0) else 0) (fun b hb2 => by
        rw [hr a b (by omega) (by omega), re_need ha hb2]
        cases hsa : S a with
        | false => rfl
        | true =>
          rw [sP a ha hsa]
          cases S b <;> cases bt (n a) b <;> rfl)]
      cases hsa : S a with
      | false => simp
      | true =>
        rw [sP a ha hsa]
        simp
    rw [e, sm_add, hs.1]
    have e2 : cd_sm 9 (fun a => if S a then (cd_neg (k a)).toInt else 0) + cd_sm 9 (fun b => if S b then 0 else if bt P b then (cd_pos (k b)).toInt else 0) = cd_tot P k 9 - cd_wor k S := by
      unfold cd_tot cd_wor
      rw [← sm_add, ← sm_sub]
      refine sm_congr (fun u hu => ?_)
      try dsimp only
      cases hsu : S u with
      | false => simp
      | true =>
        rw [sP u hu hsu]
        have := (cd_neg_b (hb u hu)).2.2
        simp
        exact this
    show cd_vio n S + _ + _ = _
    omega
/-- what solve asks: small worths, needs among what is there, and a closed set not far below all that can be had -/
def cd_aok (P : Int32) (n k : Nat → Int32) : Prop := (∀ u, u < 9 → -1000 ≤ (k u).toInt ∧ (k u).toInt ≤ 1000) ∧ (∀ a b, a < 9 → b < 9 → bt (n a) b = true → bt P b = true) ∧ ∃ S, cd_cs P S ∧ cd_vio n S = 0 ∧ cd_tot P k 9 - cd_wor k S ≤ 511
def cd_fin (P : Int32) (n k r : Nat → Int32) (fs z : Int32) : Prop := cd_soI P n k r z ∧ ∃ (f g : Nat → Int32) (en : Nat) (L q : Nat → Nat), cd_sp r fs f g en L q ∧ (∀ a b, a < 11 → b < 11 → bt fs a = true → 0 < (r (a * 11 + b)).toInt → bt fs b = true) ∧ bt fs 10 = false
def cd_solP (σ : cd_D) (z : Int32) (τ : cd_D) : Prop := ∃ (r : Nat → Int32) (fs : Int32) (f g : Nat → Int32), τ = sL (sF (sS (sR σ r) fs) f) g ∧ cd_fin (gP σ) (gN σ) (gK σ) r fs z
theorem ini_tot {P : Int32} {n k r : Nat → Int32} (h : cd_aok P n k) : (cd_ini P n k r).1.toInt = cd_tot P k 9 := (ini_sum P n k r h.1 9 (by omega)).1
end
section
/-! a desk in good order; what its questions ask of solve -/
def cd_gd (P : Int32) (w n : Nat → Int32) : Prop := (∀ i, 9 ≤ i → i < 32 → bt P i = false) ∧ (∀ u, u < 9 → -50 ≤ (w u).toInt ∧ (w u).toInt ≤ 50) ∧ (∀ a b, a < 9 → b < 32 → bt (n a) b = true → bt P b = true) ∧ ∀ a, a < 9 → bt (n a) a = false
def cd_sd (σ τ : cd_D) : Prop := gP τ = gP σ ∧ gW τ = gW σ ∧ gN τ = gN σ
theorem it_ask (w x : Nat → Int32) : ∀ m u, cd_it (cd_ask w) m x u = if u < m then w u else x u := by
  intro m
  induction m with
  | zero => intro u; rw [if_neg (by omega)]; rfl
  | succ m ih =>
    intro u
    rw [cd_it_s]
    show upd (cd_it (cd_ask w) m x) m (w m) u = _
    by_cases h : u = m
    · rw [h, pk_us, if_pos (by omega)]
    · rw [pk_un h, ih u]
      by_cases g : u < m
      · rw [if_pos g, if_pos (by omega)]
      · rw [if_neg g, if_neg (by omega)]
theorem wor_congr {k k' : Nat → Int32} (h : ∀ u, u < 9 → k u = k' u) (S : Nat → Bool) : cd_wor k S = cd_wor k' S := sm_congr (fun u hu => by rw [h u hu])
theorem tot_congr {P : Int32} {k k' : Nat → Int32} (h : ∀ u, u < 9 → k u = k' u) : cd_tot P k 9 = cd_tot P k' 9 := sm_congr (fun u hu => by rw [h u hu])
theorem aok_congr {P : Int32} {n k k' : Nat → Int32} (h : ∀ u, u < 9 → k' u = k u) (a : cd_aok P n k) : cd_aok P n k' := by
  obtain ⟨h1, h2, S, h3, h4, h5⟩ := a
  exact ⟨fun u hu => by rw [h u hu]; exact h1 u hu, h2, S, h3, h4, by rw [tot_congr h, wor_congr h]; exact h5⟩
theorem fin_congr {P : Int32} {n k k' r : Nat → Int32} {fs z : Int32} (h : ∀ u, u < 9 → k' u = k u) (a : cd_fin P n k r fs z) : cd_fin P n k' r fs z := by
  obtain ⟨⟨h1, h2, h3⟩, h4⟩ := a
  exact ⟨⟨h1, h2, fun S hS => by rw [wor_congr h]; exact h3 S hS⟩, h4⟩
theorem tot_le {P : Int32} {k : Nat → Int32} {c : Nat → Int} (h : ∀ u, u < 9 → (k u).toInt ≤ c u ∧ 0 ≤ c u) : cd_tot P k 9 ≤ cd_sm 9 c := by
  refine sm_le (fun u hu => ?_)
  try dsimp only
  rw [cd_posI]
  have := h u hu
  split
  · split <;> omega
  · omega
theorem gd_need {P : Int32} {w n : Nat → Int32} (g : cd_gd P w n) : ∀ a b, a < 9 → b < 9 → bt (n a) b = true → bt P b = true := fun a b ha hb => g.2.2.1 a b ha (by omega)
theorem aok_plain {P : Int32} {w n : Nat → Int32} (g : cd_gd P w n) : cd_aok P n w := by
  refine ⟨fun u hu => ?_, gd_need g, cd_e0, e0_cs P, e0_vio n, ?_⟩
  · have := g.2.1 u hu; omega
  · have := tot_le (P := P) (k := w) (c := fun _ => 50) (fun u hu => ⟨(g.2.1 u hu).2, by omega⟩)
    rw [sm_const] at this
    rw [e0_wor]
    omega
theorem aok_without {P : Int32} {w n : Nat → Int32} (g : cd_gd P w n) {j : Nat} (hj : j < 9) : cd_aok P n (upd w j (-1000)) := by
  have e : (-1000 : Int32).toInt = -1000 := rfl
  refine ⟨fun u hu => ?_, gd_need g, cd_e0, e0_cs P, e0_vio n, ?_⟩
  · by_cases h : u = j
    · rw [h, pk_us, e]; omega
    · rw [pk_un h]; have := g.2.1 u hu; omega
  · have := tot_le (P := P) (k := upd w j (-1000)) (c := fun _ => 50) (fun u hu => ⟨by
      by_cases h : u = j
      · rw [h, pk_us, e]; omega
      · rw [pk_un h]; exact (g.2.1 u hu).2, by omega⟩)
    rw [sm_const] at this
    rw [e0_wor]
    omega
/-- all that is there -/
def cd_full (P : Int32) : Nat → Bool := fun u => if u < 9 then bt P u else decide (u = 9)
theorem full_cs (P : Int32) : cd_cs P (cd_full P) := ⟨rfl, rfl, fun u hu h => by unfold cd_full at h; rw [if_pos hu] at h; exact h⟩
theorem full_at {P : Int32} {u : Nat} (h : u < 9) : cd_full P u = bt P u := if_pos h
theorem full_vio {P : Int32} {n : Nat → Int32} (h : ∀ a b, a < 9 → b < 9 → bt (n a) b = true → bt P b = true) : cd_vio n (cd_full P) = 0 := by
  refine sm_eq0 (fun a ha => sm_eq0 (fun b hb => ?_))
  try dsimp only
  rw [full_at ha, full_at hb]
  cases hq : bt (n a) b with
  | true => rw [h a b ha hb hq]; simp
  | false => simp
theorem aok_with {P : Int32} {w n : Nat → Int32} (g : cd_gd P w n) {j : Nat} (hj : j < 9) : cd_aok P n (upd w j 1000) := by
  have e : (1000 : Int32).toInt = 1000 := rfl
  have hb : ∀ u, u < 9 → -1000 ≤ (upd w j 1000 u).toInt ∧ (upd w j 1000 u).toInt ≤ 1000 := fun u hu => by
    by_cases h : u = j
    · rw [h, pk_us, e]; omega
    · rw [pk_un h]; have := g.2.1 u hu; omega
  refine ⟨hb, gd_need g, cd_full P, full_cs P, full_vio (gd_need g), ?_⟩
  unfold cd_tot cd_wor
  rw [← sm_sub]
  have : cd_sm 9 (fun i => (if bt P i then (cd_pos (upd w j 1000 i)).toInt else 0) - (if cd_full P i then (upd w j 1000 i).toInt else 0)) ≤ cd_sm 9 (fun _ => 50) := by
    refine sm_le (fun u hu => ?_)
    try dsimp only
    rw [full_at hu]
    have h1 := cd_neg_b (hb u hu)
    have h2 : (cd_neg (upd w j 1000 u)).toInt ≤ 50 := by
      by_cases h : u = j
      · rw [h, pk_us]; decide
      · rw [pk_un h, cd_negI2 (by have := g.2.1 u hu; omega)]
        have := g.2.1 u hu
        split <;> omega
    cases bt P u with
    | true => simp only [if_true]; omega
    | false => simp
  rw [sm_const] at this
  omega
/-! the desk's answers -/
def cd_besP (σ : cd_D) (z : Int32) (τ : cd_D) : Prop := cd_sd σ τ ∧ ∃ (r : Nat → Int32) (fs : Int32), cd_fin (gP σ) (gN σ) (gW σ) r fs z
def cd_leaP (σ : cd_D) (z : Int32) (τ : cd_D) : Prop := cd_sd σ τ ∧ ∃ (r : Nat → Int32) (fs v : Int32), cd_fin (gP σ) (gN σ) (gW σ) r fs v ∧ z = fs &&& gP σ
def cd_greP (σ : cd_D) (z : Int32) (τ : cd_D) : Prop := cd_sd σ τ ∧ ∃ (r : Nat → Int32) (fs v : Int32), cd_fin (gP σ) (gN σ) (gW σ) r fs v ∧ z = cd_apart (gP σ) r
def cd_wwiP (σ : cd_D) (j : Nat) (z : Int32) (τ : cd_D) : Prop := cd_sd σ τ ∧ ∃ (r : Nat → Int32) (fs v : Int32), cd_fin (gP σ) (gN σ) (upd (gW σ) j 1000) r fs v ∧ z = v - 1000
def cd_wwoP (σ : cd_D) (j : Nat) (z : Int32) (τ : cd_D) : Prop := cd_sd σ τ ∧ ∃ (r : Nat → Int32) (fs : Int32), cd_fin (gP σ) (gN σ) (upd (gW σ) j (-1000)) r fs z
def cd_bwiP (σ : cd_D) (u : Int32) (z : Int32) (τ : cd_D) : Prop := cd_sd σ τ ∧ ((cd_has (gP σ) u = false ∧ z = -100000) ∨ (cd_has (gP σ) u = true ∧ ∃ j : Nat, j < 9 ∧ u = nI j ∧ ∃ (r : Nat → Int32) (fs v : Int32), cd_fin (gP σ) (gN σ) (upd (gW σ) j 1000) r fs v ∧ z = (v - 1000) + gW σ j))
def cd_bwoP (σ : cd_D) (u : Int32) (z : Int32) (τ : cd_D) : Prop := cd_sd σ τ ∧ ((cd_has (gP σ) u = false ∧ ∃ (r : Nat → Int32) (fs : Int32), cd_fin (gP σ) (gN σ) (gW σ) r fs z) ∨ (cd_has (gP σ) u = true ∧ ∃ j : Nat, j < 9 ∧ u = nI j ∧ ∃ (r : Nat → Int32) (fs : Int32), cd_fin (gP σ) (gN σ) (upd (gW σ) j (-1000)) r fs z))
def cd_clamp (x : Int32) : Int32 := if x ≤ 50 then (if -50 ≤ x then x else -50) else 51
def cd_thrP (σ : cd_D) (u : Int32) (z : Int32) (τ : cd_D) : Prop := cd_sd σ τ ∧ ((cd_has (gP σ) u = false ∧ z = -100000) ∨ (cd_has (gP σ) u = true ∧ ∃ j : Nat, j < 9 ∧ u = nI j ∧ ∃ (r1 : Nat → Int32) (fs1 v1 : Int32) (r2 : Nat → Int32) (fs2 v2 : Int32), cd_fin (gP σ) (gN σ) (upd (gW σ) j (-1000)) r1 fs1 v1 ∧ cd_fin (gP σ) (gN σ) (upd (gW σ) j 1000) r2 fs2 v2 ∧ z = cd_clamp (v1 - (v2 - 1000))))
def cd_burP (σ : cd_D) (u v : Int32) (z : Int32) (τ : cd_D) : Prop := cd_sd σ τ ∧ ((cd_nok (gP σ) u v = false ∧ z = -100000) ∨ (cd_nok (gP σ) u v = true ∧ ∃ j i : Nat, j < 9 ∧ i < 9 ∧ u = nI j ∧ v = nI i ∧ ((bt (gN σ j) i = false ∧ z = 0) ∨ ∃ (r1 : Nat → Int32) (fs1 v1 : Int32) (r2 : Nat → Int32) (fs2 v2 : Int32), cd_fin (gP σ) (gN σ) (gW σ) r1 fs1 v1 ∧ cd_fin (gP σ) (upd (gN σ) j (gN σ j &&& (((1 : Int32) <<< (nI i &&& 31)) ^^^ (-1)))) (gW σ) r2 fs2 v2 ∧ z = v2 - v1)))
def cd_choP (σ : cd_D) (Pn : Nat) (z : Int32) (τ : cd_D) : Prop := cd_sd σ τ ∧ ∃ (r : Nat → Int32) (fs v : Int32), cd_fin (gP σ) (gN σ) (gW σ) r fs v ∧ z = cd_it (cd_ch1 r (cd_apart (gP σ) r &&& (fs ^^^ (-1)))) (Pn + 1) 0
/-! the bit of a need, off and on again -/
theorem gd_small {P : Int32} {w n : Nat → Int32} (g : cd_gd P w n) {a : Nat} (ha : a < 9) : ∃ c, c < 512 ∧ n a = nI c := by
  obtain ⟨c, h1, h2⟩ := cb_small (x := n a) (k := 9) (by omega) (fun i hi hi2 => by
    cases h : bt (n a) i with
    | false => rfl
    | true =>
      have := g.2.2.1 a i ha hi2 h
      rw [g.1 i hi hi2] at this
      cases this)
  exact ⟨c, h1, h2⟩
theorem sm_i16 {x : Int32} (h : ∀ i, 9 ≤ i → i < 32 → bt x i = false) : x.toInt16.toInt32 = x := by
  obtain ⟨c, h1, h2⟩ := cb_small (x := x) (k := 9) (by omega) h
  rw [h2]
  have := nI_toInt (n := c) (by omega)
  exact cd_i16 (by omega) (by omega)
theorem gd_hi {P : Int32} {w n : Nat → Int32} (g : cd_gd P w n) {a : Nat} (ha : a < 9) : ∀ i, 9 ≤ i → i < 32 → bt (n a) i = false := fun i hi hi2 => by
  cases h : bt (n a) i with
  | false => rfl
  | true =>
    have := g.2.2.1 a i ha hi2 h
    rw [g.1 i hi hi2] at this
    cases this
theorem bt_off (x : Int32) {i b : Nat} (hi : i < 32) (hb : b < 32) : bt (x &&& (((1 : Int32) <<< (nI i &&& 31)) ^^^ (-1))) b = (bt x b && decide (b ≠ i)) := by
  rw [b_and, cb_not _ hb, cb_one hi hb]
  by_cases h : b = i
  · rw [decide_eq_true h, decide_eq_false (fun q => q h)]; rfl
  · rw [decide_eq_false h, decide_eq_true h]; rfl
theorem bt_on (x : Int32) {i b : Nat} (hi : i < 32) (hb : b < 32) : bt (x ||| ((1 : Int32) <<< (nI i &&& 31))) b = (bt x b || decide (b = i)) := by
  rw [b_or, cb_one hi hb]
theorem off_i16 {x : Int32} (h : ∀ i, 9 ≤ i → i < 32 → bt x i = false) {i : Nat} (hi : i < 9) : (x &&& (((1 : Int32) <<< (nI i &&& 31)) ^^^ (-1))).toInt16.toInt32 = x &&& (((1 : Int32) <<< (nI i &&& 31)) ^^^ (-1)) :=
  sm_i16 (fun b h1 h2 => by rw [bt_off x (by omega) h2, h b h1 h2]; rfl)
theorem on_i16 {x : Int32} (h : ∀ i, 9 ≤ i → i < 32 → bt x i = false) {i : Nat} (hi : i < 9) : (x ||| ((1 : Int32) <<< (nI i &&& 31))).toInt16.toInt32 = x ||| ((1 : Int32) <<< (nI i &&& 31)) :=
  sm_i16 (fun b h1 h2 => by rw [bt_on x (by omega) h2, h b h1 h2, decide_eq_false (by omega)]; rfl)
theorem off_on {x : Int32} {i : Nat} (hi : i < 9) (h : bt x i = true) : (x &&& (((1 : Int32) <<< (nI i &&& 31)) ^^^ (-1))) ||| ((1 : Int32) <<< (nI i &&& 31)) = x := by
  refine b_ext (fun b hb => ?_)
  rw [bt_on _ (by omega) hb, bt_off x (by omega) hb]
  by_cases e : b = i
  · rw [e, h, decide_eq_true rfl, Bool.or_true]
  · rw [decide_eq_true e, decide_eq_false e, Bool.and_true, Bool.or_false]
/-- one need fewer: still in good order -/
theorem gd_off {P : Int32} {w n : Nat → Int32} (g : cd_gd P w n) {j i : Nat} (hi : i < 9) : cd_gd P w (upd n j (n j &&& (((1 : Int32) <<< (nI i &&& 31)) ^^^ (-1)))) := by
  refine ⟨g.1, g.2.1, fun a b ha hb h => ?_, fun a ha => ?_⟩
  · by_cases e : a = j
    · rw [e, pk_us, bt_off _ (by omega) hb, Bool.and_eq_true] at h
      rw [e] at ha
      exact g.2.2.1 j b ha hb h.1
    · rw [pk_un e] at h
      exact g.2.2.1 a b ha hb h
  · by_cases e : a = j
    · rw [e, pk_us, bt_off _ (by omega) (by omega), g.2.2.2 j (by omega)]; rfl
    · rw [pk_un e]; exact g.2.2.2 a ha
theorem ask_upd (w x : Nat → Int32) (j : Nat) (c : Int32) : ∀ u, u < 9 → upd (cd_it (cd_ask w) 9 x) j c u = upd w j c u := by
  intro u hu
  by_cases h : u = j
  · rw [h, pk_us, pk_us]
  · rw [pk_un h, pk_un h, it_ask, if_pos hu]
theorem nee_ok {σ τ : cd_D} {u v o z : Int32} (h : cd_neeP σ u v o z τ) (hk : cd_nok (gP σ) u v = true) : τ = sN σ (upd (gN σ) u.toNatClampNeg (cd_nv (gN σ u.toNatClampNeg) v o).toInt16.toInt32) := by
  rcases h with ⟨h1, -⟩ | ⟨-, -, h1⟩
  · rw [hk] at h1; cases h1
  · exact h1
theorem gd_sd {σ τ : cd_D} (h : cd_sd σ τ) (g : cd_gd (gP σ) (gW σ) (gN σ)) : cd_gd (gP τ) (gW τ) (gN τ) := by
  rw [h.1, h.2.1, h.2.2]; exact g
theorem ask_eq (w x : Nat → Int32) : ∀ u, u < 9 → w u = cd_it (cd_ask w) 9 x u := fun u hu => by rw [it_ask, if_pos hu]
end
section
/-! the smallest methods -/
set_option maxHeartbeats 4000000 in
set_option maxRecDepth 100000 in
/-- in: one bit of a set -/
theorem m_X0_in (l : Launch) (x : Int32) (y : Int32) : cSt l yX0_in cX0_in 2 (some .boolean) (cd_rm 0) [.int x, .int y] (cd_zb (cd_in x y)) := by
  refine en_S (own := RX0) (by decide) rfl (Nat.le_of_ble_eq_true rfl) ?_
  intro p e s m below meth c ls K hr hlocks hl
  have hl : lv_has ls 2 [(0, .int x), (1, .int y)] := hl
  obtain ⟨hx, hb, hml, hown, hts⟩ := id K
  refine lv_iload_n hx hb dX0_in_0 rfl (lv_at hl 0 rfl) ?_
  refine lv_iload_n hx hb dX0_in_1 rfl (lv_at hl 1 rfl) ?_
  refine lv_ishr hx hb dX0_in_2 ?_
  refine lv_iconst (v := 1) hx hb dX0_in_3 (by decide) ?_
  refine lv_iand hx hb dX0_in_4 ?_
  refine lv_if_eq (tgt := 12) hx hb dX0_in_5 (by decide) (fun c5 => ?_) (fun c5 => ?_)
  · refine lv_iconst (v := 0) hx hb dX0_in_12 (by decide) ?_
    exact rt_R K hr hlocks (rfl) (by rw [cd_in_f c5]; rfl) dX0_in_13
  · refine lv_iconst (v := 1) hx hb dX0_in_8 (by decide) ?_
    refine lv_goto (tgt := 13) hx hb dX0_in_9 (by decide) ?_
    exact rt_R K hr hlocks (rfl) (by rw [cd_in_t c5]; rfl) dX0_in_13
set_option maxHeartbeats 4000000 in
set_option maxRecDepth 100000 in
theorem k_X0_in {p : Program} {l : Launch} {e : Env} {R : Room} {s : State} {m : MethodId} {args : Array Value} {below : List Frame} {meth : Method} {c : Code} {H : Heap} {locs : List Loc} {cells slots : Nat} {Q : State → Prop} {cc : ByteArray} {nL pc : Nat} {ls : Array Slot} {rest : List Value} {x y : Int32} (K : CallFix p m c cc nL s args lw_all RX0) (hR : (cd_rm 0).frames + 1 ≤ R.frames ∧ 8 + (2 + 11) + (cd_rm 0).locals ≤ R.locals) (hf : cells + 0 ≤ R.cells ∧ slots + 0 ≤ R.slots) (hls : ls.size = nL) (hrm : (rest.map fun v => v.category).sum ≤ 8) (hdg : decode cc pc = .ok (.invokestatic 41, 3)) (kk : W p l e R s m args below meth c H locs cells slots Q (F0 m (pc + 3) ls (.int (cd_zb (cd_in x y)) :: rest))) : W p l e R s m args below meth c H locs cells slots Q (F0 m pc ls (.int y :: .int x :: rest)) :=
  cl_S K (m_X0_in l x y) (va_cwS 2 K.2.2.2.2 (lw_S q83 q84 q14 q85) rfl rfl rfl (by decide +kernel) hR) rfl hls rfl hrm hf hdg kk
set_option maxHeartbeats 4000000 in
set_option maxRecDepth 100000 in
theorem m_X0_isWorth (l : Launch) (w : Int32) : cSt l yX0_isWorth cX0_isWorth 1 (some .boolean) (cd_rm 0) [.int w] (cd_zb (cd_wok w)) := by
  refine en_S (own := RX0) (by decide) rfl (Nat.le_of_ble_eq_true rfl) ?_
  intro p e s m below meth c ls K hr hlocks hl
  have hl : lv_has ls 1 [(0, .int w)] := hl
  obtain ⟨hx, hb, hml, hown, hts⟩ := id K
  refine lv_iload_n hx hb dX0_isWorth_0 rfl (lv_at hl 0 rfl) ?_
  refine lv_bipush (v := (-50)) hx hb dX0_isWorth_1 (by decide) ?_
  refine lv_icmp_lt (tgt := 16) hx hb dX0_isWorth_3 (by decide) (fun c3 => ?_) (fun c3 => ?_)
  · refine lv_iconst (v := 0) hx hb dX0_isWorth_16 (by decide) ?_
    exact rt_R K hr hlocks (rfl) (by rw [cd_wok_lt c3]; rfl) dX0_isWorth_17
  · refine lv_iload_n hx hb dX0_isWorth_6 rfl (lv_at hl 0 rfl) ?_
    refine lv_bipush (v := 50) hx hb dX0_isWorth_7 (by decide) ?_
    refine lv_icmp_gt (tgt := 16) hx hb dX0_isWorth_9 (by decide) (fun c9 => ?_) (fun c9 => ?_)
    · refine lv_iconst (v := 0) hx hb dX0_isWorth_16 (by decide) ?_
      exact rt_R K hr hlocks (rfl) (by rw [cd_wok_gt c9]; rfl) dX0_isWorth_17
    · refine lv_iconst (v := 1) hx hb dX0_isWorth_12 (by decide) ?_
      refine lv_goto (tgt := 17) hx hb dX0_isWorth_13 (by decide) ?_
      exact rt_R K hr hlocks (rfl) (by rw [cd_wok_ok c3 c9]; rfl) dX0_isWorth_17
set_option maxHeartbeats 4000000 in
set_option maxRecDepth 100000 in
theorem k_X0_isWorth {p : Program} {l : Launch} {e : Env} {R : Room} {s : State} {m : MethodId} {args : Array Value} {below : List Frame} {meth : Method} {c : Code} {H : Heap} {locs : List Loc} {cells slots : Nat} {Q : State → Prop} {cc : ByteArray} {nL pc : Nat} {ls : Array Slot} {rest : List Value} {w : Int32} (K : CallFix p m c cc nL s args lw_all RX0) (hR : (cd_rm 0).frames + 1 ≤ R.frames ∧ 8 + (1 + 11) + (cd_rm 0).locals ≤ R.locals) (hf : cells + 0 ≤ R.cells ∧ slots + 0 ≤ R.slots) (hls : ls.size = nL) (hrm : (rest.map fun v => v.category).sum ≤ 8) (hdg : decode cc pc = .ok (.invokestatic 34, 3)) (kk : W p l e R s m args below meth c H locs cells slots Q (F0 m (pc + 3) ls (.int (cd_zb (cd_wok w)) :: rest))) : W p l e R s m args below meth c H locs cells slots Q (F0 m pc ls (.int w :: rest)) :=
  cl_S K (m_X0_isWorth l w) (va_cwS 1 K.2.2.2.2 (lw_S q56 q57 q14 q58) rfl rfl rfl (by decide +kernel) hR) rfl hls rfl hrm hf hdg kk
set_option maxHeartbeats 4000000 in
set_option maxRecDepth 100000 in
theorem m_X0_has (l : Launch) (D : va_G) (ad : Nat → Nat) (ca : Nat → ClassId) (σ : cd_D) (u : Int32) : cR l D (dkT ca) (dkW ad ca σ) yX0_has cX0_has 2 (some .boolean) (cd_rm 0) [.ref (ad 0), .int u] (cd_zb (cd_has (gP σ) u)) := by
  refine en_R (own := RX0) (by decide) rfl (Nat.le_of_ble_eq_true rfl) ?_
  intro p e s m below meth c ls K hr hlocks hP hl
  have hl : lv_has ls 2 [(0, .ref (ad 0)), (1, .int u)] := hl
  obtain ⟨hx, hb, hml, hown, hts⟩ := id K
  refine lv_iload_n hx hb dX0_has_0 rfl (lv_at hl 1 rfl) ?_
  refine lv_if_lt (tgt := 25) hx hb dX0_has_1 (by decide) (fun c1 => ?_) (fun c1 => ?_)
  · refine lv_iconst (v := 0) hx hb dX0_has_25 (by decide) ?_
    exact rt_R K hr hlocks (rfl) (by rw [cd_has_lt c1]; rfl) dX0_has_26
  · refine lv_iload_n hx hb dX0_has_4 rfl (lv_at hl 1 rfl) ?_
    refine lv_bipush (v := 9) hx hb dX0_has_5 (by decide) ?_
    refine lv_icmp_ge (tgt := 25) hx hb dX0_has_7 (by decide) (fun c7 => ?_) (fun c7 => ?_)
    · refine lv_iconst (v := 0) hx hb dX0_has_25 (by decide) ?_
      exact rt_R K hr hlocks (rfl) (by rw [cd_has_ge c7]; rfl) dX0_has_26
    · refine lv_aload_n hx hb dX0_has_10 rfl (lv_at hl 0 rfl) ?_
      refine dg_P K hP dX0_has_11 ?_
      refine lv_iload_n hx hb dX0_has_14 rfl (lv_at hl 1 rfl) ?_
      refine lv_ishr hx hb dX0_has_15 ?_
      refine lv_iconst (v := 1) hx hb dX0_has_16 (by decide) ?_
      refine lv_iand hx hb dX0_has_17 ?_
      refine lv_if_eq (tgt := 25) hx hb dX0_has_18 (by decide) (fun c18 => ?_) (fun c18 => ?_)
      · refine lv_iconst (v := 0) hx hb dX0_has_25 (by decide) ?_
        exact rt_R K hr hlocks (rfl) (by rw [cd_has_i c1 c7, cd_in_f c18]; rfl) dX0_has_26
      · refine lv_iconst (v := 1) hx hb dX0_has_21 (by decide) ?_
        refine lv_goto (tgt := 26) hx hb dX0_has_22 (by decide) ?_
        exact rt_R K hr hlocks (rfl) (by rw [cd_has_i c1 c7, cd_in_t c18]; rfl) dX0_has_26
set_option maxHeartbeats 4000000 in
set_option maxRecDepth 100000 in
theorem k_X0_has {p : Program} {l : Launch} {e : Env} {R : Room} {s : State} {m : MethodId} {args : Array Value} {below : List Frame} {meth : Method} {c : Code} {H : Heap} {locs : List Loc} {cells slots : Nat} {Q : State → Prop} {cc : ByteArray} {nL pc : Nat} {ls : Array Slot} {rest : List Value} {D : va_G} {ad : Nat → Nat} {ca : Nat → ClassId} {σ : cd_D} {u : Int32} (K : CallFix p m c cc nL s args lw_all RX0)  (hP : wP D (dkT ca) (dkW ad ca σ) s H) (hR : (cd_rm 0).frames + 1 ≤ R.frames ∧ 8 + (2 + 11) + (cd_rm 0).locals ≤ R.locals) (hf : cells + 0 ≤ R.cells ∧ slots + 0 ≤ R.slots) (hls : ls.size = nL) (hrm : (rest.map fun v => v.category).sum ≤ 8) (hdg : decode cc pc = .ok (.invokevirtual 38, 3)) (kk : W p l e R s m args below meth c H locs cells slots Q (F0 m (pc + 3) ls (.int (cd_zb (cd_has (gP σ) u)) :: rest))) : W p l e R s m args below meth c H locs cells slots Q (F0 m pc ls (.int u :: .ref (ad 0) :: rest)) :=
  cl_R K (m_X0_has l D ad ca σ u) (cwV 1 K.2.2.2.2 (lw_V q59 q61 qs0 q14 q62) rfl rfl rfl (by decide +kernel) hR) hP (va_recv hP.1 hP.2 (ci := 0) (q0 := 0) rfl rfl) rfl hls rfl hrm hf hdg kk
set_option maxHeartbeats 4000000 in
set_option maxRecDepth 100000 in
theorem m_X0_undertakings (l : Launch) (D : va_G) (ad : Nat → Nat) (ca : Nat → ClassId) (σ : cd_D) : cR l D (dkT ca) (dkW ad ca σ) yX0_undertakings cX0_undertakings 1 (some .int) (cd_rm 0) [.ref (ad 0)] (gP σ) := by
  refine en_R (own := RX0) (by decide) rfl (Nat.le_of_ble_eq_true rfl) ?_
  intro p e s m below meth c ls K hr hlocks hP hl
  have hl : lv_has ls 1 [(0, .ref (ad 0))] := hl
  obtain ⟨hx, hb, hml, hown, hts⟩ := id K
  refine lv_aload_n hx hb dX0_undertakings_0 rfl (lv_at hl 0 rfl) ?_
  refine dg_P K hP dX0_undertakings_1 ?_
  exact rt_R K hr hlocks (rfl) (rfl) dX0_undertakings_4
set_option maxHeartbeats 4000000 in
set_option maxRecDepth 100000 in
theorem m_X1_fits (l : Launch) (D : va_G) (ad : Nat → Nat) (ca : Nat → ClassId) (μ : cd_M) (w : Int32) : cR l D (mdT ca) (mdW ad ca μ) yX1_fits cX1_fits 2 (some .boolean) (cd_rm 0) [.ref (ad 0), .int w] (cd_zb (cd_wok w)) := by
  refine en_R (own := RX1) (by decide) rfl (Nat.le_of_ble_eq_true rfl) ?_
  intro p e s m below meth c ls K hr hlocks hP hl
  have hl : lv_has ls 2 [(0, .ref (ad 0)), (1, .int w)] := hl
  obtain ⟨hx, hb, hml, hown, hts⟩ := id K
  refine lv_iload_n hx hb dX1_fits_0 rfl (lv_at hl 1 rfl) ?_
  refine lv_bipush (v := (-50)) hx hb dX1_fits_1 (by decide) ?_
  refine lv_icmp_lt (tgt := 16) hx hb dX1_fits_3 (by decide) (fun c3 => ?_) (fun c3 => ?_)
  · refine lv_iconst (v := 0) hx hb dX1_fits_16 (by decide) ?_
    exact rt_R K hr hlocks (rfl) (by rw [cd_wok_lt c3]; rfl) dX1_fits_17
  · refine lv_iload_n hx hb dX1_fits_6 rfl (lv_at hl 1 rfl) ?_
    refine lv_bipush (v := 50) hx hb dX1_fits_7 (by decide) ?_
    refine lv_icmp_gt (tgt := 16) hx hb dX1_fits_9 (by decide) (fun c9 => ?_) (fun c9 => ?_)
    · refine lv_iconst (v := 0) hx hb dX1_fits_16 (by decide) ?_
      exact rt_R K hr hlocks (rfl) (by rw [cd_wok_gt c9]; rfl) dX1_fits_17
    · refine lv_iconst (v := 1) hx hb dX1_fits_12 (by decide) ?_
      refine lv_goto (tgt := 17) hx hb dX1_fits_13 (by decide) ?_
      exact rt_R K hr hlocks (rfl) (by rw [cd_wok_ok c3 c9]; rfl) dX1_fits_17
set_option maxHeartbeats 4000000 in
set_option maxRecDepth 100000 in
theorem k_X1_fits {p : Program} {l : Launch} {e : Env} {R : Room} {s : State} {m : MethodId} {args : Array Value} {below : List Frame} {meth : Method} {c : Code} {H : Heap} {locs : List Loc} {cells slots : Nat} {Q : State → Prop} {cc : ByteArray} {nL pc : Nat} {ls : Array Slot} {rest : List Value} {D : va_G} {ad : Nat → Nat} {ca : Nat → ClassId} {μ : cd_M} {w : Int32} (K : CallFix p m c cc nL s args lw_all RX1)  (hP : wP D (mdT ca) (mdW ad ca μ) s H) (hR : (cd_rm 0).frames + 1 ≤ R.frames ∧ 8 + (2 + 11) + (cd_rm 0).locals ≤ R.locals) (hf : cells + 0 ≤ R.cells ∧ slots + 0 ≤ R.slots) (hls : ls.size = nL) (hrm : (rest.map fun v => v.category).sum ≤ 8) (hdg : decode cc pc = .ok (.invokevirtual 20, 3)) (kk : W p l e R s m args below meth c H locs cells slots Q (F0 m (pc + 3) ls (.int (cd_zb (cd_wok w)) :: rest))) : W p l e R s m args below meth c H locs cells slots Q (F0 m pc ls (.int w :: .ref (ad 0) :: rest)) :=
  cl_R K (m_X1_fits l D ad ca μ w) (cwV 1 K.2.2.2.2 (lw_V q179 q181 qs9 q15 q182) rfl rfl rfl (by decide +kernel) hR) hP (va_recv hP.1 hP.2 (ci := 1) (q0 := 0) rfl rfl) rfl hls rfl hrm hf hdg kk
set_option maxHeartbeats 4000000 in
set_option maxRecDepth 100000 in
theorem m_X1_is (l : Launch) (D : va_G) (ad : Nat → Nat) (ca : Nat → ClassId) (μ : cd_M) (u : Int32) : cR l D (mdT ca) (mdW ad ca μ) yX1_is cX1_is 2 (some .boolean) (cd_rm 0) [.ref (ad 0), .int u] (cd_zb (cd_is (mT μ) u)) := by
  refine en_R (own := RX1) (by decide) rfl (Nat.le_of_ble_eq_true rfl) ?_
  intro p e s m below meth c ls K hr hlocks hP hl
  have hl : lv_has ls 2 [(0, .ref (ad 0)), (1, .int u)] := hl
  obtain ⟨hx, hb, hml, hown, hts⟩ := id K
  refine lv_iload_n hx hb dX1_is_0 rfl (lv_at hl 1 rfl) ?_
  refine lv_if_lt (tgt := 23) hx hb dX1_is_1 (by decide) (fun c1 => ?_) (fun c1 => ?_)
  · refine lv_iconst (v := 0) hx hb dX1_is_23 (by decide) ?_
    exact rt_R K hr hlocks (rfl) (by rw [cd_is_lt c1]; rfl) dX1_is_24
  · refine lv_iload_n hx hb dX1_is_4 rfl (lv_at hl 1 rfl) ?_
    refine lv_bipush (v := 9) hx hb dX1_is_5 (by decide) ?_
    refine lv_icmp_ge (tgt := 23) hx hb dX1_is_7 (by decide) (fun c7 => ?_) (fun c7 => ?_)
    · refine lv_iconst (v := 0) hx hb dX1_is_23 (by decide) ?_
      exact rt_R K hr hlocks (rfl) (by rw [cd_is_ge c7]; rfl) dX1_is_24
    · obtain ⟨j, hj, rfl⟩ := cd_ix c1 c7
      refine lv_aload_n hx hb dX1_is_10 rfl (lv_at hl 0 rfl) ?_
      refine eg_T K hP dX1_is_11 ?_
      refine lv_iload_n hx hb dX1_is_14 rfl (lv_at hl 1 rfl) ?_
      refine el_T K hP j (by omega) rfl dX1_is_15 ?_
      refine lv_if_eq (tgt := 23) hx hb dX1_is_16 (by decide) (fun c16 => ?_) (fun c16 => ?_)
      · refine lv_iconst (v := 0) hx hb dX1_is_23 (by decide) ?_
        exact rt_R K hr hlocks (rfl) (by rw [cd_is_n hj, decide_eq_false (fun n => n c16)]; rfl) dX1_is_24
      · refine lv_iconst (v := 1) hx hb dX1_is_19 (by decide) ?_
        refine lv_goto (tgt := 24) hx hb dX1_is_20 (by decide) ?_
        exact rt_R K hr hlocks (rfl) (by rw [cd_is_n hj, decide_eq_true c16]; rfl) dX1_is_24
set_option maxHeartbeats 4000000 in
set_option maxRecDepth 100000 in
theorem k_X1_is {p : Program} {l : Launch} {e : Env} {R : Room} {s : State} {m : MethodId} {args : Array Value} {below : List Frame} {meth : Method} {c : Code} {H : Heap} {locs : List Loc} {cells slots : Nat} {Q : State → Prop} {cc : ByteArray} {nL pc : Nat} {ls : Array Slot} {rest : List Value} {D : va_G} {ad : Nat → Nat} {ca : Nat → ClassId} {μ : cd_M} {u : Int32} (K : CallFix p m c cc nL s args lw_all RX1)  (hP : wP D (mdT ca) (mdW ad ca μ) s H) (hR : (cd_rm 0).frames + 1 ≤ R.frames ∧ 8 + (2 + 11) + (cd_rm 0).locals ≤ R.locals) (hf : cells + 0 ≤ R.cells ∧ slots + 0 ≤ R.slots) (hls : ls.size = nL) (hrm : (rest.map fun v => v.category).sum ≤ 8) (hdg : decode cc pc = .ok (.invokevirtual 24, 3)) (kk : W p l e R s m args below meth c H locs cells slots Q (F0 m (pc + 3) ls (.int (cd_zb (cd_is (mT μ) u)) :: rest))) : W p l e R s m args below meth c H locs cells slots Q (F0 m pc ls (.int u :: .ref (ad 0) :: rest)) :=
  cl_R K (m_X1_is l D ad ca μ u) (cwV 1 K.2.2.2.2 (lw_V q187 q189 qs10 q15 q190) rfl rfl rfl (by decide +kernel) hR) hP (va_recv hP.1 hP.2 (ci := 1) (q0 := 0) rfl rfl) rfl hls rfl hrm hf hdg kk
end
section
/-! the desk's readers -/
set_option maxHeartbeats 4000000 in
set_option maxRecDepth 100000 in
theorem m_X0_closed (l : Launch) (D : va_G) (ad : Nat → Nat) (ca : Nat → ClassId) (σ : cd_D) (S : Int32) : cR l D (dkT ca) (dkW ad ca σ) yX0_closed cX0_closed 3 (some .boolean) (cd_rm 1) [.ref (ad 0), .int S] (cd_zb (cd_closed (gP σ) (gN σ) S)) := by
  refine en_R (own := RX0) (by decide) rfl (Nat.le_of_ble_eq_true rfl) ?_
  intro p e s m below meth c ls K hr hlocks hP hl
  have hl : lv_has ls 3 [(0, .ref (ad 0)), (1, .int S)] := hl
  obtain ⟨hx, hb, hml, hown, hts⟩ := id K
  refine lv_iload_n hx hb dX0_closed_0 rfl (lv_at hl 1 rfl) ?_
  refine lv_aload_n hx hb dX0_closed_1 rfl (lv_at hl 0 rfl) ?_
  refine dg_P K hP dX0_closed_2 ?_
  refine lv_iconst (v := (-1)) hx hb dX0_closed_5 (by decide) ?_
  refine lv_ixor hx hb dX0_closed_6 ?_
  refine lv_iand hx hb dX0_closed_7 ?_
  refine lv_if_eq (tgt := 13) hx hb dX0_closed_8 (by decide) (fun c8 => ?_) (fun c8 => ?_)
  · refine lv_iconst (v := 0) hx hb dX0_closed_13 (by decide) ?_
    refine lv_istore_n (lv' := [(2, .int 0), (0, .ref (ad 0)), (1, .int S)]) hx hb dX0_closed_14 rfl hl (by decide) rfl (fun ls hl => ?_)
    refine w_ls (fun ls1 el => ?_)
    obtain ⟨n, i, hi, hn, hA, hl⟩ : ∃ (n i : Nat), i ≤ 9 ∧ 9 < i + n ∧ (cd_all (cd_clq (gN σ) S) i = true) ∧ lv_has ls1 3 [(2, .int (nI i)), (0, .ref (ad 0)), (1, .int S)] := ⟨(9 + 1), 0, by omega, by omega, rfl, by rw [el]; exact hl⟩
    clear el
    induction n generalizing ls1 i with
    | zero => exact absurd hn (by omega)
    | succ n ih =>
      refine lv_iload_n hx hb dX0_closed_15 rfl (lv_at hl 0 rfl) ?_
      refine lv_bipush (v := 9) hx hb dX0_closed_16 (by decide) ?_
      refine lv_icmp_ge (tgt := 50) hx hb dX0_closed_18 (by decide) (fun c18 => ?_) (fun c18 => ?_)
      · obtain rfl := cd_ge (N := 9) hi (by omega) c18
        refine lv_iconst (v := 1) hx hb dX0_closed_50 (by decide) ?_
        exact rt_R K hr hlocks (rfl) (by unfold cd_closed; rw [decide_eq_true c8, hA]; rfl) dX0_closed_51
      · have hlt := cd_lt (N := 9) hi (by omega) c18
        refine lv_iload_n hx hb dX0_closed_21 rfl (lv_at hl 2 rfl) ?_
        refine lv_iload_n hx hb dX0_closed_22 rfl (lv_at hl 0 rfl) ?_
        refine k_X0_in K ⟨Nat.le_of_ble_eq_true rfl, Nat.le_of_ble_eq_true rfl⟩ ⟨Nat.le_of_ble_eq_true rfl, Nat.le_of_ble_eq_true rfl⟩ hl.1 (Nat.le_of_ble_eq_true rfl) dX0_closed_23 ?_
        refine lv_if_eq (tgt := 44) hx hb dX0_closed_26 (by decide) (fun c26 => ?_) (fun c26 => ?_)
        · refine lv_iinc (v := nI (i + 1)) (lv' := [(2, .int (nI (i + 1))), (0, .ref (ad 0)), (1, .int S)]) hx hb dX0_closed_44 hl (k := 0) rfl (cd_inc i) (by decide) rfl (fun ls hl => ?_)
          refine lv_goto (tgt := 15) hx hb dX0_closed_47 (by decide) ?_
          exact ih _ (i + 1) (by omega) (by omega) (by show (cd_all _ i && cd_clq _ _ i) = true; rw [hA]; unfold cd_clq; rw [cd_zb_eq c26]; rfl) (lv_sub hl [0, 1, 2] rfl)
        · refine lv_aload_n hx hb dX0_closed_29 rfl (lv_at hl 1 rfl) ?_
          refine dg_N K hP dX0_closed_30 ?_
          refine lv_iload_n hx hb dX0_closed_33 rfl (lv_at hl 0 rfl) ?_
          refine dl_N K hP i (by omega) rfl dX0_closed_34 ?_
          refine lv_iload_n hx hb dX0_closed_35 rfl (lv_at hl 2 rfl) ?_
          refine lv_iconst (v := (-1)) hx hb dX0_closed_36 (by decide) ?_
          refine lv_ixor hx hb dX0_closed_37 ?_
          refine lv_iand hx hb dX0_closed_38 ?_
          refine lv_if_eq (tgt := 44) hx hb dX0_closed_39 (by decide) (fun c39 => ?_) (fun c39 => ?_)
          · refine lv_iinc (v := nI (i + 1)) (lv' := [(2, .int (nI (i + 1))), (0, .ref (ad 0)), (1, .int S)]) hx hb dX0_closed_44 hl (k := 0) rfl (cd_inc i) (by decide) rfl (fun ls hl => ?_)
            refine lv_goto (tgt := 15) hx hb dX0_closed_47 (by decide) ?_
            exact ih _ (i + 1) (by omega) (by omega) (by show (cd_all _ i && cd_clq _ _ i) = true; rw [hA]; unfold cd_clq; rw [decide_eq_true c39, Bool.or_true]; rfl) (lv_sub hl [0, 1, 2] rfl)
          · refine lv_iconst (v := 0) hx hb dX0_closed_42 (by decide) ?_
            exact rt_R K hr hlocks (rfl) (by unfold cd_closed; rw [cd_all_false hlt (by unfold cd_clq; rw [cd_zb_ne c26, decide_eq_false c39]; rfl), Bool.and_false]; rfl) dX0_closed_43
  · refine lv_iconst (v := 0) hx hb dX0_closed_11 (by decide) ?_
    exact rt_R K hr hlocks (rfl) (by unfold cd_closed; rw [decide_eq_false c8]; rfl) dX0_closed_12
set_option maxHeartbeats 4000000 in
set_option maxRecDepth 100000 in
theorem m_X0_closure (l : Launch) (D : va_G) (ad : Nat → Nat) (ca : Nat → ClassId) (σ : cd_D) (S : Int32) : cR l D (dkT ca) (dkW ad ca σ) yX0_closure cX0_closure 5 (some .int) (cd_rm 1) [.ref (ad 0), .int S] (cd_closure (gP σ) (gN σ) S) := by
  refine en_R (own := RX0) (by decide) rfl (Nat.le_of_ble_eq_true rfl) ?_
  intro p e s m below meth c ls K hr hlocks hP hl
  have hl : lv_has ls 5 [(0, .ref (ad 0)), (1, .int S)] := hl
  obtain ⟨hx, hb, hml, hown, hts⟩ := id K
  refine lv_iload_n hx hb dX0_closure_0 rfl (lv_at hl 1 rfl) ?_
  refine lv_aload_n hx hb dX0_closure_1 rfl (lv_at hl 0 rfl) ?_
  refine dg_P K hP dX0_closure_2 ?_
  refine lv_iand hx hb dX0_closure_5 ?_
  refine lv_istore_n (lv' := [(2, .int (S &&& (gP σ))), (0, .ref (ad 0)), (1, .int S)]) hx hb dX0_closure_6 rfl hl (by decide) rfl (fun ls hl => ?_)
  refine lv_iconst (v := 0) hx hb dX0_closure_7 (by decide) ?_
  refine lv_istore_n (lv' := [(3, .int 0), (2, .int (S &&& (gP σ))), (0, .ref (ad 0)), (1, .int S)]) hx hb dX0_closure_8 rfl hl (by decide) rfl (fun ls hl => ?_)
  refine w_ls (fun ls1 el => ?_)
  obtain ⟨n, i, a, hi, hn, ha, hl⟩ : ∃ (n i : Nat) (a : Int32), i ≤ 9 ∧ 9 < i + n ∧ (a = cd_it (cd_clR (gN σ)) i (S &&& gP σ)) ∧ lv_has ls1 5 [(3, .int (nI i)), (2, .int a), (0, .ref (ad 0)), (1, .int S)] := ⟨(9 + 1), 0, _, by omega, by omega, rfl, by rw [el]; exact hl⟩
  clear el
  induction n generalizing ls1 i a with
  | zero => exact absurd hn (by omega)
  | succ n ih =>
    refine lv_iload_n hx hb dX0_closure_9 rfl (lv_at hl 0 rfl) ?_
    refine lv_bipush (v := 9) hx hb dX0_closure_10 (by decide) ?_
    refine lv_icmp_ge (tgt := 60) hx hb dX0_closure_12 (by decide) (fun c12 => ?_) (fun c12 => ?_)
    · obtain rfl := cd_ge (N := 9) hi (by omega) c12
      refine lv_iload_n hx hb dX0_closure_60 rfl (lv_at hl 1 rfl) ?_
      exact rt_R K hr hlocks (rfl) (ha) dX0_closure_61
    · have hlt := cd_lt (N := 9) hi (by omega) c12
      refine lv_iconst (v := 0) hx hb dX0_closure_15 (by decide) ?_
      refine lv_istore (lv' := [(4, .int 0), (3, .int (nI i)), (2, .int a), (0, .ref (ad 0)), (1, .int S)]) hx hb dX0_closure_16 hl (by decide) rfl (fun ls hl => ?_)
      refine w_ls (fun ls1 el => ?_)
      obtain ⟨n2, j, b, hj, hn2, hb2, hl⟩ : ∃ (n2 j : Nat) (b : Int32), j ≤ 9 ∧ 9 < j + n2 ∧ (b = cd_it (cd_cl1 (gN σ)) j a) ∧ lv_has ls1 5 [(4, .int (nI j)), (3, .int (nI i)), (2, .int b), (0, .ref (ad 0)), (1, .int S)] := ⟨(9 + 1), 0, a, by omega, by omega, rfl, by rw [el]; exact hl⟩
      clear el
      induction n2 generalizing ls1 j b with
      | zero => exact absurd hn2 (by omega)
      | succ n2 ih2 =>
        refine lv_iload hx hb dX0_closure_18 (lv_at hl 0 rfl) ?_
        refine lv_bipush (v := 9) hx hb dX0_closure_20 (by decide) ?_
        refine lv_icmp_ge (tgt := 54) hx hb dX0_closure_22 (by decide) (fun c22 => ?_) (fun c22 => ?_)
        · obtain rfl := cd_ge (N := 9) hj (by omega) c22
          refine lv_iinc (v := nI (i + 1)) (lv' := [(3, .int (nI (i + 1))), (4, .int (nI 9)), (2, .int b), (0, .ref (ad 0)), (1, .int S)]) hx hb dX0_closure_54 hl (k := 1) rfl (cd_inc i) (by decide) rfl (fun ls hl => ?_)
          refine lv_goto (tgt := 9) hx hb dX0_closure_57 (by decide) ?_
          exact ih _ (i + 1) b (by omega) (by omega) (by rw [cd_it_s, ← ha]; exact hb2) (lv_sub hl [0, 2, 3, 4] rfl)
        · have hlt2 := cd_lt (N := 9) hj (by omega) c22
          refine lv_iload_n hx hb dX0_closure_25 rfl (lv_at hl 2 rfl) ?_
          refine lv_iload_n hx hb dX0_closure_26 rfl (lv_at hl 2 rfl) ?_
          refine lv_iload hx hb dX0_closure_27 (lv_at hl 0 rfl) ?_
          refine k_X0_in K ⟨Nat.le_of_ble_eq_true rfl, Nat.le_of_ble_eq_true rfl⟩ ⟨Nat.le_of_ble_eq_true rfl, Nat.le_of_ble_eq_true rfl⟩ hl.1 (Nat.le_of_ble_eq_true rfl) dX0_closure_29 ?_
          refine lv_if_eq (tgt := 45) hx hb dX0_closure_32 (by decide) (fun c32 => ?_) (fun c32 => ?_)
          · refine lv_iconst (v := 0) hx hb dX0_closure_45 (by decide) ?_
            refine lv_ior hx hb dX0_closure_46 ?_
            refine lv_istore_n (lv' := [(2, .int (b ||| 0)), (4, .int (nI j)), (3, .int (nI i)), (0, .ref (ad 0)), (1, .int S)]) hx hb dX0_closure_47 rfl hl (by decide) rfl (fun ls hl => ?_)
            refine lv_iinc (v := nI (j + 1)) (lv' := [(4, .int (nI (j + 1))), (2, .int (b ||| 0)), (3, .int (nI i)), (0, .ref (ad 0)), (1, .int S)]) hx hb dX0_closure_48 hl (k := 1) rfl (cd_inc j) (by decide) rfl (fun ls hl => ?_)
            refine lv_goto (tgt := 18) hx hb dX0_closure_51 (by decide) ?_
            exact ih2 _ (j + 1) _ (by omega) (by omega) (by rw [cd_it_s, ← hb2]; unfold cd_cl1; rw [cd_zb_eq c32]; rfl) (lv_sub hl [0, 2, 1, 3, 4] rfl)
          · refine lv_aload_n hx hb dX0_closure_35 rfl (lv_at hl 3 rfl) ?_
            refine dg_N K hP dX0_closure_36 ?_
            refine lv_iload hx hb dX0_closure_39 (lv_at hl 0 rfl) ?_
            refine dl_N K hP j (by omega) rfl dX0_closure_41 ?_
            refine lv_goto (tgt := 46) hx hb dX0_closure_42 (by decide) ?_
            refine lv_ior hx hb dX0_closure_46 ?_
            refine lv_istore_n (lv' := [(2, .int (b ||| (gN σ j))), (4, .int (nI j)), (3, .int (nI i)), (0, .ref (ad 0)), (1, .int S)]) hx hb dX0_closure_47 rfl hl (by decide) rfl (fun ls hl => ?_)
            refine lv_iinc (v := nI (j + 1)) (lv' := [(4, .int (nI (j + 1))), (2, .int (b ||| (gN σ j))), (3, .int (nI i)), (0, .ref (ad 0)), (1, .int S)]) hx hb dX0_closure_48 hl (k := 1) rfl (cd_inc j) (by decide) rfl (fun ls hl => ?_)
            refine lv_goto (tgt := 18) hx hb dX0_closure_51 (by decide) ?_
            exact ih2 _ (j + 1) _ (by omega) (by omega) (by rw [cd_it_s, ← hb2]; unfold cd_cl1; rw [cd_zb_ne c32]; rfl) (lv_sub hl [0, 2, 1, 3, 4] rfl)
set_option maxHeartbeats 4000000 in
set_option maxRecDepth 100000 in
theorem m_X0_apart (l : Launch) (D : va_G) (ad : Nat → Nat) (ca : Nat → ClassId) (σ : cd_D) : cR l D (dkT ca) (dkW ad ca σ) yX0_apart cX0_apart 5 (some .int) (cd_rm 1) [.ref (ad 0)] (cd_apart (gP σ) (gR σ)) := by
  refine en_R (own := RX0) (by decide) rfl (Nat.le_of_ble_eq_true rfl) ?_
  intro p e s m below meth c ls K hr hlocks hP hl
  have hl : lv_has ls 5 [(0, .ref (ad 0))] := hl
  obtain ⟨hx, hb, hml, hown, hts⟩ := id K
  refine lv_sipush (v := 1024) hx hb dX0_apart_0 (by decide) ?_
  refine lv_istore_n (lv' := [(1, .int 1024), (0, .ref (ad 0))]) hx hb dX0_apart_3 rfl hl (by decide) rfl (fun ls hl => ?_)
  refine lv_iconst (v := 0) hx hb dX0_apart_4 (by decide) ?_
  refine lv_istore_n (lv' := [(2, .int 0), (1, .int 1024), (0, .ref (ad 0))]) hx hb dX0_apart_5 rfl hl (by decide) rfl (fun ls hl => ?_)
  refine w_ls (fun ls1 el => ?_)
  obtain ⟨n, i, a, hi, hn, ha, hl⟩ : ∃ (n i : Nat) (a : Int32), i ≤ 11 ∧ 11 < i + n ∧ (a = cd_it (cd_ap3 (gR σ)) i 1024) ∧ lv_has ls1 5 [(2, .int (nI i)), (1, .int a), (0, .ref (ad 0))] := ⟨(11 + 1), 0, _, by omega, by omega, rfl, by rw [el]; exact hl⟩
  clear el
  induction n generalizing ls1 i a with
  | zero => exact absurd hn (by omega)
  | succ n ih =>
    refine lv_iload_n hx hb dX0_apart_6 rfl (lv_at hl 0 rfl) ?_
    refine lv_bipush (v := 11) hx hb dX0_apart_7 (by decide) ?_
    refine lv_icmp_ge (tgt := 82) hx hb dX0_apart_9 (by decide) (fun c9 => ?_) (fun c9 => ?_)
    · obtain rfl := cd_ge (N := 11) hi (by omega) c9
      refine lv_aload_n hx hb dX0_apart_82 rfl (lv_at hl 2 rfl) ?_
      refine dg_P K hP dX0_apart_83 ?_
      refine lv_iload_n hx hb dX0_apart_86 rfl (lv_at hl 1 rfl) ?_
      refine lv_iconst (v := (-1)) hx hb dX0_apart_87 (by decide) ?_
      refine lv_ixor hx hb dX0_apart_88 ?_
      refine lv_iand hx hb dX0_apart_89 ?_
      exact rt_R K hr hlocks (rfl) (by rw [ha]; rfl) dX0_apart_90
    · have hlt := cd_lt (N := 11) hi (by omega) c9
      refine lv_iconst (v := 0) hx hb dX0_apart_12 (by decide) ?_
      refine lv_istore_n (lv' := [(3, .int 0), (2, .int (nI i)), (1, .int a), (0, .ref (ad 0))]) hx hb dX0_apart_13 rfl hl (by decide) rfl (fun ls hl => ?_)
      refine w_ls (fun ls1 el => ?_)
      obtain ⟨n2, j, b, hj, hn2, hb2, hl⟩ : ∃ (n2 j : Nat) (b : Int32), j ≤ 11 ∧ 11 < j + n2 ∧ (b = cd_it (cd_ap2 (gR σ)) j a) ∧ lv_has ls1 5 [(3, .int (nI j)), (2, .int (nI i)), (1, .int b), (0, .ref (ad 0))] := ⟨(11 + 1), 0, a, by omega, by omega, rfl, by rw [el]; exact hl⟩
      clear el
      induction n2 generalizing ls1 j b with
      | zero => exact absurd hn2 (by omega)
      | succ n2 ih2 =>
        refine lv_iload_n hx hb dX0_apart_14 rfl (lv_at hl 0 rfl) ?_
        refine lv_bipush (v := 11) hx hb dX0_apart_15 (by decide) ?_
        refine lv_icmp_ge (tgt := 76) hx hb dX0_apart_17 (by decide) (fun c17 => ?_) (fun c17 => ?_)
        · obtain rfl := cd_ge (N := 11) hj (by omega) c17
          refine lv_iinc (v := nI (i + 1)) (lv' := [(2, .int (nI (i + 1))), (3, .int (nI 11)), (1, .int b), (0, .ref (ad 0))]) hx hb dX0_apart_76 hl (k := 1) rfl (cd_inc i) (by decide) rfl (fun ls hl => ?_)
          refine lv_goto (tgt := 6) hx hb dX0_apart_79 (by decide) ?_
          exact ih _ (i + 1) b (by omega) (by omega) (by rw [cd_it_s, ← ha]; exact hb2) (lv_sub hl [0, 2, 3] rfl)
        · have hlt2 := cd_lt (N := 11) hj (by omega) c17
          refine lv_iconst (v := 0) hx hb dX0_apart_20 (by decide) ?_
          refine lv_istore (lv' := [(4, .int 0), (3, .int (nI j)), (2, .int (nI i)), (1, .int b), (0, .ref (ad 0))]) hx hb dX0_apart_21 hl (by decide) rfl (fun ls hl => ?_)
          refine w_ls (fun ls1 el => ?_)
          obtain ⟨n3, k, d, hk, hn3, hd, hl⟩ : ∃ (n3 k : Nat) (d : Int32), k ≤ 11 ∧ 11 < k + n3 ∧ (d = cd_it (cd_ap1 (gR σ) j) k b) ∧ lv_has ls1 5 [(4, .int (nI k)), (3, .int (nI j)), (2, .int (nI i)), (1, .int d), (0, .ref (ad 0))] := ⟨(11 + 1), 0, b, by omega, by omega, rfl, by rw [el]; exact hl⟩
          clear el
          induction n3 generalizing ls1 k d with
          | zero => exact absurd hn3 (by omega)
          | succ n3 ih3 =>
            refine lv_iload hx hb dX0_apart_23 (lv_at hl 0 rfl) ?_
            refine lv_bipush (v := 11) hx hb dX0_apart_25 (by decide) ?_
            refine lv_icmp_ge (tgt := 70) hx hb dX0_apart_27 (by decide) (fun c27 => ?_) (fun c27 => ?_)
            · obtain rfl := cd_ge (N := 11) hk (by omega) c27
              refine lv_iinc (v := nI (j + 1)) (lv' := [(3, .int (nI (j + 1))), (4, .int (nI 11)), (2, .int (nI i)), (1, .int d), (0, .ref (ad 0))]) hx hb dX0_apart_70 hl (k := 1) rfl (cd_inc j) (by decide) rfl (fun ls hl => ?_)
              refine lv_goto (tgt := 14) hx hb dX0_apart_73 (by decide) ?_
              exact ih2 _ (j + 1) d (by omega) (by omega) (by rw [cd_it_s, ← hb2]; exact hd) (lv_sub hl [0, 2, 3, 4] rfl)
            · have hlt3 := cd_lt (N := 11) hk (by omega) c27
              refine lv_iload_n hx hb dX0_apart_30 rfl (lv_at hl 3 rfl) ?_
              refine lv_iload_n hx hb dX0_apart_31 rfl (lv_at hl 3 rfl) ?_
              refine lv_iload hx hb dX0_apart_32 (lv_at hl 0 rfl) ?_
              refine k_X0_in K ⟨Nat.le_of_ble_eq_true rfl, Nat.le_of_ble_eq_true rfl⟩ ⟨Nat.le_of_ble_eq_true rfl, Nat.le_of_ble_eq_true rfl⟩ hl.1 (Nat.le_of_ble_eq_true rfl) dX0_apart_34 ?_
              refine lv_if_eq (tgt := 61) hx hb dX0_apart_37 (by decide) (fun c37 => ?_) (fun c37 => ?_)
              · refine lv_iconst (v := 0) hx hb dX0_apart_61 (by decide) ?_
                refine lv_ior hx hb dX0_apart_62 ?_
                refine lv_istore_n (lv' := [(1, .int (d ||| 0)), (4, .int (nI k)), (3, .int (nI j)), (2, .int (nI i)), (0, .ref (ad 0))]) hx hb dX0_apart_63 rfl hl (by decide) rfl (fun ls hl => ?_)
                refine lv_iinc (v := nI (k + 1)) (lv' := [(4, .int (nI (k + 1))), (1, .int (d ||| 0)), (3, .int (nI j)), (2, .int (nI i)), (0, .ref (ad 0))]) hx hb dX0_apart_64 hl (k := 1) rfl (cd_inc k) (by decide) rfl (fun ls hl => ?_)
                refine lv_goto (tgt := 23) hx hb dX0_apart_67 (by decide) ?_
                exact ih3 _ (k + 1) _ (by omega) (by omega) (by rw [cd_it_s, ← hd]; unfold cd_ap1; rw [cd_zb_eq c37]; rfl) (lv_sub hl [0, 2, 3, 1, 4] rfl)
              · refine lv_aload_n hx hb dX0_apart_40 rfl (lv_at hl 4 rfl) ?_
                refine dg_R K hP dX0_apart_41 ?_
                refine lv_iload_n hx hb dX0_apart_44 rfl (lv_at hl 1 rfl) ?_
                refine lv_bipush (v := 11) hx hb dX0_apart_45 (by decide) ?_
                refine lv_imul hx hb dX0_apart_47 ?_
                refine lv_iload hx hb dX0_apart_48 (lv_at hl 0 rfl) ?_
                refine lv_iadd hx hb dX0_apart_50 ?_
                refine dl_R K hP (j * 11 + k) (by omega) (cd_ixm j k) dX0_apart_51 ?_
                refine lv_if_le (tgt := 61) hx hb dX0_apart_52 (by decide) (fun c52 => ?_) (fun c52 => ?_)
                · refine lv_iconst (v := 0) hx hb dX0_apart_61 (by decide) ?_
                  refine lv_ior hx hb dX0_apart_62 ?_
                  refine lv_istore_n (lv' := [(1, .int (d ||| 0)), (4, .int (nI k)), (3, .int (nI j)), (2, .int (nI i)), (0, .ref (ad 0))]) hx hb dX0_apart_63 rfl hl (by decide) rfl (fun ls hl => ?_)
                  refine lv_iinc (v := nI (k + 1)) (lv' := [(4, .int (nI (k + 1))), (1, .int (d ||| 0)), (3, .int (nI j)), (2, .int (nI i)), (0, .ref (ad 0))]) hx hb dX0_apart_64 hl (k := 1) rfl (cd_inc k) (by decide) rfl (fun ls hl => ?_)
                  refine lv_goto (tgt := 23) hx hb dX0_apart_67 (by decide) ?_
                  exact ih3 _ (k + 1) _ (by omega) (by omega) (by rw [cd_it_s, ← hd]; unfold cd_ap1; rw [cd_zb_ne c37, decide_eq_false (fun q => q c52)]; rfl) (lv_sub hl [0, 2, 3, 1, 4] rfl)
                · refine lv_iconst (v := 1) hx hb dX0_apart_55 (by decide) ?_
                  refine lv_iload_n hx hb dX0_apart_56 rfl (lv_at hl 1 rfl) ?_
                  refine lv_ishl hx hb dX0_apart_57 ?_
                  refine lv_goto (tgt := 62) hx hb dX0_apart_58 (by decide) ?_
                  refine lv_ior hx hb dX0_apart_62 ?_
                  refine lv_istore_n (lv' := [(1, .int (d ||| ((1 : Int32) <<< (nI j &&& 31)))), (4, .int (nI k)), (3, .int (nI j)), (2, .int (nI i)), (0, .ref (ad 0))]) hx hb dX0_apart_63 rfl hl (by decide) rfl (fun ls hl => ?_)
                  refine lv_iinc (v := nI (k + 1)) (lv' := [(4, .int (nI (k + 1))), (1, .int (d ||| ((1 : Int32) <<< (nI j &&& 31)))), (3, .int (nI j)), (2, .int (nI i)), (0, .ref (ad 0))]) hx hb dX0_apart_64 hl (k := 1) rfl (cd_inc k) (by decide) rfl (fun ls hl => ?_)
                  refine lv_goto (tgt := 23) hx hb dX0_apart_67 (by decide) ?_
                  exact ih3 _ (k + 1) _ (by omega) (by omega) (by rw [cd_it_s, ← hd]; unfold cd_ap1; rw [cd_zb_ne c37, decide_eq_true c52]; rfl) (lv_sub hl [0, 2, 3, 1, 4] rfl)
set_option maxHeartbeats 4000000 in
set_option maxRecDepth 100000 in
theorem k_X0_apart {p : Program} {l : Launch} {e : Env} {R : Room} {s : State} {m : MethodId} {args : Array Value} {below : List Frame} {meth : Method} {c : Code} {H : Heap} {locs : List Loc} {cells slots : Nat} {Q : State → Prop} {cc : ByteArray} {nL pc : Nat} {ls : Array Slot} {rest : List Value} {D : va_G} {ad : Nat → Nat} {ca : Nat → ClassId} {σ : cd_D} (K : CallFix p m c cc nL s args lw_all RX0)  (hP : wP D (dkT ca) (dkW ad ca σ) s H) (hR : (cd_rm 1).frames + 1 ≤ R.frames ∧ 8 + (5 + 11) + (cd_rm 1).locals ≤ R.locals) (hf : cells + 0 ≤ R.cells ∧ slots + 0 ≤ R.slots) (hls : ls.size = nL) (hrm : (rest.map fun v => v.category).sum ≤ 8) (hdg : decode cc pc = .ok (.invokevirtual 63, 3)) (kk : W p l e R s m args below meth c H locs cells slots Q (F0 m (pc + 3) ls (.int (cd_apart (gP σ) (gR σ)) :: rest))) : W p l e R s m args below meth c H locs cells slots Q (F0 m pc ls (.ref (ad 0) :: rest)) :=
  cl_R K (m_X0_apart l D ad ca σ) (cwV 0 K.2.2.2.2 (lw_V q119 q121 qs5 q14 q122) rfl rfl rfl (by decide +kernel) hR) hP (va_recv hP.1 hP.2 (ci := 0) (q0 := 0) rfl rfl) rfl hls rfl hrm hf hdg kk
set_option maxHeartbeats 4000000 in
set_option maxRecDepth 100000 in
theorem m_X0_stays (l : Launch) (D : va_G) (ad : Nat → Nat) (ca : Nat → ClassId) (σ : cd_D) (S : Int32) (O : Int32) : cR l D (dkT ca) (dkW ad ca σ) yX0_stays cX0_stays 5 (some .boolean) (cd_rm 1) [.ref (ad 0), .int S, .int O] (cd_zb (cd_stays (gR σ) S O)) := by
  refine en_R (own := RX0) (by decide) rfl (Nat.le_of_ble_eq_true rfl) ?_
  intro p e s m below meth c ls K hr hlocks hP hl
  have hl : lv_has ls 5 [(0, .ref (ad 0)), (1, .int S), (2, .int O)] := hl
  obtain ⟨hx, hb, hml, hown, hts⟩ := id K
  refine lv_iconst (v := 0) hx hb dX0_stays_0 (by decide) ?_
  refine lv_istore_n (lv' := [(3, .int 0), (0, .ref (ad 0)), (1, .int S), (2, .int O)]) hx hb dX0_stays_1 rfl hl (by decide) rfl (fun ls hl => ?_)
  refine w_ls (fun ls1 el => ?_)
  obtain ⟨n, i, hi, hn, hA, hl⟩ : ∃ (n i : Nat), i ≤ 9 ∧ 9 < i + n ∧ (cd_all (cd_str (gR σ) S O) i = true) ∧ lv_has ls1 5 [(3, .int (nI i)), (0, .ref (ad 0)), (1, .int S), (2, .int O)] := ⟨(9 + 1), 0, by omega, by omega, rfl, by rw [el]; exact hl⟩
  clear el
  induction n generalizing ls1 i with
  | zero => exact absurd hn (by omega)
  | succ n ih =>
    refine lv_iload_n hx hb dX0_stays_2 rfl (lv_at hl 0 rfl) ?_
    refine lv_bipush (v := 9) hx hb dX0_stays_3 (by decide) ?_
    refine lv_icmp_ge (tgt := 68) hx hb dX0_stays_5 (by decide) (fun c5 => ?_) (fun c5 => ?_)
    · obtain rfl := cd_ge (N := 9) hi (by omega) c5
      refine lv_iconst (v := 1) hx hb dX0_stays_68 (by decide) ?_
      exact rt_R K hr hlocks (rfl) (by unfold cd_stays; rw [hA]; rfl) dX0_stays_69
    · have hlt := cd_lt (N := 9) hi (by omega) c5
      refine lv_iconst (v := 0) hx hb dX0_stays_8 (by decide) ?_
      refine lv_istore (lv' := [(4, .int 0), (3, .int (nI i)), (0, .ref (ad 0)), (1, .int S), (2, .int O)]) hx hb dX0_stays_9 hl (by decide) rfl (fun ls hl => ?_)
      refine w_ls (fun ls1 el => ?_)
      obtain ⟨n2, j, hj, hn2, hB, hl⟩ : ∃ (n2 j : Nat), j ≤ 9 ∧ 9 < j + n2 ∧ (cd_all (cd_stq (gR σ) S O i) j = true) ∧ lv_has ls1 5 [(4, .int (nI j)), (3, .int (nI i)), (0, .ref (ad 0)), (1, .int S), (2, .int O)] := ⟨(9 + 1), 0, by omega, by omega, rfl, by rw [el]; exact hl⟩
      clear el
      induction n2 generalizing ls1 j with
      | zero => exact absurd hn2 (by omega)
      | succ n2 ih2 =>
        refine lv_iload hx hb dX0_stays_11 (lv_at hl 0 rfl) ?_
        refine lv_bipush (v := 9) hx hb dX0_stays_13 (by decide) ?_
        refine lv_icmp_ge (tgt := 62) hx hb dX0_stays_15 (by decide) (fun c15 => ?_) (fun c15 => ?_)
        · obtain rfl := cd_ge (N := 9) hj (by omega) c15
          refine lv_iinc (v := nI (i + 1)) (lv' := [(3, .int (nI (i + 1))), (4, .int (nI 9)), (0, .ref (ad 0)), (1, .int S), (2, .int O)]) hx hb dX0_stays_62 hl (k := 1) rfl (cd_inc i) (by decide) rfl (fun ls hl => ?_)
          refine lv_goto (tgt := 2) hx hb dX0_stays_65 (by decide) ?_
          exact ih _ (i + 1) (by omega) (by omega) (by show (cd_all _ i && cd_str _ _ _ i) = true; rw [hA]; exact hB) (lv_sub hl [0, 2, 3, 4] rfl)
        · have hlt2 := cd_lt (N := 9) hj (by omega) c15
          refine lv_iload_n hx hb dX0_stays_18 rfl (lv_at hl 3 rfl) ?_
          refine lv_iload_n hx hb dX0_stays_19 rfl (lv_at hl 1 rfl) ?_
          refine k_X0_in K ⟨Nat.le_of_ble_eq_true rfl, Nat.le_of_ble_eq_true rfl⟩ ⟨Nat.le_of_ble_eq_true rfl, Nat.le_of_ble_eq_true rfl⟩ hl.1 (Nat.le_of_ble_eq_true rfl) dX0_stays_20 ?_
          refine lv_if_eq (tgt := 56) hx hb dX0_stays_23 (by decide) (fun c23 => ?_) (fun c23 => ?_)
          · refine lv_iinc (v := nI (j + 1)) (lv' := [(4, .int (nI (j + 1))), (3, .int (nI i)), (0, .ref (ad 0)), (1, .int S), (2, .int O)]) hx hb dX0_stays_56 hl (k := 0) rfl (cd_inc j) (by decide) rfl (fun ls hl => ?_)
            refine lv_goto (tgt := 11) hx hb dX0_stays_59 (by decide) ?_
            exact ih2 _ (j + 1) (by omega) (by omega) (by show (cd_all _ j && cd_stq _ _ _ i j) = true; rw [hB]; unfold cd_stq; rw [cd_zb_eq c23]; rfl) (lv_sub hl [0, 1, 2, 3, 4] rfl)
          · refine lv_iload_n hx hb dX0_stays_26 rfl (lv_at hl 4 rfl) ?_
            refine lv_iload_n hx hb dX0_stays_27 rfl (lv_at hl 3 rfl) ?_
            refine lv_iconst (v := (-1)) hx hb dX0_stays_28 (by decide) ?_
            refine lv_ixor hx hb dX0_stays_29 ?_
            refine lv_iand hx hb dX0_stays_30 ?_
            refine lv_iload hx hb dX0_stays_31 (lv_at hl 0 rfl) ?_
            refine k_X0_in K ⟨Nat.le_of_ble_eq_true rfl, Nat.le_of_ble_eq_true rfl⟩ ⟨Nat.le_of_ble_eq_true rfl, Nat.le_of_ble_eq_true rfl⟩ hl.1 (Nat.le_of_ble_eq_true rfl) dX0_stays_33 ?_
            refine lv_if_eq (tgt := 56) hx hb dX0_stays_36 (by decide) (fun c36 => ?_) (fun c36 => ?_)
            · refine lv_iinc (v := nI (j + 1)) (lv' := [(4, .int (nI (j + 1))), (3, .int (nI i)), (0, .ref (ad 0)), (1, .int S), (2, .int O)]) hx hb dX0_stays_56 hl (k := 0) rfl (cd_inc j) (by decide) rfl (fun ls hl => ?_)
              refine lv_goto (tgt := 11) hx hb dX0_stays_59 (by decide) ?_
              exact ih2 _ (j + 1) (by omega) (by omega) (by show (cd_all _ j && cd_stq _ _ _ i j) = true; rw [hB]; unfold cd_stq; rw [cd_zb_eq c36, Bool.false_and, Bool.and_false]; rfl) (lv_sub hl [0, 1, 2, 3, 4] rfl)
            · refine lv_aload_n hx hb dX0_stays_39 rfl (lv_at hl 2 rfl) ?_
              refine dg_R K hP dX0_stays_40 ?_
              refine lv_iload_n hx hb dX0_stays_43 rfl (lv_at hl 1 rfl) ?_
              refine lv_bipush (v := 11) hx hb dX0_stays_44 (by decide) ?_
              refine lv_imul hx hb dX0_stays_46 ?_
              refine lv_iload hx hb dX0_stays_47 (lv_at hl 0 rfl) ?_
              refine lv_iadd hx hb dX0_stays_49 ?_
              refine dl_R K hP (i * 11 + j) (by omega) (cd_ixm i j) dX0_stays_50 ?_
              refine lv_if_le (tgt := 56) hx hb dX0_stays_51 (by decide) (fun c51 => ?_) (fun c51 => ?_)
              · refine lv_iinc (v := nI (j + 1)) (lv' := [(4, .int (nI (j + 1))), (3, .int (nI i)), (0, .ref (ad 0)), (1, .int S), (2, .int O)]) hx hb dX0_stays_56 hl (k := 0) rfl (cd_inc j) (by decide) rfl (fun ls hl => ?_)
                refine lv_goto (tgt := 11) hx hb dX0_stays_59 (by decide) ?_
                exact ih2 _ (j + 1) (by omega) (by omega) (by show (cd_all _ j && cd_stq _ _ _ i j) = true; rw [hB]; unfold cd_stq; rw [decide_eq_false (fun q => q c51), Bool.and_false, Bool.and_false]; rfl) (lv_sub hl [0, 1, 2, 3, 4] rfl)
              · refine lv_iconst (v := 0) hx hb dX0_stays_54 (by decide) ?_
                exact rt_R K hr hlocks (rfl) (by unfold cd_stays; rw [cd_all_false hlt (show cd_str _ _ _ i = false from cd_all_false hlt2 (by unfold cd_stq; rw [cd_zb_ne c23, cd_zb_ne c36, decide_eq_true c51]; rfl))]; rfl) dX0_stays_55
set_option maxHeartbeats 4000000 in
set_option maxRecDepth 100000 in
theorem k_X0_stays {p : Program} {l : Launch} {e : Env} {R : Room} {s : State} {m : MethodId} {args : Array Value} {below : List Frame} {meth : Method} {c : Code} {H : Heap} {locs : List Loc} {cells slots : Nat} {Q : State → Prop} {cc : ByteArray} {nL pc : Nat} {ls : Array Slot} {rest : List Value} {D : va_G} {ad : Nat → Nat} {ca : Nat → ClassId} {σ : cd_D} {S O : Int32} (K : CallFix p m c cc nL s args lw_all RX0)  (hP : wP D (dkT ca) (dkW ad ca σ) s H) (hR : (cd_rm 1).frames + 1 ≤ R.frames ∧ 8 + (5 + 11) + (cd_rm 1).locals ≤ R.locals) (hf : cells + 0 ≤ R.cells ∧ slots + 0 ≤ R.slots) (hls : ls.size = nL) (hrm : (rest.map fun v => v.category).sum ≤ 8) (hdg : decode cc pc = .ok (.invokevirtual 81, 3)) (kk : W p l e R s m args below meth c H locs cells slots Q (F0 m (pc + 3) ls (.int (cd_zb (cd_stays (gR σ) S O)) :: rest))) : W p l e R s m args below meth c H locs cells slots Q (F0 m pc ls (.int O :: .int S :: .ref (ad 0) :: rest)) :=
  cl_R K (m_X0_stays l D ad ca σ S O) (cwV 2 K.2.2.2.2 (lw_V q154 q156 qs8 q14 q157) rfl rfl rfl (by decide +kernel) hR) hP (va_recv hP.1 hP.2 (ci := 0) (q0 := 0) rfl rfl) rfl hls rfl hrm hf hdg kk
end
section
/-! the desk's writers -/
set_option maxHeartbeats 4000000 in
set_option maxRecDepth 100000 in
theorem m_X0_add (l : Launch) (D : va_G) (ad : Nat → Nat) (ca : Nat → ClassId) (σ : cd_D) (w : Int32) : cWi l D (dkT ca) (dkW ad ca) σ yX0_add cX0_add 3 (some .int) (cd_rm 1) [.ref (ad 0), .int w] (fun r τ => cd_addP σ w r τ) := by
  refine en_Wi (own := RX0) (by decide) rfl (Nat.le_of_ble_eq_true rfl) ?_
  intro p e s m below meth c ls A K hr hlocks hS hl
  have hl : lv_has ls 3 [(0, .ref (ad 0)), (1, .int w)] := hl
  obtain ⟨hx, hb, hml, hown, hts⟩ := id K
  refine lv_iload_n hx hb dX0_add_0 rfl (lv_at hl 1 rfl) ?_
  refine k_X0_isWorth K ⟨Nat.le_of_ble_eq_true rfl, Nat.le_of_ble_eq_true rfl⟩ ⟨Nat.le_of_ble_eq_true rfl, Nat.le_of_ble_eq_true rfl⟩ hl.1 (Nat.le_of_ble_eq_true rfl) dX0_add_1 ?_
  refine lv_if_ne (tgt := 9) hx hb dX0_add_4 (by decide) (fun c4 => ?_) (fun c4 => ?_)
  · refine lv_iconst (v := 0) hx hb dX0_add_9 (by decide) ?_
    refine lv_istore_n (lv' := [(2, .int 0), (0, .ref (ad 0)), (1, .int w)]) hx hb dX0_add_10 rfl hl (by decide) rfl (fun ls hl => ?_)
    refine w_all (fun H1 locs1 ls1 eH eL el => ?_)
    obtain ⟨n, i, hi, hn, hA, hS, hl⟩ : ∃ (n i : Nat), i ≤ 9 ∧ 9 < i + n ∧ (∀ v, v < i → cd_has (gP σ) (nI v) = true) ∧ wS D (dkT ca) A s.heap (dkW ad ca σ) s H1 locs1 ∧ lv_has ls1 3 [(2, .int (nI i)), (0, .ref (ad 0)), (1, .int w)] := ⟨(9 + 1), 0, by omega, by omega, fun v hv => absurd hv (Nat.not_lt_zero v), by rw [eH, eL]; exact hS, by rw [el]; exact hl⟩
    clear eH eL el
    induction n generalizing H1 locs1 ls1 i with
    | zero => exact absurd hn (by omega)
    | succ n ih =>
      refine lv_iload_n hx hb dX0_add_11 rfl (lv_at hl 0 rfl) ?_
      refine lv_bipush (v := 9) hx hb dX0_add_12 (by decide) ?_
      refine lv_icmp_ge (tgt := 60) hx hb dX0_add_14 (by decide) (fun c14 => ?_) (fun c14 => ?_)
      · obtain rfl := cd_ge (N := 9) hi (by omega) c14
        refine lv_bipush (v := (-2)) hx hb dX0_add_60 (by decide) ?_
        exact rt_Wi K hr hlocks (rfl) hS (Or.inr (Or.inr ⟨cd_zb_ne c4, hA, rfl, rfl⟩)) dX0_add_62
      · have hlt := cd_lt (N := 9) hi (by omega) c14
        refine lv_aload_n hx hb dX0_add_17 rfl (lv_at hl 1 rfl) ?_
        refine lv_iload_n hx hb dX0_add_18 rfl (lv_at hl 0 rfl) ?_
        refine k_X0_has K hS.1 ⟨Nat.le_of_ble_eq_true rfl, Nat.le_of_ble_eq_true rfl⟩ ⟨Nat.le_of_ble_eq_true rfl, Nat.le_of_ble_eq_true rfl⟩ hl.1 (Nat.le_of_ble_eq_true rfl) dX0_add_19 ?_
        refine lv_if_ne (tgt := 54) hx hb dX0_add_22 (by decide) (fun c22 => ?_) (fun c22 => ?_)
        · refine lv_iinc (v := nI (i + 1)) (lv' := [(2, .int (nI (i + 1))), (0, .ref (ad 0)), (1, .int w)]) hx hb dX0_add_54 hl (k := 0) rfl (cd_inc i) (by decide) rfl (fun ls hl => ?_)
          refine lv_goto (tgt := 11) hx hb dX0_add_57 (by decide) ?_
          exact ih _ _ _ (i + 1) (by omega) (by omega) (lt_s hA (cd_zb_ne c22)) hS (lv_sub hl [0, 1, 2] rfl)
        · refine lv_aload_n hx hb dX0_add_25 rfl (lv_at hl 1 rfl) ?_
          refine lv_dup hx hb dX0_add_26 rfl ?_
          refine dg_P K hS.1 dX0_add_27 ?_
          refine lv_iconst (v := 1) hx hb dX0_add_30 (by decide) ?_
          refine lv_iload_n hx hb dX0_add_31 rfl (lv_at hl 0 rfl) ?_
          refine lv_ishl hx hb dX0_add_32 ?_
          refine lv_ior hx hb dX0_add_33 ?_
          refine dp_P K hS dX0_add_34 (fun H locs hS => ?_)
          refine lv_aload_n hx hb dX0_add_37 rfl (lv_at hl 1 rfl) ?_
          refine dg_W K hS.1 dX0_add_38 ?_
          refine lv_iload_n hx hb dX0_add_41 rfl (lv_at hl 0 rfl) ?_
          refine lv_iload_n hx hb dX0_add_42 rfl (lv_at hl 2 rfl) ?_
          refine lv_i2b (v := w.toInt8.toInt32) hx hb dX0_add_43 rfl ?_
          refine ds_W K hS i (by omega) rfl (w.toInt8.toInt32) (pk_vb _) dX0_add_44 (fun H locs hS => ?_)
          refine lv_aload_n hx hb dX0_add_45 rfl (lv_at hl 1 rfl) ?_
          refine dg_N K hS.1 dX0_add_46 ?_
          refine lv_iload_n hx hb dX0_add_49 rfl (lv_at hl 0 rfl) ?_
          refine lv_iconst (v := 0) hx hb dX0_add_50 (by decide) ?_
          refine ds_N K hS i (by omega) rfl (0) (by decide) dX0_add_51 (fun H locs hS => ?_)
          refine lv_iload_n hx hb dX0_add_52 rfl (lv_at hl 0 rfl) ?_
          exact rt_Wi K hr hlocks (rfl) hS (Or.inr (Or.inl ⟨cd_zb_ne c4, i, hlt, hA, cd_zb_eq c22, rfl, rfl⟩)) dX0_add_53
  · refine lv_iconst (v := (-1)) hx hb dX0_add_7 (by decide) ?_
    exact rt_Wi K hr hlocks (rfl) hS (Or.inl ⟨cd_zb_eq c4, rfl, rfl⟩) dX0_add_8
set_option maxHeartbeats 4000000 in
set_option maxRecDepth 100000 in
theorem m_X0_remove (l : Launch) (D : va_G) (ad : Nat → Nat) (ca : Nat → ClassId) (σ : cd_D) (u : Int32) : cWi l D (dkT ca) (dkW ad ca) σ yX0_remove cX0_remove 3 (some .boolean) (cd_rm 1) [.ref (ad 0), .int u] (fun r τ => cd_remP σ u r τ) := by
  refine en_Wi (own := RX0) (by decide) rfl (Nat.le_of_ble_eq_true rfl) ?_
  intro p e s m below meth c ls A K hr hlocks hS hl
  have hl : lv_has ls 3 [(0, .ref (ad 0)), (1, .int u)] := hl
  obtain ⟨hx, hb, hml, hown, hts⟩ := id K
  refine lv_aload_n hx hb dX0_remove_0 rfl (lv_at hl 0 rfl) ?_
  refine lv_iload_n hx hb dX0_remove_1 rfl (lv_at hl 1 rfl) ?_
  refine k_X0_has K hS.1 ⟨Nat.le_of_ble_eq_true rfl, Nat.le_of_ble_eq_true rfl⟩ ⟨Nat.le_of_ble_eq_true rfl, Nat.le_of_ble_eq_true rfl⟩ hl.1 (Nat.le_of_ble_eq_true rfl) dX0_remove_2 ?_
  refine lv_if_ne (tgt := 10) hx hb dX0_remove_5 (by decide) (fun c5 => ?_) (fun c5 => ?_)
  · refine lv_aload_n hx hb dX0_remove_10 rfl (lv_at hl 0 rfl) ?_
    refine lv_dup hx hb dX0_remove_11 rfl ?_
    refine dg_P K hS.1 dX0_remove_12 ?_
    refine lv_iconst (v := 1) hx hb dX0_remove_15 (by decide) ?_
    refine lv_iload_n hx hb dX0_remove_16 rfl (lv_at hl 1 rfl) ?_
    refine lv_ishl hx hb dX0_remove_17 ?_
    refine lv_iconst (v := (-1)) hx hb dX0_remove_18 (by decide) ?_
    refine lv_ixor hx hb dX0_remove_19 ?_
    refine lv_iand hx hb dX0_remove_20 ?_
    refine dp_P K hS dX0_remove_21 (fun H locs hS => ?_)
    refine lv_iconst (v := 0) hx hb dX0_remove_24 (by decide) ?_
    refine lv_istore_n (lv' := [(2, .int 0), (0, .ref (ad 0)), (1, .int u)]) hx hb dX0_remove_25 rfl hl (by decide) rfl (fun ls hl => ?_)
    refine w_all (fun H1 locs1 ls1 eH eL el => ?_)
    obtain ⟨n, i, x, hi, hn, hx2, hS, hl⟩ : ∃ (n i : Nat) (x : Nat → Int32), i ≤ 9 ∧ 9 < i + n ∧ (x = cd_it (cd_off u) i (gN σ)) ∧ wS D (dkT ca) A s.heap (dkW ad ca (sN (sP σ ((gP σ) &&& (((1 : Int32) <<< (u &&& 31)) ^^^ (-1)))) x)) s H1 locs1 ∧ lv_has ls1 3 [(2, .int (nI i)), (0, .ref (ad 0)), (1, .int u)] := ⟨(9 + 1), 0, gN σ, by omega, by omega, rfl, by rw [eH, eL]; exact hS, by rw [el]; exact hl⟩
    clear eH eL el
    induction n generalizing H1 locs1 ls1 i x with
    | zero => exact absurd hn (by omega)
    | succ n ih =>
      refine lv_iload_n hx hb dX0_remove_26 rfl (lv_at hl 0 rfl) ?_
      refine lv_bipush (v := 9) hx hb dX0_remove_27 (by decide) ?_
      refine lv_icmp_ge (tgt := 57) hx hb dX0_remove_29 (by decide) (fun c29 => ?_) (fun c29 => ?_)
      · obtain rfl := cd_ge (N := 9) hi (by omega) c29
        refine lv_iconst (v := 1) hx hb dX0_remove_57 (by decide) ?_
        exact rt_Wi K hr hlocks (rfl) hS (Or.inr ⟨cd_zb_ne c5, rfl, by rw [hx2]⟩) dX0_remove_58
      · have hlt := cd_lt (N := 9) hi (by omega) c29
        refine lv_aload_n hx hb dX0_remove_32 rfl (lv_at hl 1 rfl) ?_
        refine dg_N K hS.1 dX0_remove_33 ?_
        refine lv_iload_n hx hb dX0_remove_36 rfl (lv_at hl 0 rfl) ?_
        refine lv_aload_n hx hb dX0_remove_37 rfl (lv_at hl 1 rfl) ?_
        refine dg_N K hS.1 dX0_remove_38 ?_
        refine lv_iload_n hx hb dX0_remove_41 rfl (lv_at hl 0 rfl) ?_
        refine dl_N K hS.1 i (by omega) rfl dX0_remove_42 ?_
        refine lv_iconst (v := 1) hx hb dX0_remove_43 (by decide) ?_
        refine lv_iload_n hx hb dX0_remove_44 rfl (lv_at hl 2 rfl) ?_
        refine lv_ishl hx hb dX0_remove_45 ?_
        refine lv_iconst (v := (-1)) hx hb dX0_remove_46 (by decide) ?_
        refine lv_ixor hx hb dX0_remove_47 ?_
        refine lv_iand hx hb dX0_remove_48 ?_
        refine lv_i2s (v := ((gN (sN (sP σ ((gP σ) &&& (((1 : Int32) <<< (u &&& 31)) ^^^ (-1)))) x) i) &&& (((1 : Int32) <<< (u &&& 31)) ^^^ (-1))).toInt16.toInt32) hx hb dX0_remove_49 rfl ?_
        refine ds_N K hS i (by omega) rfl (((gN (sN (sP σ ((gP σ) &&& (((1 : Int32) <<< (u &&& 31)) ^^^ (-1)))) x) i) &&& (((1 : Int32) <<< (u &&& 31)) ^^^ (-1))).toInt16.toInt32) (pk_vs _) dX0_remove_50 (fun H locs hS => ?_)
        refine lv_iinc (v := nI (i + 1)) (lv' := [(2, .int (nI (i + 1))), (0, .ref (ad 0)), (1, .int u)]) hx hb dX0_remove_51 hl (k := 0) rfl (cd_inc i) (by decide) rfl (fun ls hl => ?_)
        refine lv_goto (tgt := 26) hx hb dX0_remove_54 (by decide) ?_
        exact ih _ _ _ (i + 1) _ (by omega) (by omega) (by rw [cd_it_s, ← hx2]; rfl) hS (lv_sub hl [0, 1, 2] rfl)
  · refine lv_iconst (v := 0) hx hb dX0_remove_8 (by decide) ?_
    exact rt_Wi K hr hlocks (rfl) hS (Or.inl ⟨cd_zb_eq c5, rfl, rfl⟩) dX0_remove_9
set_option maxHeartbeats 4000000 in
set_option maxRecDepth 100000 in
theorem m_X0_rate (l : Launch) (D : va_G) (ad : Nat → Nat) (ca : Nat → ClassId) (σ : cd_D) (u : Int32) (w : Int32) : cWi l D (dkT ca) (dkW ad ca) σ yX0_rate cX0_rate 3 (some .boolean) (cd_rm 1) [.ref (ad 0), .int u, .int w] (fun r τ => cd_ratP σ u w r τ) := by
  refine en_Wi (own := RX0) (by decide) rfl (Nat.le_of_ble_eq_true rfl) ?_
  intro p e s m below meth c ls A K hr hlocks hS hl
  have hl : lv_has ls 3 [(0, .ref (ad 0)), (1, .int u), (2, .int w)] := hl
  obtain ⟨hx, hb, hml, hown, hts⟩ := id K
  refine lv_aload_n hx hb dX0_rate_0 rfl (lv_at hl 0 rfl) ?_
  refine lv_iload_n hx hb dX0_rate_1 rfl (lv_at hl 1 rfl) ?_
  refine k_X0_has K hS.1 ⟨Nat.le_of_ble_eq_true rfl, Nat.le_of_ble_eq_true rfl⟩ ⟨Nat.le_of_ble_eq_true rfl, Nat.le_of_ble_eq_true rfl⟩ hl.1 (Nat.le_of_ble_eq_true rfl) dX0_rate_2 ?_
  refine lv_if_eq (tgt := 15) hx hb dX0_rate_5 (by decide) (fun c5 => ?_) (fun c5 => ?_)
  · refine lv_iconst (v := 0) hx hb dX0_rate_15 (by decide) ?_
    exact rt_Wi K hr hlocks (rfl) hS (Or.inl ⟨by rw [cd_zb_eq c5]; rfl, rfl, rfl⟩) dX0_rate_16
  · refine lv_iload_n hx hb dX0_rate_8 rfl (lv_at hl 2 rfl) ?_
    refine k_X0_isWorth K ⟨Nat.le_of_ble_eq_true rfl, Nat.le_of_ble_eq_true rfl⟩ ⟨Nat.le_of_ble_eq_true rfl, Nat.le_of_ble_eq_true rfl⟩ hl.1 (Nat.le_of_ble_eq_true rfl) dX0_rate_9 ?_
    refine lv_if_ne (tgt := 17) hx hb dX0_rate_12 (by decide) (fun c12 => ?_) (fun c12 => ?_)
    · obtain ⟨j, hj, rfl⟩ := cd_has_ix (cd_zb_ne c5)
      refine lv_aload_n hx hb dX0_rate_17 rfl (lv_at hl 0 rfl) ?_
      refine dg_W K hS.1 dX0_rate_18 ?_
      refine lv_iload_n hx hb dX0_rate_21 rfl (lv_at hl 1 rfl) ?_
      refine lv_iload_n hx hb dX0_rate_22 rfl (lv_at hl 2 rfl) ?_
      refine lv_i2b (v := w.toInt8.toInt32) hx hb dX0_rate_23 rfl ?_
      refine ds_W K hS j (by omega) rfl (w.toInt8.toInt32) (pk_vb _) dX0_rate_24 (fun H locs hS => ?_)
      refine lv_iconst (v := 1) hx hb dX0_rate_25 (by decide) ?_
      exact rt_Wi K hr hlocks (rfl) hS (Or.inr ⟨by rw [cd_zb_ne c5, cd_zb_ne c12]; rfl, rfl, by rw [nI_clamp (by omega)]⟩) dX0_rate_26
    · refine lv_iconst (v := 0) hx hb dX0_rate_15 (by decide) ?_
      exact rt_Wi K hr hlocks (rfl) hS (Or.inl ⟨by rw [cd_zb_eq c12, Bool.and_false], rfl, rfl⟩) dX0_rate_16
set_option maxHeartbeats 4000000 in
set_option maxRecDepth 100000 in
theorem m_X0_need (l : Launch) (D : va_G) (ad : Nat → Nat) (ca : Nat → ClassId) (σ : cd_D) (u : Int32) (v : Int32) (o : Int32) : cWi l D (dkT ca) (dkW ad ca) σ yX0_need cX0_need 4 (some .boolean) (cd_rm 1) [.ref (ad 0), .int u, .int v, .int o] (fun r τ => cd_neeP σ u v o r τ) := by
  refine en_Wi (own := RX0) (by decide) rfl (Nat.le_of_ble_eq_true rfl) ?_
  intro p e s m below meth c ls A K hr hlocks hS hl
  have hl : lv_has ls 4 [(0, .ref (ad 0)), (1, .int u), (2, .int v), (3, .int o)] := hl
  obtain ⟨hx, hb, hml, hown, hts⟩ := id K
  refine lv_aload_n hx hb dX0_need_0 rfl (lv_at hl 0 rfl) ?_
  refine lv_iload_n hx hb dX0_need_1 rfl (lv_at hl 1 rfl) ?_
  refine k_X0_has K hS.1 ⟨Nat.le_of_ble_eq_true rfl, Nat.le_of_ble_eq_true rfl⟩ ⟨Nat.le_of_ble_eq_true rfl, Nat.le_of_ble_eq_true rfl⟩ hl.1 (Nat.le_of_ble_eq_true rfl) dX0_need_2 ?_
  refine lv_if_eq (tgt := 21) hx hb dX0_need_5 (by decide) (fun c5 => ?_) (fun c5 => ?_)
  · refine lv_iconst (v := 0) hx hb dX0_need_21 (by decide) ?_
    exact rt_Wi K hr hlocks (rfl) hS (Or.inl ⟨by unfold cd_nok; rw [cd_zb_eq c5]; rfl, rfl, rfl⟩) dX0_need_22
  · refine lv_aload_n hx hb dX0_need_8 rfl (lv_at hl 0 rfl) ?_
    refine lv_iload_n hx hb dX0_need_9 rfl (lv_at hl 2 rfl) ?_
    refine k_X0_has K hS.1 ⟨Nat.le_of_ble_eq_true rfl, Nat.le_of_ble_eq_true rfl⟩ ⟨Nat.le_of_ble_eq_true rfl, Nat.le_of_ble_eq_true rfl⟩ hl.1 (Nat.le_of_ble_eq_true rfl) dX0_need_10 ?_
    refine lv_if_eq (tgt := 21) hx hb dX0_need_13 (by decide) (fun c13 => ?_) (fun c13 => ?_)
    · refine lv_iconst (v := 0) hx hb dX0_need_21 (by decide) ?_
      exact rt_Wi K hr hlocks (rfl) hS (Or.inl ⟨by unfold cd_nok; rw [cd_zb_eq c13, Bool.false_and, Bool.and_false], rfl, rfl⟩) dX0_need_22
    · refine lv_iload_n hx hb dX0_need_16 rfl (lv_at hl 1 rfl) ?_
      refine lv_iload_n hx hb dX0_need_17 rfl (lv_at hl 2 rfl) ?_
      refine lv_icmp_ne (tgt := 23) hx hb dX0_need_18 (by decide) (fun c18 => ?_) (fun c18 => ?_)
      · obtain ⟨j, hj, rfl⟩ := cd_has_ix (cd_zb_ne c5)
        refine lv_aload_n hx hb dX0_need_23 rfl (lv_at hl 0 rfl) ?_
        refine dg_N K hS.1 dX0_need_24 ?_
        refine lv_iload_n hx hb dX0_need_27 rfl (lv_at hl 1 rfl) ?_
        refine lv_iload_n hx hb dX0_need_28 rfl (lv_at hl 3 rfl) ?_
        refine lv_if_eq (tgt := 45) hx hb dX0_need_29 (by decide) (fun c29 => ?_) (fun c29 => ?_)
        · refine lv_aload_n hx hb dX0_need_45 rfl (lv_at hl 0 rfl) ?_
          refine dg_N K hS.1 dX0_need_46 ?_
          refine lv_iload_n hx hb dX0_need_49 rfl (lv_at hl 1 rfl) ?_
          refine dl_N K hS.1 j (by omega) rfl dX0_need_50 ?_
          refine lv_iconst (v := 1) hx hb dX0_need_51 (by decide) ?_
          refine lv_iload_n hx hb dX0_need_52 rfl (lv_at hl 2 rfl) ?_
          refine lv_ishl hx hb dX0_need_53 ?_
          refine lv_iconst (v := (-1)) hx hb dX0_need_54 (by decide) ?_
          refine lv_ixor hx hb dX0_need_55 ?_
          refine lv_iand hx hb dX0_need_56 ?_
          refine lv_i2s (v := ((gN σ j) &&& (((1 : Int32) <<< (v &&& 31)) ^^^ (-1))).toInt16.toInt32) hx hb dX0_need_57 rfl ?_
          refine ds_N K hS j (by omega) rfl (((gN σ j) &&& (((1 : Int32) <<< (v &&& 31)) ^^^ (-1))).toInt16.toInt32) (pk_vs _) dX0_need_58 (fun H locs hS => ?_)
          refine lv_iconst (v := 1) hx hb dX0_need_59 (by decide) ?_
          exact rt_Wi K hr hlocks (rfl) hS (Or.inr ⟨by unfold cd_nok; rw [cd_zb_ne c5, cd_zb_ne c13, decide_eq_true c18]; rfl, rfl, by rw [nI_clamp (by omega)]; unfold cd_nv; rw [if_pos c29]⟩) dX0_need_60
        · refine lv_aload_n hx hb dX0_need_32 rfl (lv_at hl 0 rfl) ?_
          refine dg_N K hS.1 dX0_need_33 ?_
          refine lv_iload_n hx hb dX0_need_36 rfl (lv_at hl 1 rfl) ?_
          refine dl_N K hS.1 j (by omega) rfl dX0_need_37 ?_
          refine lv_iconst (v := 1) hx hb dX0_need_38 (by decide) ?_
          refine lv_iload_n hx hb dX0_need_39 rfl (lv_at hl 2 rfl) ?_
          refine lv_ishl hx hb dX0_need_40 ?_
          refine lv_ior hx hb dX0_need_41 ?_
          refine lv_goto (tgt := 57) hx hb dX0_need_42 (by decide) ?_
          refine lv_i2s (v := ((gN σ j) ||| ((1 : Int32) <<< (v &&& 31))).toInt16.toInt32) hx hb dX0_need_57 rfl ?_
          refine ds_N K hS j (by omega) rfl (((gN σ j) ||| ((1 : Int32) <<< (v &&& 31))).toInt16.toInt32) (pk_vs _) dX0_need_58 (fun H locs hS => ?_)
          refine lv_iconst (v := 1) hx hb dX0_need_59 (by decide) ?_
          exact rt_Wi K hr hlocks (rfl) hS (Or.inr ⟨by unfold cd_nok; rw [cd_zb_ne c5, cd_zb_ne c13, decide_eq_true c18]; rfl, rfl, by rw [nI_clamp (by omega)]; unfold cd_nv; rw [if_neg c29]⟩) dX0_need_60
      · refine lv_iconst (v := 0) hx hb dX0_need_21 (by decide) ?_
        exact rt_Wi K hr hlocks (rfl) hS (Or.inl ⟨by unfold cd_nok; rw [decide_eq_false (fun q => q c18), Bool.and_false, Bool.and_false], rfl, rfl⟩) dX0_need_22
set_option maxHeartbeats 4000000 in
set_option maxRecDepth 100000 in
theorem k_X0_need {p : Program} {l : Launch} {e : Env} {R : Room} {s : State} {m : MethodId} {args : Array Value} {below : List Frame} {meth : Method} {c : Code} {H : Heap} {locs : List Loc} {cells slots : Nat} {Q : State → Prop} {cc : ByteArray} {nL pc : Nat} {ls : Array Slot} {rest : List Value} {D : va_G} {A : Nat → Prop} {H0 : Heap} {ad : Nat → Nat} {ca : Nat → ClassId} {σ : cd_D} {u v o : Int32} (K : CallFix p m c cc nL s args lw_all RX0)  (hS : wS D (dkT ca) A H0 (dkW ad ca σ) s H locs) (hR : (cd_rm 1).frames + 1 ≤ R.frames ∧ 8 + (4 + 11) + (cd_rm 1).locals ≤ R.locals) (hf : cells + 0 ≤ R.cells ∧ slots + 0 ≤ R.slots) (hls : ls.size = nL) (hrm : (rest.map fun v => v.category).sum ≤ 8) (hdg : decode cc pc = .ok (.invokevirtual 77, 3)) (kk : ∀ (rr : Int32) (zz : cd_D) (H1 : Heap) (locs1 : List Loc), (fun r τ => cd_neeP σ u v o r τ) rr zz → wS D (dkT ca) A H0 (dkW ad ca zz) s H1 locs1 → W p l e R s m args below meth c H1 locs1 cells slots Q (F0 m (pc + 3) ls (.int rr :: rest))) : W p l e R s m args below meth c H locs cells slots Q (F0 m pc ls (.int o :: .int v :: .int u :: .ref (ad 0) :: rest)) :=
  cl_Wi K (m_X0_need l D ad ca σ u v o) (cwV 3 K.2.2.2.2 (lw_V q149 q72 q73 q14 q74) rfl rfl rfl (by decide +kernel) hR) hS (va_recv hS.1.1 hS.1.2 (ci := 0) (q0 := 0) rfl rfl) rfl hls rfl hrm hf hdg kk
set_option maxHeartbeats 4000000 in
set_option maxRecDepth 100000 in
theorem m_X0_askPlainly (l : Launch) (D : va_G) (ad : Nat → Nat) (ca : Nat → ClassId) (σ : cd_D) : cWv l D (dkT ca) (dkW ad ca) σ yX0_askPlainly cX0_askPlainly 2 none (cd_rm 0) [.ref (ad 0)] (fun τ => τ = sK σ (cd_it (cd_ask (gW σ)) 9 (gK σ))) := by
  refine en_Wv (own := RX0) (by decide) rfl (Nat.le_of_ble_eq_true rfl) ?_
  intro p e s m below meth c ls A K hr hlocks hS hl
  have hl : lv_has ls 2 [(0, .ref (ad 0))] := hl
  obtain ⟨hx, hb, hml, hown, hts⟩ := id K
  refine lv_iconst (v := 0) hx hb dX0_askPlainly_0 (by decide) ?_
  refine lv_istore_n (lv' := [(1, .int 0), (0, .ref (ad 0))]) hx hb dX0_askPlainly_1 rfl hl (by decide) rfl (fun ls hl => ?_)
  refine w_all (fun H1 locs1 ls1 eH eL el => ?_)
  obtain ⟨n, i, x, hi, hn, hx2, hS, hl⟩ : ∃ (n i : Nat) (x : Nat → Int32), i ≤ 9 ∧ 9 < i + n ∧ (x = cd_it (cd_ask (gW σ)) i (gK σ)) ∧ wS D (dkT ca) A s.heap (dkW ad ca (sK σ x)) s H1 locs1 ∧ lv_has ls1 2 [(1, .int (nI i)), (0, .ref (ad 0))] := ⟨(9 + 1), 0, gK σ, by omega, by omega, rfl, by rw [eH, eL]; exact hS, by rw [el]; exact hl⟩
  clear eH eL el
  induction n generalizing H1 locs1 ls1 i x with
  | zero => exact absurd hn (by omega)
  | succ n ih =>
    refine lv_iload_n hx hb dX0_askPlainly_2 rfl (lv_at hl 0 rfl) ?_
    refine lv_bipush (v := 9) hx hb dX0_askPlainly_3 (by decide) ?_
    refine lv_icmp_ge (tgt := 26) hx hb dX0_askPlainly_5 (by decide) (fun c5 => ?_) (fun c5 => ?_)
    · obtain rfl := cd_ge (N := 9) hi (by omega) c5
      exact rt_Wv K hr hlocks hS (by show _ = _; rw [hx2]) dX0_askPlainly_26
    · have hlt := cd_lt (N := 9) hi (by omega) c5
      refine lv_aload_n hx hb dX0_askPlainly_8 rfl (lv_at hl 1 rfl) ?_
      refine dg_K K hS.1 dX0_askPlainly_9 ?_
      refine lv_iload_n hx hb dX0_askPlainly_12 rfl (lv_at hl 0 rfl) ?_
      refine lv_aload_n hx hb dX0_askPlainly_13 rfl (lv_at hl 1 rfl) ?_
      refine dg_W K hS.1 dX0_askPlainly_14 ?_
      refine lv_iload_n hx hb dX0_askPlainly_17 rfl (lv_at hl 0 rfl) ?_
      refine dl_W K hS.1 i (by omega) rfl dX0_askPlainly_18 ?_
      refine ds_K K hS i (by omega) rfl dX0_askPlainly_19 (fun H locs hS => ?_)
      refine lv_iinc (v := nI (i + 1)) (lv' := [(1, .int (nI (i + 1))), (0, .ref (ad 0))]) hx hb dX0_askPlainly_20 hl (k := 0) rfl (cd_inc i) (by decide) rfl (fun ls hl => ?_)
      refine lv_goto (tgt := 2) hx hb dX0_askPlainly_23 (by decide) ?_
      exact ih _ _ _ (i + 1) _ (by omega) (by omega) (by rw [cd_it_s, ← hx2]; rfl) hS (lv_sub hl [0, 1] rfl)
set_option maxHeartbeats 4000000 in
set_option maxRecDepth 100000 in
theorem k_X0_askPlainly {p : Program} {l : Launch} {e : Env} {R : Room} {s : State} {m : MethodId} {args : Array Value} {below : List Frame} {meth : Method} {c : Code} {H : Heap} {locs : List Loc} {cells slots : Nat} {Q : State → Prop} {cc : ByteArray} {nL pc : Nat} {ls : Array Slot} {rest : List Value} {D : va_G} {A : Nat → Prop} {H0 : Heap} {ad : Nat → Nat} {ca : Nat → ClassId} {σ : cd_D} (K : CallFix p m c cc nL s args lw_all RX0)  (hS : wS D (dkT ca) A H0 (dkW ad ca σ) s H locs) (hR : (cd_rm 0).frames + 1 ≤ R.frames ∧ 8 + (2 + 11) + (cd_rm 0).locals ≤ R.locals) (hf : cells + 0 ≤ R.cells ∧ slots + 0 ≤ R.slots) (hls : ls.size = nL) (hrm : (rest.map fun v => v.category).sum ≤ 8) (hdg : decode cc pc = .ok (.invokevirtual 57, 3)) (kk : ∀ (zz : cd_D) (H1 : Heap) (locs1 : List Loc), (fun τ => τ = sK σ (cd_it (cd_ask (gW σ)) 9 (gK σ))) zz → wS D (dkT ca) A H0 (dkW ad ca zz) s H1 locs1 → W p l e R s m args below meth c H1 locs1 cells slots Q (F0 m (pc + 3) ls rest)) : W p l e R s m args below meth c H locs cells slots Q (F0 m pc ls (.ref (ad 0) :: rest)) :=
  cl_Wv K (m_X0_askPlainly l D ad ca σ) (cwV 0 K.2.2.2.2 (lw_V q94 q96 qs1 q14 q97) rfl rfl rfl (by decide +kernel) hR) hS (va_recv hS.1.1 hS.1.2 (ci := 0) (q0 := 0) rfl rfl) rfl hls rfl hrm hf hdg kk
end
section
/-! the model's readers -/
set_option maxHeartbeats 4000000 in
set_option maxRecDepth 100000 in
theorem m_X1_undertakings (l : Launch) (D : va_G) (ad : Nat → Nat) (ca : Nat → ClassId) (μ : cd_M) : cR l D (mdT ca) (mdW ad ca μ) yX1_undertakings cX1_undertakings 3 (some .int) (cd_rm 0) [.ref (ad 0)] (cd_under (mT μ)) := by
  refine en_R (own := RX1) (by decide) rfl (Nat.le_of_ble_eq_true rfl) ?_
  intro p e s m below meth c ls K hr hlocks hP hl
  have hl : lv_has ls 3 [(0, .ref (ad 0))] := hl
  obtain ⟨hx, hb, hml, hown, hts⟩ := id K
  refine lv_iconst (v := 0) hx hb dX1_undertakings_0 (by decide) ?_
  refine lv_istore_n (lv' := [(1, .int 0), (0, .ref (ad 0))]) hx hb dX1_undertakings_1 rfl hl (by decide) rfl (fun ls hl => ?_)
  refine lv_iconst (v := 0) hx hb dX1_undertakings_2 (by decide) ?_
  refine lv_istore_n (lv' := [(2, .int 0), (1, .int 0), (0, .ref (ad 0))]) hx hb dX1_undertakings_3 rfl hl (by decide) rfl (fun ls hl => ?_)
  refine w_ls (fun ls1 el => ?_)
  obtain ⟨n, i, x, hi, hn, hx2, hl⟩ : ∃ (n i : Nat) (x : Int32), i ≤ 9 ∧ 9 < i + n ∧ (x = cd_it (cd_un1 (mT μ)) i 0) ∧ lv_has ls1 3 [(2, .int (nI i)), (1, .int x), (0, .ref (ad 0))] := ⟨(9 + 1), 0, 0, by omega, by omega, rfl, by rw [el]; exact hl⟩
  clear el
  induction n generalizing ls1 i x with
  | zero => exact absurd hn (by omega)
  | succ n ih =>
    refine lv_iload_n hx hb dX1_undertakings_4 rfl (lv_at hl 0 rfl) ?_
    refine lv_bipush (v := 9) hx hb dX1_undertakings_5 (by decide) ?_
    refine lv_icmp_ge (tgt := 35) hx hb dX1_undertakings_7 (by decide) (fun c7 => ?_) (fun c7 => ?_)
    · obtain rfl := cd_ge (N := 9) hi (by omega) c7
      refine lv_iload_n hx hb dX1_undertakings_35 rfl (lv_at hl 1 rfl) ?_
      exact rt_R K hr hlocks (rfl) (hx2) dX1_undertakings_36
    · have hlt := cd_lt (N := 9) hi (by omega) c7
      refine lv_aload_n hx hb dX1_undertakings_10 rfl (lv_at hl 2 rfl) ?_
      refine eg_T K hP dX1_undertakings_11 ?_
      refine lv_iload_n hx hb dX1_undertakings_14 rfl (lv_at hl 0 rfl) ?_
      refine el_T K hP i (by omega) rfl dX1_undertakings_15 ?_
      refine lv_if_eq (tgt := 27) hx hb dX1_undertakings_16 (by decide) (fun c16 => ?_) (fun c16 => ?_)
      · refine lv_iload_n hx hb dX1_undertakings_27 rfl (lv_at hl 1 rfl) ?_
        refine lv_istore_n (lv' := [(1, .int x), (2, .int (nI i)), (0, .ref (ad 0))]) hx hb dX1_undertakings_28 rfl hl (by decide) rfl (fun ls hl => ?_)
        refine lv_iinc (v := nI (i + 1)) (lv' := [(2, .int (nI (i + 1))), (1, .int x), (0, .ref (ad 0))]) hx hb dX1_undertakings_29 hl (k := 1) rfl (cd_inc i) (by decide) rfl (fun ls hl => ?_)
        refine lv_goto (tgt := 4) hx hb dX1_undertakings_32 (by decide) ?_
        exact ih _ (i + 1) _ (by omega) (by omega) (by rw [cd_it_s, ← hx2]; unfold cd_un1; rw [if_pos c16]) (lv_sub hl [0, 1, 2] rfl)
      · refine lv_iload_n hx hb dX1_undertakings_19 rfl (lv_at hl 1 rfl) ?_
        refine lv_iconst (v := 1) hx hb dX1_undertakings_20 (by decide) ?_
        refine lv_iload_n hx hb dX1_undertakings_21 rfl (lv_at hl 0 rfl) ?_
        refine lv_ishl hx hb dX1_undertakings_22 ?_
        refine lv_ior hx hb dX1_undertakings_23 ?_
        refine lv_goto (tgt := 28) hx hb dX1_undertakings_24 (by decide) ?_
        refine lv_istore_n (lv' := [(1, .int (x ||| ((1 : Int32) <<< (nI i &&& 31)))), (2, .int (nI i)), (0, .ref (ad 0))]) hx hb dX1_undertakings_28 rfl hl (by decide) rfl (fun ls hl => ?_)
        refine lv_iinc (v := nI (i + 1)) (lv' := [(2, .int (nI (i + 1))), (1, .int (x ||| ((1 : Int32) <<< (nI i &&& 31)))), (0, .ref (ad 0))]) hx hb dX1_undertakings_29 hl (k := 1) rfl (cd_inc i) (by decide) rfl (fun ls hl => ?_)
        refine lv_goto (tgt := 4) hx hb dX1_undertakings_32 (by decide) ?_
        exact ih _ (i + 1) _ (by omega) (by omega) (by rw [cd_it_s, ← hx2]; unfold cd_un1; rw [if_neg c16]) (lv_sub hl [0, 1, 2] rfl)
set_option maxHeartbeats 4000000 in
set_option maxRecDepth 100000 in
theorem k_X1_undertakings {p : Program} {l : Launch} {e : Env} {R : Room} {s : State} {m : MethodId} {args : Array Value} {below : List Frame} {meth : Method} {c : Code} {H : Heap} {locs : List Loc} {cells slots : Nat} {Q : State → Prop} {cc : ByteArray} {nL pc : Nat} {ls : Array Slot} {rest : List Value} {D : va_G} {ad : Nat → Nat} {ca : Nat → ClassId} {μ : cd_M} (K : CallFix p m c cc nL s args lw_all RX1)  (hP : wP D (mdT ca) (mdW ad ca μ) s H) (hR : (cd_rm 0).frames + 1 ≤ R.frames ∧ 8 + (3 + 11) + (cd_rm 0).locals ≤ R.locals) (hf : cells + 0 ≤ R.cells ∧ slots + 0 ≤ R.slots) (hls : ls.size = nL) (hrm : (rest.map fun v => v.category).sum ≤ 8) (hdg : decode cc pc = .ok (.invokevirtual 27, 3)) (kk : W p l e R s m args below meth c H locs cells slots Q (F0 m (pc + 3) ls (.int (cd_under (mT μ)) :: rest))) : W p l e R s m args below meth c H locs cells slots Q (F0 m pc ls (.ref (ad 0) :: rest)) :=
  cl_R K (m_X1_undertakings l D ad ca μ) (cwV 0 K.2.2.2.2 (lw_V q207 q200 q201 q15 q202) rfl rfl rfl (by decide +kernel) hR) hP (va_recv hP.1 hP.2 (ci := 1) (q0 := 0) rfl rfl) rfl hls rfl hrm hf hdg kk
set_option maxHeartbeats 4000000 in
set_option maxRecDepth 100000 in
theorem m_X1_closed (l : Launch) (D : va_G) (ad : Nat → Nat) (ca : Nat → ClassId) (μ : cd_M) (S : Int32) : cR l D (mdT ca) (mdW ad ca μ) yX1_closed cX1_closed 4 (some .boolean) (cd_rm 1) [.ref (ad 0), .int S] (cd_zb (cd_closed (cd_under (mT μ)) (mN μ) S)) := by
  refine en_R (own := RX1) (by decide) rfl (Nat.le_of_ble_eq_true rfl) ?_
  intro p e s m below meth c ls K hr hlocks hP hl
  have hl : lv_has ls 4 [(0, .ref (ad 0)), (1, .int S)] := hl
  obtain ⟨hx, hb, hml, hown, hts⟩ := id K
  refine lv_iload_n hx hb dX1_closed_0 rfl (lv_at hl 1 rfl) ?_
  refine lv_aload_n hx hb dX1_closed_1 rfl (lv_at hl 0 rfl) ?_
  refine k_X1_undertakings K hP ⟨Nat.le_of_ble_eq_true rfl, Nat.le_of_ble_eq_true rfl⟩ ⟨Nat.le_of_ble_eq_true rfl, Nat.le_of_ble_eq_true rfl⟩ hl.1 (Nat.le_of_ble_eq_true rfl) dX1_closed_2 ?_
  refine lv_iconst (v := (-1)) hx hb dX1_closed_5 (by decide) ?_
  refine lv_ixor hx hb dX1_closed_6 ?_
  refine lv_iand hx hb dX1_closed_7 ?_
  refine dm_ne hx hb dX1_closed_8 dX1_closed_11 dX1_closed_12 dX1_closed_15 ?_
  refine lv_istore_n (lv' := [(2, .int (cd_zb (decide (S &&& (cd_under (mT μ) ^^^ (-1)) = 0)))), (0, .ref (ad 0)), (1, .int S)]) hx hb dX1_closed_16 rfl hl (by decide) rfl (fun ls hl => ?_)
  refine lv_iconst (v := 0) hx hb dX1_closed_17 (by decide) ?_
  refine lv_istore_n (lv' := [(3, .int 0), (2, .int (cd_zb (decide (S &&& (cd_under (mT μ) ^^^ (-1)) = 0)))), (0, .ref (ad 0)), (1, .int S)]) hx hb dX1_closed_18 rfl hl (by decide) rfl (fun ls hl => ?_)
  refine w_ls (fun ls1 el => ?_)
  obtain ⟨n, i, b, hi, hn, hb2, hl⟩ : ∃ (n i : Nat) (b : Bool), i ≤ 9 ∧ 9 < i + n ∧ (b = (decide (S &&& (cd_under (mT μ) ^^^ (-1)) = 0) && cd_all (cd_clq (mN μ) S) i)) ∧ lv_has ls1 4 [(3, .int (nI i)), (2, .int (cd_zb b)), (0, .ref (ad 0)), (1, .int S)] := ⟨(9 + 1), 0, decide (S &&& (cd_under (mT μ) ^^^ (-1)) = 0), by omega, by omega, (Bool.and_true _).symm, by rw [el]; exact hl⟩
  clear el
  induction n generalizing ls1 i b with
  | zero => exact absurd hn (by omega)
  | succ n ih =>
    refine lv_iload_n hx hb dX1_closed_19 rfl (lv_at hl 0 rfl) ?_
    refine lv_bipush (v := 9) hx hb dX1_closed_20 (by decide) ?_
    refine lv_icmp_ge (tgt := 62) hx hb dX1_closed_22 (by decide) (fun c22 => ?_) (fun c22 => ?_)
    · obtain rfl := cd_ge (N := 9) hi (by omega) c22
      refine lv_iload_n hx hb dX1_closed_62 rfl (lv_at hl 1 rfl) ?_
      exact rt_R K hr hlocks (cd_zb_nar b) (by rw [hb2]; rfl) dX1_closed_63
    · have hlt := cd_lt (N := 9) hi (by omega) c22
      refine lv_iload_n hx hb dX1_closed_25 rfl (lv_at hl 1 rfl) ?_
      refine lv_if_eq (tgt := 54) hx hb dX1_closed_26 (by decide) (fun c26 => ?_) (fun c26 => ?_)
      · refine lv_iconst (v := 0) hx hb dX1_closed_54 (by decide) ?_
        refine lv_istore_n (lv' := [(2, .int 0), (3, .int (nI i)), (0, .ref (ad 0)), (1, .int S)]) hx hb dX1_closed_55 rfl hl (by decide) rfl (fun ls hl => ?_)
        refine lv_iinc (v := nI (i + 1)) (lv' := [(3, .int (nI (i + 1))), (2, .int 0), (0, .ref (ad 0)), (1, .int S)]) hx hb dX1_closed_56 hl (k := 1) rfl (cd_inc i) (by decide) rfl (fun ls hl => ?_)
        refine lv_goto (tgt := 19) hx hb dX1_closed_59 (by decide) ?_
        exact ih _ (i + 1) false (by omega) (by omega) (by show _ = (_ && (cd_all _ i && cd_clq _ _ i)); rw [← Bool.and_assoc, ← hb2, cd_zb_eq c26]; rfl) (lv_sub hl [0, 1, 2, 3] rfl)
      · refine lv_iload_n hx hb dX1_closed_29 rfl (lv_at hl 3 rfl) ?_
        refine lv_iload_n hx hb dX1_closed_30 rfl (lv_at hl 0 rfl) ?_
        refine lv_ishr hx hb dX1_closed_31 ?_
        refine lv_iconst (v := 1) hx hb dX1_closed_32 (by decide) ?_
        refine lv_iand hx hb dX1_closed_33 ?_
        refine lv_if_eq (tgt := 50) hx hb dX1_closed_34 (by decide) (fun c34 => ?_) (fun c34 => ?_)
        · refine lv_iconst (v := 1) hx hb dX1_closed_50 (by decide) ?_
          refine lv_goto (tgt := 55) hx hb dX1_closed_51 (by decide) ?_
          refine lv_istore_n (lv' := [(2, .int 1), (3, .int (nI i)), (0, .ref (ad 0)), (1, .int S)]) hx hb dX1_closed_55 rfl hl (by decide) rfl (fun ls hl => ?_)
          refine lv_iinc (v := nI (i + 1)) (lv' := [(3, .int (nI (i + 1))), (2, .int 1), (0, .ref (ad 0)), (1, .int S)]) hx hb dX1_closed_56 hl (k := 1) rfl (cd_inc i) (by decide) rfl (fun ls hl => ?_)
          refine lv_goto (tgt := 19) hx hb dX1_closed_59 (by decide) ?_
          exact ih _ (i + 1) true (by omega) (by omega) (by show _ = (_ && (cd_all _ i && cd_clq _ _ i)); rw [← Bool.and_assoc, ← hb2, cd_zb_ne c26]; unfold cd_clq; rw [cd_in_f c34]; rfl) (lv_sub hl [0, 1, 2, 3] rfl)
        · refine lv_aload_n hx hb dX1_closed_37 rfl (lv_at hl 2 rfl) ?_
          refine eg_N K hP dX1_closed_38 ?_
          refine lv_iload_n hx hb dX1_closed_41 rfl (lv_at hl 0 rfl) ?_
          refine el_N K hP i (by omega) rfl dX1_closed_42 ?_
          refine lv_iload_n hx hb dX1_closed_43 rfl (lv_at hl 3 rfl) ?_
          refine lv_iconst (v := (-1)) hx hb dX1_closed_44 (by decide) ?_
          refine lv_ixor hx hb dX1_closed_45 ?_
          refine lv_iand hx hb dX1_closed_46 ?_
          refine lv_if_ne (tgt := 54) hx hb dX1_closed_47 (by decide) (fun c47 => ?_) (fun c47 => ?_)
          · refine lv_iconst (v := 0) hx hb dX1_closed_54 (by decide) ?_
            refine lv_istore_n (lv' := [(2, .int 0), (3, .int (nI i)), (0, .ref (ad 0)), (1, .int S)]) hx hb dX1_closed_55 rfl hl (by decide) rfl (fun ls hl => ?_)
            refine lv_iinc (v := nI (i + 1)) (lv' := [(3, .int (nI (i + 1))), (2, .int 0), (0, .ref (ad 0)), (1, .int S)]) hx hb dX1_closed_56 hl (k := 1) rfl (cd_inc i) (by decide) rfl (fun ls hl => ?_)
            refine lv_goto (tgt := 19) hx hb dX1_closed_59 (by decide) ?_
            exact ih _ (i + 1) false (by omega) (by omega) (by show _ = (_ && (cd_all _ i && cd_clq _ _ i)); rw [← Bool.and_assoc, ← hb2, cd_zb_ne c26]; unfold cd_clq; rw [cd_in_t c34, decide_eq_false c47]; rfl) (lv_sub hl [0, 1, 2, 3] rfl)
          · refine lv_iconst (v := 1) hx hb dX1_closed_50 (by decide) ?_
            refine lv_goto (tgt := 55) hx hb dX1_closed_51 (by decide) ?_
            refine lv_istore_n (lv' := [(2, .int 1), (3, .int (nI i)), (0, .ref (ad 0)), (1, .int S)]) hx hb dX1_closed_55 rfl hl (by decide) rfl (fun ls hl => ?_)
            refine lv_iinc (v := nI (i + 1)) (lv' := [(3, .int (nI (i + 1))), (2, .int 1), (0, .ref (ad 0)), (1, .int S)]) hx hb dX1_closed_56 hl (k := 1) rfl (cd_inc i) (by decide) rfl (fun ls hl => ?_)
            refine lv_goto (tgt := 19) hx hb dX1_closed_59 (by decide) ?_
            exact ih _ (i + 1) true (by omega) (by omega) (by show _ = (_ && (cd_all _ i && cd_clq _ _ i)); rw [← Bool.and_assoc, ← hb2, cd_zb_ne c26]; unfold cd_clq; rw [decide_eq_true c47, Bool.or_true]; rfl) (lv_sub hl [0, 1, 2, 3] rfl)
set_option maxHeartbeats 4000000 in
set_option maxRecDepth 100000 in
theorem k_X1_closed {p : Program} {l : Launch} {e : Env} {R : Room} {s : State} {m : MethodId} {args : Array Value} {below : List Frame} {meth : Method} {c : Code} {H : Heap} {locs : List Loc} {cells slots : Nat} {Q : State → Prop} {cc : ByteArray} {nL pc : Nat} {ls : Array Slot} {rest : List Value} {D : va_G} {ad : Nat → Nat} {ca : Nat → ClassId} {μ : cd_M} {S : Int32} (K : CallFix p m c cc nL s args lw_all RX1)  (hP : wP D (mdT ca) (mdW ad ca μ) s H) (hR : (cd_rm 1).frames + 1 ≤ R.frames ∧ 8 + (4 + 11) + (cd_rm 1).locals ≤ R.locals) (hf : cells + 0 ≤ R.cells ∧ slots + 0 ≤ R.slots) (hls : ls.size = nL) (hrm : (rest.map fun v => v.category).sum ≤ 8) (hdg : decode cc pc = .ok (.invokevirtual 31, 3)) (kk : W p l e R s m args below meth c H locs cells slots Q (F0 m (pc + 3) ls (.int (cd_zb (cd_closed (cd_under (mT μ)) (mN μ) S)) :: rest))) : W p l e R s m args below meth c H locs cells slots Q (F0 m pc ls (.int S :: .ref (ad 0) :: rest)) :=
  cl_R K (m_X1_closed l D ad ca μ S) (cwV 1 K.2.2.2.2 (lw_V q212 q204 q205 q15 q206) rfl rfl rfl (by decide +kernel) hR) hP (va_recv hP.1 hP.2 (ci := 1) (q0 := 0) rfl rfl) rfl hls rfl hrm hf hdg kk
set_option maxHeartbeats 4000000 in
set_option maxRecDepth 100000 in
theorem m_X1_closure (l : Launch) (D : va_G) (ad : Nat → Nat) (ca : Nat → ClassId) (μ : cd_M) (S : Int32) : cR l D (mdT ca) (mdW ad ca μ) yX1_closure cX1_closure 5 (some .int) (cd_rm 2) [.ref (ad 0), .int S] (cd_mclosure (cd_under (mT μ)) (mN μ) S) := by
  refine en_R (own := RX1) (by decide) rfl (Nat.le_of_ble_eq_true rfl) ?_
  intro p e s m below meth c ls K hr hlocks hP hl
  have hl : lv_has ls 5 [(0, .ref (ad 0)), (1, .int S)] := hl
  obtain ⟨hx, hb, hml, hown, hts⟩ := id K
  refine lv_iload_n hx hb dX1_closure_0 rfl (lv_at hl 1 rfl) ?_
  refine lv_aload_n hx hb dX1_closure_1 rfl (lv_at hl 0 rfl) ?_
  refine k_X1_undertakings K hP ⟨Nat.le_of_ble_eq_true rfl, Nat.le_of_ble_eq_true rfl⟩ ⟨Nat.le_of_ble_eq_true rfl, Nat.le_of_ble_eq_true rfl⟩ hl.1 (Nat.le_of_ble_eq_true rfl) dX1_closure_2 ?_
  refine lv_iand hx hb dX1_closure_5 ?_
  refine lv_istore_n (lv' := [(2, .int (S &&& (cd_under (mT μ)))), (0, .ref (ad 0)), (1, .int S)]) hx hb dX1_closure_6 rfl hl (by decide) rfl (fun ls hl => ?_)
  refine lv_iconst (v := 0) hx hb dX1_closure_7 (by decide) ?_
  refine lv_istore_n (lv' := [(3, .int 0), (2, .int (S &&& (cd_under (mT μ)))), (0, .ref (ad 0)), (1, .int S)]) hx hb dX1_closure_8 rfl hl (by decide) rfl (fun ls hl => ?_)
  refine lv_sipush (v := 511) hx hb dX1_closure_9 (by decide) ?_
  refine lv_istore (lv' := [(4, .int 511), (3, .int 0), (2, .int (S &&& (cd_under (mT μ)))), (0, .ref (ad 0)), (1, .int S)]) hx hb dX1_closure_12 hl (by decide) rfl (fun ls hl => ?_)
  refine w_ls (fun ls1 el => ?_)
  obtain ⟨n, i, x, hi, hn, hx2, hl⟩ : ∃ (n i : Nat) (x : Int32), i ≤ 512 ∧ 512 < i + n ∧ (x = cd_it (cd_mc1 (cd_under (mT μ)) (mN μ) (S &&& cd_under (mT μ))) i 0) ∧ lv_has ls1 5 [(4, .int (cd_dn 511 i)), (3, .int x), (2, .int (S &&& (cd_under (mT μ)))), (0, .ref (ad 0)), (1, .int S)] := ⟨(512 + 1), 0, 0, by omega, by omega, rfl, by rw [el]; exact hl⟩
  clear el
  induction n generalizing ls1 i x with
  | zero => exact absurd hn (by omega)
  | succ n ih =>
    refine lv_iload hx hb dX1_closure_14 (lv_at hl 0 rfl) ?_
    refine lv_if_lt (tgt := 50) hx hb dX1_closure_16 (by decide) (fun c16 => ?_) (fun c16 => ?_)
    · obtain rfl := cd_dn_e1 hi c16
      refine lv_iload_n hx hb dX1_closure_50 rfl (lv_at hl 1 rfl) ?_
      exact rt_R K hr hlocks (rfl) (hx2) dX1_closure_51
    · have hlt := cd_dn_g1 hi c16
      refine lv_aload_n hx hb dX1_closure_19 rfl (lv_at hl 3 rfl) ?_
      refine lv_iload hx hb dX1_closure_20 (lv_at hl 0 rfl) ?_
      refine k_X1_closed K hP ⟨Nat.le_of_ble_eq_true rfl, Nat.le_of_ble_eq_true rfl⟩ ⟨Nat.le_of_ble_eq_true rfl, Nat.le_of_ble_eq_true rfl⟩ hl.1 (Nat.le_of_ble_eq_true rfl) dX1_closure_22 ?_
      refine lv_if_eq (tgt := 42) hx hb dX1_closure_25 (by decide) (fun c25 => ?_) (fun c25 => ?_)
      · refine lv_iload_n hx hb dX1_closure_42 rfl (lv_at hl 1 rfl) ?_
        refine lv_istore_n (lv' := [(3, .int x), (4, .int (cd_dn 511 i)), (2, .int (S &&& (cd_under (mT μ)))), (0, .ref (ad 0)), (1, .int S)]) hx hb dX1_closure_43 rfl hl (by decide) rfl (fun ls hl => ?_)
        refine lv_iinc (v := cd_dn 511 (i + 1)) (lv' := [(4, .int (cd_dn 511 (i + 1))), (3, .int x), (2, .int (S &&& (cd_under (mT μ)))), (0, .ref (ad 0)), (1, .int S)]) hx hb dX1_closure_44 hl (k := 1) rfl (cd_dn_inc 511 i) (by decide) rfl (fun ls hl => ?_)
        refine lv_goto (tgt := 14) hx hb dX1_closure_47 (by decide) ?_
        exact ih _ (i + 1) _ (by omega) (by omega) (by rw [cd_it_s, ← hx2]; unfold cd_mc1; rw [cd_zb_eq c25]; rfl) (lv_sub hl [0, 1, 2, 3, 4] rfl)
      · refine lv_iload_n hx hb dX1_closure_28 rfl (lv_at hl 2 rfl) ?_
        refine lv_iload hx hb dX1_closure_29 (lv_at hl 0 rfl) ?_
        refine lv_iconst (v := (-1)) hx hb dX1_closure_31 (by decide) ?_
        refine lv_ixor hx hb dX1_closure_32 ?_
        refine lv_iand hx hb dX1_closure_33 ?_
        refine lv_if_ne (tgt := 42) hx hb dX1_closure_34 (by decide) (fun c34 => ?_) (fun c34 => ?_)
        · refine lv_iload_n hx hb dX1_closure_42 rfl (lv_at hl 1 rfl) ?_
          refine lv_istore_n (lv' := [(3, .int x), (4, .int (cd_dn 511 i)), (2, .int (S &&& (cd_under (mT μ)))), (0, .ref (ad 0)), (1, .int S)]) hx hb dX1_closure_43 rfl hl (by decide) rfl (fun ls hl => ?_)
          refine lv_iinc (v := cd_dn 511 (i + 1)) (lv' := [(4, .int (cd_dn 511 (i + 1))), (3, .int x), (2, .int (S &&& (cd_under (mT μ)))), (0, .ref (ad 0)), (1, .int S)]) hx hb dX1_closure_44 hl (k := 1) rfl (cd_dn_inc 511 i) (by decide) rfl (fun ls hl => ?_)
          refine lv_goto (tgt := 14) hx hb dX1_closure_47 (by decide) ?_
          exact ih _ (i + 1) _ (by omega) (by omega) (by rw [cd_it_s, ← hx2]; unfold cd_mc1; rw [cd_zb_ne c25, decide_eq_false c34]; rfl) (lv_sub hl [0, 1, 2, 3, 4] rfl)
        · refine lv_iload hx hb dX1_closure_37 (lv_at hl 0 rfl) ?_
          refine lv_goto (tgt := 43) hx hb dX1_closure_39 (by decide) ?_
          refine lv_istore_n (lv' := [(3, .int (cd_dn 511 i)), (4, .int (cd_dn 511 i)), (2, .int (S &&& (cd_under (mT μ)))), (0, .ref (ad 0)), (1, .int S)]) hx hb dX1_closure_43 rfl hl (by decide) rfl (fun ls hl => ?_)
          refine lv_iinc (v := cd_dn 511 (i + 1)) (lv' := [(4, .int (cd_dn 511 (i + 1))), (3, .int (cd_dn 511 i)), (2, .int (S &&& (cd_under (mT μ)))), (0, .ref (ad 0)), (1, .int S)]) hx hb dX1_closure_44 hl (k := 1) rfl (cd_dn_inc 511 i) (by decide) rfl (fun ls hl => ?_)
          refine lv_goto (tgt := 14) hx hb dX1_closure_47 (by decide) ?_
          exact ih _ (i + 1) _ (by omega) (by omega) (by rw [cd_it_s, ← hx2]; unfold cd_mc1; rw [cd_zb_ne c25, decide_eq_true c34]; rfl) (lv_sub hl [0, 1, 2, 3, 4] rfl)
set_option maxHeartbeats 4000000 in
set_option maxRecDepth 100000 in
theorem m_X1_sum (l : Launch) (D : va_G) (ad : Nat → Nat) (ca : Nat → ClassId) (μ : cd_M) (S : Int32) : cR l D (mdT ca) (mdW ad ca μ) yX1_sum cX1_sum 4 (some .int) (cd_rm 0) [.ref (ad 0), .int S] (cd_sum (mW μ) S) := by
  refine en_R (own := RX1) (by decide) rfl (Nat.le_of_ble_eq_true rfl) ?_
  intro p e s m below meth c ls K hr hlocks hP hl
  have hl : lv_has ls 4 [(0, .ref (ad 0)), (1, .int S)] := hl
  obtain ⟨hx, hb, hml, hown, hts⟩ := id K
  refine lv_iconst (v := 0) hx hb dX1_sum_0 (by decide) ?_
  refine lv_istore_n (lv' := [(2, .int 0), (0, .ref (ad 0)), (1, .int S)]) hx hb dX1_sum_1 rfl hl (by decide) rfl (fun ls hl => ?_)
  refine lv_iconst (v := 0) hx hb dX1_sum_2 (by decide) ?_
  refine lv_istore_n (lv' := [(3, .int 0), (2, .int 0), (0, .ref (ad 0)), (1, .int S)]) hx hb dX1_sum_3 rfl hl (by decide) rfl (fun ls hl => ?_)
  refine w_ls (fun ls1 el => ?_)
  obtain ⟨n, i, x, hi, hn, hx2, hl⟩ : ∃ (n i : Nat) (x : Int32), i ≤ 9 ∧ 9 < i + n ∧ (x = cd_it (cd_su1 (mW μ) S) i 0) ∧ lv_has ls1 4 [(3, .int (nI i)), (2, .int x), (0, .ref (ad 0)), (1, .int S)] := ⟨(9 + 1), 0, 0, by omega, by omega, rfl, by rw [el]; exact hl⟩
  clear el
  induction n generalizing ls1 i x with
  | zero => exact absurd hn (by omega)
  | succ n ih =>
    refine lv_iload_n hx hb dX1_sum_4 rfl (lv_at hl 0 rfl) ?_
    refine lv_bipush (v := 9) hx hb dX1_sum_5 (by decide) ?_
    refine lv_icmp_ge (tgt := 38) hx hb dX1_sum_7 (by decide) (fun c7 => ?_) (fun c7 => ?_)
    · obtain rfl := cd_ge (N := 9) hi (by omega) c7
      refine lv_iload_n hx hb dX1_sum_38 rfl (lv_at hl 1 rfl) ?_
      exact rt_R K hr hlocks (rfl) (hx2) dX1_sum_39
    · have hlt := cd_lt (N := 9) hi (by omega) c7
      refine lv_iload_n hx hb dX1_sum_10 rfl (lv_at hl 3 rfl) ?_
      refine lv_iload_n hx hb dX1_sum_11 rfl (lv_at hl 0 rfl) ?_
      refine lv_ishr hx hb dX1_sum_12 ?_
      refine lv_iconst (v := 1) hx hb dX1_sum_13 (by decide) ?_
      refine lv_iand hx hb dX1_sum_14 ?_
      refine lv_iconst (v := 1) hx hb dX1_sum_15 (by decide) ?_
      refine lv_icmp_ne (tgt := 30) hx hb dX1_sum_16 (by decide) (fun c16 => ?_) (fun c16 => ?_)
      · refine lv_iload_n hx hb dX1_sum_30 rfl (lv_at hl 1 rfl) ?_
        refine lv_istore_n (lv' := [(2, .int x), (3, .int (nI i)), (0, .ref (ad 0)), (1, .int S)]) hx hb dX1_sum_31 rfl hl (by decide) rfl (fun ls hl => ?_)
        refine lv_iinc (v := nI (i + 1)) (lv' := [(3, .int (nI (i + 1))), (2, .int x), (0, .ref (ad 0)), (1, .int S)]) hx hb dX1_sum_32 hl (k := 1) rfl (cd_inc i) (by decide) rfl (fun ls hl => ?_)
        refine lv_goto (tgt := 4) hx hb dX1_sum_35 (by decide) ?_
        exact ih _ (i + 1) _ (by omega) (by omega) (by rw [cd_it_s, ← hx2]; unfold cd_su1; rw [if_neg c16]) (lv_sub hl [0, 1, 2, 3] rfl)
      · refine lv_iload_n hx hb dX1_sum_19 rfl (lv_at hl 1 rfl) ?_
        refine lv_aload_n hx hb dX1_sum_20 rfl (lv_at hl 2 rfl) ?_
        refine eg_W K hP dX1_sum_21 ?_
        refine lv_iload_n hx hb dX1_sum_24 rfl (lv_at hl 0 rfl) ?_
        refine el_W K hP i (by omega) rfl dX1_sum_25 ?_
        refine lv_iadd hx hb dX1_sum_26 ?_
        refine lv_goto (tgt := 31) hx hb dX1_sum_27 (by decide) ?_
        refine lv_istore_n (lv' := [(2, .int (x + (mW μ i))), (3, .int (nI i)), (0, .ref (ad 0)), (1, .int S)]) hx hb dX1_sum_31 rfl hl (by decide) rfl (fun ls hl => ?_)
        refine lv_iinc (v := nI (i + 1)) (lv' := [(3, .int (nI (i + 1))), (2, .int (x + (mW μ i))), (0, .ref (ad 0)), (1, .int S)]) hx hb dX1_sum_32 hl (k := 1) rfl (cd_inc i) (by decide) rfl (fun ls hl => ?_)
        refine lv_goto (tgt := 4) hx hb dX1_sum_35 (by decide) ?_
        exact ih _ (i + 1) _ (by omega) (by omega) (by rw [cd_it_s, ← hx2]; unfold cd_su1; rw [if_pos c16]) (lv_sub hl [0, 1, 2, 3] rfl)
set_option maxHeartbeats 4000000 in
set_option maxRecDepth 100000 in
theorem k_X1_sum {p : Program} {l : Launch} {e : Env} {R : Room} {s : State} {m : MethodId} {args : Array Value} {below : List Frame} {meth : Method} {c : Code} {H : Heap} {locs : List Loc} {cells slots : Nat} {Q : State → Prop} {cc : ByteArray} {nL pc : Nat} {ls : Array Slot} {rest : List Value} {D : va_G} {ad : Nat → Nat} {ca : Nat → ClassId} {μ : cd_M} {S : Int32} (K : CallFix p m c cc nL s args lw_all RX1)  (hP : wP D (mdT ca) (mdW ad ca μ) s H) (hR : (cd_rm 0).frames + 1 ≤ R.frames ∧ 8 + (4 + 11) + (cd_rm 0).locals ≤ R.locals) (hf : cells + 0 ≤ R.cells ∧ slots + 0 ≤ R.slots) (hls : ls.size = nL) (hrm : (rest.map fun v => v.category).sum ≤ 8) (hdg : decode cc pc = .ok (.invokevirtual 35, 3)) (kk : W p l e R s m args below meth c H locs cells slots Q (F0 m (pc + 3) ls (.int (cd_sum (mW μ) S) :: rest))) : W p l e R s m args below meth c H locs cells slots Q (F0 m pc ls (.int S :: .ref (ad 0) :: rest)) :=
  cl_R K (m_X1_sum l D ad ca μ S) (cwV 1 K.2.2.2.2 (lw_V q222 q224 qs12 q15 q225) rfl rfl rfl (by decide +kernel) hR) hP (va_recv hP.1 hP.2 (ci := 1) (q0 := 0) rfl rfl) rfl hls rfl hrm hf hdg kk
set_option maxHeartbeats 4000000 in
set_option maxRecDepth 100000 in
theorem m_X1_greatest (l : Launch) (D : va_G) (ad : Nat → Nat) (ca : Nat → ClassId) (μ : cd_M) (must : Int32) (never : Int32) : cR l D (mdT ca) (mdW ad ca μ) yX1_greatest cX1_greatest 6 (some .int) (cd_rm 2) [.ref (ad 0), .int must, .int never] (cd_greatest (cd_under (mT μ)) (mW μ) (mN μ) must never) := by
  refine en_R (own := RX1) (by decide) rfl (Nat.le_of_ble_eq_true rfl) ?_
  intro p e s m below meth c ls K hr hlocks hP hl
  have hl : lv_has ls 6 [(0, .ref (ad 0)), (1, .int must), (2, .int never)] := hl
  obtain ⟨hx, hb, hml, hown, hts⟩ := id K
  refine lv_ldc (v := (-100000)) hx hb hown (hts _ q221) dX1_greatest_0 ?_
  refine lv_istore_n (lv' := [(3, .int (-100000)), (0, .ref (ad 0)), (1, .int must), (2, .int never)]) hx hb dX1_greatest_2 rfl hl (by decide) rfl (fun ls hl => ?_)
  refine lv_iconst (v := 0) hx hb dX1_greatest_3 (by decide) ?_
  refine lv_istore (lv' := [(4, .int 0), (3, .int (-100000)), (0, .ref (ad 0)), (1, .int must), (2, .int never)]) hx hb dX1_greatest_4 hl (by decide) rfl (fun ls hl => ?_)
  refine w_ls (fun ls1 el => ?_)
  obtain ⟨n, i, x, hi, hn, hx2, hl⟩ : ∃ (n i : Nat) (x : Int32), i ≤ 512 ∧ 512 < i + n ∧ (x = cd_it (cd_gr1 (cd_under (mT μ)) (mW μ) (mN μ) must never) i (-100000)) ∧ lv_has ls1 6 [(4, .int (nI i)), (3, .int x), (0, .ref (ad 0)), (1, .int must), (2, .int never)] := ⟨(512 + 1), 0, (-100000), by omega, by omega, rfl, by rw [el]; exact hl⟩
  clear el
  induction n generalizing ls1 i x with
  | zero => exact absurd hn (by omega)
  | succ n ih =>
    refine lv_iload hx hb dX1_greatest_6 (lv_at hl 0 rfl) ?_
    refine lv_sipush (v := 512) hx hb dX1_greatest_8 (by decide) ?_
    refine lv_icmp_ge (tgt := 66) hx hb dX1_greatest_11 (by decide) (fun c11 => ?_) (fun c11 => ?_)
    · obtain rfl := cd_ge (N := 512) hi (by omega) c11
      refine lv_iload_n hx hb dX1_greatest_66 rfl (lv_at hl 1 rfl) ?_
      exact rt_R K hr hlocks (rfl) (hx2) dX1_greatest_67
    · have hlt := cd_lt (N := 512) hi (by omega) c11
      refine lv_iload_n hx hb dX1_greatest_14 rfl (lv_at hl 3 rfl) ?_
      refine lv_iload hx hb dX1_greatest_15 (lv_at hl 0 rfl) ?_
      refine lv_iconst (v := (-1)) hx hb dX1_greatest_17 (by decide) ?_
      refine lv_ixor hx hb dX1_greatest_18 ?_
      refine lv_iand hx hb dX1_greatest_19 ?_
      refine lv_if_ne (tgt := 60) hx hb dX1_greatest_20 (by decide) (fun c20 => ?_) (fun c20 => ?_)
      · refine lv_iinc (v := nI (i + 1)) (lv' := [(4, .int (nI (i + 1))), (3, .int x), (0, .ref (ad 0)), (1, .int must), (2, .int never)]) hx hb dX1_greatest_60 hl (k := 0) rfl (cd_inc i) (by decide) rfl (fun ls hl => ?_)
        refine lv_goto (tgt := 6) hx hb dX1_greatest_63 (by decide) ?_
        exact ih _ (i + 1) _ (by omega) (by omega) (by rw [cd_it_s, ← hx2]; unfold cd_gr1 cd_gq; rw [decide_eq_false c20]; rfl) (lv_sub hl [0, 1, 2, 3, 4] rfl)
      · refine lv_iload_n hx hb dX1_greatest_23 rfl (lv_at hl 4 rfl) ?_
        refine lv_iload hx hb dX1_greatest_24 (lv_at hl 0 rfl) ?_
        refine lv_iand hx hb dX1_greatest_26 ?_
        refine lv_if_ne (tgt := 60) hx hb dX1_greatest_27 (by decide) (fun c27 => ?_) (fun c27 => ?_)
        · refine lv_iinc (v := nI (i + 1)) (lv' := [(4, .int (nI (i + 1))), (3, .int x), (0, .ref (ad 0)), (1, .int must), (2, .int never)]) hx hb dX1_greatest_60 hl (k := 0) rfl (cd_inc i) (by decide) rfl (fun ls hl => ?_)
          refine lv_goto (tgt := 6) hx hb dX1_greatest_63 (by decide) ?_
          exact ih _ (i + 1) _ (by omega) (by omega) (by rw [cd_it_s, ← hx2]; unfold cd_gr1 cd_gq; rw [decide_eq_true c20, decide_eq_false c27]; rfl) (lv_sub hl [0, 1, 2, 3, 4] rfl)
        · refine lv_aload_n hx hb dX1_greatest_30 rfl (lv_at hl 2 rfl) ?_
          refine lv_iload hx hb dX1_greatest_31 (lv_at hl 0 rfl) ?_
          refine k_X1_closed K hP ⟨Nat.le_of_ble_eq_true rfl, Nat.le_of_ble_eq_true rfl⟩ ⟨Nat.le_of_ble_eq_true rfl, Nat.le_of_ble_eq_true rfl⟩ hl.1 (Nat.le_of_ble_eq_true rfl) dX1_greatest_33 ?_
          refine lv_if_eq (tgt := 60) hx hb dX1_greatest_36 (by decide) (fun c36 => ?_) (fun c36 => ?_)
          · refine lv_iinc (v := nI (i + 1)) (lv' := [(4, .int (nI (i + 1))), (3, .int x), (0, .ref (ad 0)), (1, .int must), (2, .int never)]) hx hb dX1_greatest_60 hl (k := 0) rfl (cd_inc i) (by decide) rfl (fun ls hl => ?_)
            refine lv_goto (tgt := 6) hx hb dX1_greatest_63 (by decide) ?_
            exact ih _ (i + 1) _ (by omega) (by omega) (by rw [cd_it_s, ← hx2]; unfold cd_gr1 cd_gq; rw [decide_eq_true c20, decide_eq_true c27, cd_zb_eq c36]; rfl) (lv_sub hl [0, 1, 2, 3, 4] rfl)
          · refine lv_aload_n hx hb dX1_greatest_39 rfl (lv_at hl 2 rfl) ?_
            refine lv_iload hx hb dX1_greatest_40 (lv_at hl 0 rfl) ?_
            refine k_X1_sum K hP ⟨Nat.le_of_ble_eq_true rfl, Nat.le_of_ble_eq_true rfl⟩ ⟨Nat.le_of_ble_eq_true rfl, Nat.le_of_ble_eq_true rfl⟩ hl.1 (Nat.le_of_ble_eq_true rfl) dX1_greatest_42 ?_
            refine lv_istore (lv' := [(5, .int (cd_sum (mW μ) (nI i))), (4, .int (nI i)), (3, .int x), (0, .ref (ad 0)), (1, .int must), (2, .int never)]) hx hb dX1_greatest_45 hl (by decide) rfl (fun ls hl => ?_)
            refine lv_iload hx hb dX1_greatest_47 (lv_at hl 0 rfl) ?_
            refine lv_iload_n hx hb dX1_greatest_49 rfl (lv_at hl 2 rfl) ?_
            refine lv_icmp_le (tgt := 58) hx hb dX1_greatest_50 (by decide) (fun c50 => ?_) (fun c50 => ?_)
            · refine lv_iload_n hx hb dX1_greatest_58 rfl (lv_at hl 2 rfl) ?_
              refine lv_istore_n (lv' := [(3, .int x), (5, .int (cd_sum (mW μ) (nI i))), (4, .int (nI i)), (0, .ref (ad 0)), (1, .int must), (2, .int never)]) hx hb dX1_greatest_59 rfl hl (by decide) rfl (fun ls hl => ?_)
              refine lv_iinc (v := nI (i + 1)) (lv' := [(4, .int (nI (i + 1))), (3, .int x), (5, .int (cd_sum (mW μ) (nI i))), (0, .ref (ad 0)), (1, .int must), (2, .int never)]) hx hb dX1_greatest_60 hl (k := 2) rfl (cd_inc i) (by decide) rfl (fun ls hl => ?_)
              refine lv_goto (tgt := 6) hx hb dX1_greatest_63 (by decide) ?_
              exact ih _ (i + 1) _ (by omega) (by omega) (by rw [cd_it_s, ← hx2]; unfold cd_gr1 cd_gq; rw [decide_eq_true c20, decide_eq_true c27, cd_zb_ne c36, if_pos (show (true && (true && true)) = true from rfl), if_pos c50]) (lv_sub hl [0, 1, 3, 4, 5] rfl)
            · refine lv_iload hx hb dX1_greatest_53 (lv_at hl 0 rfl) ?_
              refine lv_goto (tgt := 59) hx hb dX1_greatest_55 (by decide) ?_
              refine lv_istore_n (lv' := [(3, .int (cd_sum (mW μ) (nI i))), (5, .int (cd_sum (mW μ) (nI i))), (4, .int (nI i)), (0, .ref (ad 0)), (1, .int must), (2, .int never)]) hx hb dX1_greatest_59 rfl hl (by decide) rfl (fun ls hl => ?_)
              refine lv_iinc (v := nI (i + 1)) (lv' := [(4, .int (nI (i + 1))), (3, .int (cd_sum (mW μ) (nI i))), (5, .int (cd_sum (mW μ) (nI i))), (0, .ref (ad 0)), (1, .int must), (2, .int never)]) hx hb dX1_greatest_60 hl (k := 2) rfl (cd_inc i) (by decide) rfl (fun ls hl => ?_)
              refine lv_goto (tgt := 6) hx hb dX1_greatest_63 (by decide) ?_
              exact ih _ (i + 1) _ (by omega) (by omega) (by rw [cd_it_s, ← hx2]; unfold cd_gr1 cd_gq; rw [decide_eq_true c20, decide_eq_true c27, cd_zb_ne c36, if_pos (show (true && (true && true)) = true from rfl), if_neg c50]) (lv_sub hl [0, 1, 3, 4, 5] rfl)
set_option maxHeartbeats 4000000 in
set_option maxRecDepth 100000 in
theorem k_X1_greatest {p : Program} {l : Launch} {e : Env} {R : Room} {s : State} {m : MethodId} {args : Array Value} {below : List Frame} {meth : Method} {c : Code} {H : Heap} {locs : List Loc} {cells slots : Nat} {Q : State → Prop} {cc : ByteArray} {nL pc : Nat} {ls : Array Slot} {rest : List Value} {D : va_G} {ad : Nat → Nat} {ca : Nat → ClassId} {μ : cd_M} {must never : Int32} (K : CallFix p m c cc nL s args lw_all RX1)  (hP : wP D (mdT ca) (mdW ad ca μ) s H) (hR : (cd_rm 2).frames + 1 ≤ R.frames ∧ 8 + (6 + 11) + (cd_rm 2).locals ≤ R.locals) (hf : cells + 0 ≤ R.cells ∧ slots + 0 ≤ R.slots) (hls : ls.size = nL) (hrm : (rest.map fun v => v.category).sum ≤ 8) (hdg : decode cc pc = .ok (.invokevirtual 39, 3)) (kk : W p l e R s m args below meth c H locs cells slots Q (F0 m (pc + 3) ls (.int (cd_greatest (cd_under (mT μ)) (mW μ) (mN μ) must never) :: rest))) : W p l e R s m args below meth c H locs cells slots Q (F0 m pc ls (.int never :: .int must :: .ref (ad 0) :: rest)) :=
  cl_R K (m_X1_greatest l D ad ca μ must never) (cwV 2 K.2.2.2.2 (lw_V q217 q219 qs11 q15 q220) rfl rfl rfl (by decide +kernel) hR) hP (va_recv hP.1 hP.2 (ci := 1) (q0 := 0) rfl rfl) rfl hls rfl hrm hf hdg kk
set_option maxHeartbeats 4000000 in
set_option maxRecDepth 100000 in
theorem m_X1_best (l : Launch) (D : va_G) (ad : Nat → Nat) (ca : Nat → ClassId) (μ : cd_M) : cR l D (mdT ca) (mdW ad ca μ) yX1_best cX1_best 1 (some .int) (cd_rm 3) [.ref (ad 0)] (cd_best (cd_under (mT μ)) (mW μ) (mN μ)) := by
  refine en_R (own := RX1) (by decide) rfl (Nat.le_of_ble_eq_true rfl) ?_
  intro p e s m below meth c ls K hr hlocks hP hl
  have hl : lv_has ls 1 [(0, .ref (ad 0))] := hl
  obtain ⟨hx, hb, hml, hown, hts⟩ := id K
  refine lv_aload_n hx hb dX1_best_0 rfl (lv_at hl 0 rfl) ?_
  refine lv_iconst (v := 0) hx hb dX1_best_1 (by decide) ?_
  refine lv_iconst (v := 0) hx hb dX1_best_2 (by decide) ?_
  refine k_X1_greatest K hP ⟨Nat.le_of_ble_eq_true rfl, Nat.le_of_ble_eq_true rfl⟩ ⟨Nat.le_of_ble_eq_true rfl, Nat.le_of_ble_eq_true rfl⟩ hl.1 (Nat.le_of_ble_eq_true rfl) dX1_best_3 ?_
  exact rt_R K hr hlocks (rfl) (rfl) dX1_best_6
set_option maxHeartbeats 4000000 in
set_option maxRecDepth 100000 in
theorem k_X1_best {p : Program} {l : Launch} {e : Env} {R : Room} {s : State} {m : MethodId} {args : Array Value} {below : List Frame} {meth : Method} {c : Code} {H : Heap} {locs : List Loc} {cells slots : Nat} {Q : State → Prop} {cc : ByteArray} {nL pc : Nat} {ls : Array Slot} {rest : List Value} {D : va_G} {ad : Nat → Nat} {ca : Nat → ClassId} {μ : cd_M} (K : CallFix p m c cc nL s args lw_all RX1)  (hP : wP D (mdT ca) (mdW ad ca μ) s H) (hR : (cd_rm 3).frames + 1 ≤ R.frames ∧ 8 + (1 + 11) + (cd_rm 3).locals ≤ R.locals) (hf : cells + 0 ≤ R.cells ∧ slots + 0 ≤ R.slots) (hls : ls.size = nL) (hrm : (rest.map fun v => v.category).sum ≤ 8) (hdg : decode cc pc = .ok (.invokevirtual 43, 3)) (kk : W p l e R s m args below meth c H locs cells slots Q (F0 m (pc + 3) ls (.int (cd_best (cd_under (mT μ)) (mW μ) (mN μ)) :: rest))) : W p l e R s m args below meth c H locs cells slots Q (F0 m pc ls (.ref (ad 0) :: rest)) :=
  cl_R K (m_X1_best l D ad ca μ) (cwV 0 K.2.2.2.2 (lw_V q230 q214 q215 q15 q216) rfl rfl rfl (by decide +kernel) hR) hP (va_recv hP.1 hP.2 (ci := 1) (q0 := 0) rfl rfl) rfl hls rfl hrm hf hdg kk
set_option maxHeartbeats 4000000 in
set_option maxRecDepth 100000 in
theorem m_X1_leastBest (l : Launch) (D : va_G) (ad : Nat → Nat) (ca : Nat → ClassId) (μ : cd_M) : cR l D (mdT ca) (mdW ad ca μ) yX1_leastBest cX1_leastBest 4 (some .int) (cd_rm 4) [.ref (ad 0)] (cd_it (cd_lb1 (cd_under (mT μ)) (mW μ) (mN μ) (cd_best (cd_under (mT μ)) (mW μ) (mN μ))) 512 (cd_under (mT μ))) := by
  refine en_R (own := RX1) (by decide) rfl (Nat.le_of_ble_eq_true rfl) ?_
  intro p e s m below meth c ls K hr hlocks hP hl
  have hl : lv_has ls 4 [(0, .ref (ad 0))] := hl
  obtain ⟨hx, hb, hml, hown, hts⟩ := id K
  refine lv_aload_n hx hb dX1_leastBest_0 rfl (lv_at hl 0 rfl) ?_
  refine k_X1_best K hP ⟨Nat.le_of_ble_eq_true rfl, Nat.le_of_ble_eq_true rfl⟩ ⟨Nat.le_of_ble_eq_true rfl, Nat.le_of_ble_eq_true rfl⟩ hl.1 (Nat.le_of_ble_eq_true rfl) dX1_leastBest_1 ?_
  refine lv_istore_n (lv' := [(1, .int (cd_best (cd_under (mT μ)) (mW μ) (mN μ))), (0, .ref (ad 0))]) hx hb dX1_leastBest_4 rfl hl (by decide) rfl (fun ls hl => ?_)
  refine lv_aload_n hx hb dX1_leastBest_5 rfl (lv_at hl 1 rfl) ?_
  refine k_X1_undertakings K hP ⟨Nat.le_of_ble_eq_true rfl, Nat.le_of_ble_eq_true rfl⟩ ⟨Nat.le_of_ble_eq_true rfl, Nat.le_of_ble_eq_true rfl⟩ hl.1 (Nat.le_of_ble_eq_true rfl) dX1_leastBest_6 ?_
  refine lv_istore_n (lv' := [(2, .int (cd_under (mT μ))), (1, .int (cd_best (cd_under (mT μ)) (mW μ) (mN μ))), (0, .ref (ad 0))]) hx hb dX1_leastBest_9 rfl hl (by decide) rfl (fun ls hl => ?_)
  refine lv_iconst (v := 0) hx hb dX1_leastBest_10 (by decide) ?_
  refine lv_istore_n (lv' := [(3, .int 0), (2, .int (cd_under (mT μ))), (1, .int (cd_best (cd_under (mT μ)) (mW μ) (mN μ))), (0, .ref (ad 0))]) hx hb dX1_leastBest_11 rfl hl (by decide) rfl (fun ls hl => ?_)
  refine w_ls (fun ls1 el => ?_)
  obtain ⟨n, i, x, hi, hn, hx2, hl⟩ : ∃ (n i : Nat) (x : Int32), i ≤ 512 ∧ 512 < i + n ∧ (x = cd_it (cd_lb1 (cd_under (mT μ)) (mW μ) (mN μ) (cd_best (cd_under (mT μ)) (mW μ) (mN μ))) i (cd_under (mT μ))) ∧ lv_has ls1 4 [(3, .int (nI i)), (2, .int x), (1, .int (cd_best (cd_under (mT μ)) (mW μ) (mN μ))), (0, .ref (ad 0))] := ⟨(512 + 1), 0, _, by omega, by omega, rfl, by rw [el]; exact hl⟩
  clear el
  induction n generalizing ls1 i x with
  | zero => exact absurd hn (by omega)
  | succ n ih =>
    refine lv_iload_n hx hb dX1_leastBest_12 rfl (lv_at hl 0 rfl) ?_
    refine lv_sipush (v := 512) hx hb dX1_leastBest_13 (by decide) ?_
    refine lv_icmp_ge (tgt := 50) hx hb dX1_leastBest_16 (by decide) (fun c16 => ?_) (fun c16 => ?_)
    · obtain rfl := cd_ge (N := 512) hi (by omega) c16
      refine lv_iload_n hx hb dX1_leastBest_50 rfl (lv_at hl 1 rfl) ?_
      exact rt_R K hr hlocks (rfl) (hx2) dX1_leastBest_51
    · have hlt := cd_lt (N := 512) hi (by omega) c16
      refine lv_aload_n hx hb dX1_leastBest_19 rfl (lv_at hl 3 rfl) ?_
      refine lv_iload_n hx hb dX1_leastBest_20 rfl (lv_at hl 0 rfl) ?_
      refine k_X1_closed K hP ⟨Nat.le_of_ble_eq_true rfl, Nat.le_of_ble_eq_true rfl⟩ ⟨Nat.le_of_ble_eq_true rfl, Nat.le_of_ble_eq_true rfl⟩ hl.1 (Nat.le_of_ble_eq_true rfl) dX1_leastBest_21 ?_
      refine lv_if_eq (tgt := 42) hx hb dX1_leastBest_24 (by decide) (fun c24 => ?_) (fun c24 => ?_)
      · refine lv_iload_n hx hb dX1_leastBest_42 rfl (lv_at hl 1 rfl) ?_
        refine lv_istore_n (lv' := [(2, .int x), (3, .int (nI i)), (1, .int (cd_best (cd_under (mT μ)) (mW μ) (mN μ))), (0, .ref (ad 0))]) hx hb dX1_leastBest_43 rfl hl (by decide) rfl (fun ls hl => ?_)
        refine lv_iinc (v := nI (i + 1)) (lv' := [(3, .int (nI (i + 1))), (2, .int x), (1, .int (cd_best (cd_under (mT μ)) (mW μ) (mN μ))), (0, .ref (ad 0))]) hx hb dX1_leastBest_44 hl (k := 1) rfl (cd_inc i) (by decide) rfl (fun ls hl => ?_)
        refine lv_goto (tgt := 12) hx hb dX1_leastBest_47 (by decide) ?_
        exact ih _ (i + 1) _ (by omega) (by omega) (by rw [cd_it_s, ← hx2]; unfold cd_lb1 cd_isb; rw [cd_zb_eq c24]; rfl) (lv_sub hl [0, 1, 2, 3] rfl)
      · refine lv_aload_n hx hb dX1_leastBest_27 rfl (lv_at hl 3 rfl) ?_
        refine lv_iload_n hx hb dX1_leastBest_28 rfl (lv_at hl 0 rfl) ?_
        refine k_X1_sum K hP ⟨Nat.le_of_ble_eq_true rfl, Nat.le_of_ble_eq_true rfl⟩ ⟨Nat.le_of_ble_eq_true rfl, Nat.le_of_ble_eq_true rfl⟩ hl.1 (Nat.le_of_ble_eq_true rfl) dX1_leastBest_29 ?_
        refine lv_iload_n hx hb dX1_leastBest_32 rfl (lv_at hl 2 rfl) ?_
        refine lv_icmp_ne (tgt := 42) hx hb dX1_leastBest_33 (by decide) (fun c33 => ?_) (fun c33 => ?_)
        · refine lv_iload_n hx hb dX1_leastBest_42 rfl (lv_at hl 1 rfl) ?_
          refine lv_istore_n (lv' := [(2, .int x), (3, .int (nI i)), (1, .int (cd_best (cd_under (mT μ)) (mW μ) (mN μ))), (0, .ref (ad 0))]) hx hb dX1_leastBest_43 rfl hl (by decide) rfl (fun ls hl => ?_)
          refine lv_iinc (v := nI (i + 1)) (lv' := [(3, .int (nI (i + 1))), (2, .int x), (1, .int (cd_best (cd_under (mT μ)) (mW μ) (mN μ))), (0, .ref (ad 0))]) hx hb dX1_leastBest_44 hl (k := 1) rfl (cd_inc i) (by decide) rfl (fun ls hl => ?_)
          refine lv_goto (tgt := 12) hx hb dX1_leastBest_47 (by decide) ?_
          exact ih _ (i + 1) _ (by omega) (by omega) (by rw [cd_it_s, ← hx2]; unfold cd_lb1 cd_isb; rw [cd_zb_ne c24, decide_eq_false c33]; rfl) (lv_sub hl [0, 1, 2, 3] rfl)
        · refine lv_iload_n hx hb dX1_leastBest_36 rfl (lv_at hl 1 rfl) ?_
          refine lv_iload_n hx hb dX1_leastBest_37 rfl (lv_at hl 0 rfl) ?_
          refine lv_iand hx hb dX1_leastBest_38 ?_
          refine lv_goto (tgt := 43) hx hb dX1_leastBest_39 (by decide) ?_
          refine lv_istore_n (lv' := [(2, .int (x &&& nI i)), (3, .int (nI i)), (1, .int (cd_best (cd_under (mT μ)) (mW μ) (mN μ))), (0, .ref (ad 0))]) hx hb dX1_leastBest_43 rfl hl (by decide) rfl (fun ls hl => ?_)
          refine lv_iinc (v := nI (i + 1)) (lv' := [(3, .int (nI (i + 1))), (2, .int (x &&& nI i)), (1, .int (cd_best (cd_under (mT μ)) (mW μ) (mN μ))), (0, .ref (ad 0))]) hx hb dX1_leastBest_44 hl (k := 1) rfl (cd_inc i) (by decide) rfl (fun ls hl => ?_)
          refine lv_goto (tgt := 12) hx hb dX1_leastBest_47 (by decide) ?_
          exact ih _ (i + 1) _ (by omega) (by omega) (by rw [cd_it_s, ← hx2]; unfold cd_lb1 cd_isb; rw [cd_zb_ne c24, decide_eq_true c33]; rfl) (lv_sub hl [0, 1, 2, 3] rfl)
set_option maxHeartbeats 4000000 in
set_option maxRecDepth 100000 in
theorem m_X1_greatestBest (l : Launch) (D : va_G) (ad : Nat → Nat) (ca : Nat → ClassId) (μ : cd_M) : cR l D (mdT ca) (mdW ad ca μ) yX1_greatestBest cX1_greatestBest 4 (some .int) (cd_rm 4) [.ref (ad 0)] (cd_it (cd_gb1 (cd_under (mT μ)) (mW μ) (mN μ) (cd_best (cd_under (mT μ)) (mW μ) (mN μ))) 512 0) := by
  refine en_R (own := RX1) (by decide) rfl (Nat.le_of_ble_eq_true rfl) ?_
  intro p e s m below meth c ls K hr hlocks hP hl
  have hl : lv_has ls 4 [(0, .ref (ad 0))] := hl
  obtain ⟨hx, hb, hml, hown, hts⟩ := id K
  refine lv_aload_n hx hb dX1_greatestBest_0 rfl (lv_at hl 0 rfl) ?_
  refine k_X1_best K hP ⟨Nat.le_of_ble_eq_true rfl, Nat.le_of_ble_eq_true rfl⟩ ⟨Nat.le_of_ble_eq_true rfl, Nat.le_of_ble_eq_true rfl⟩ hl.1 (Nat.le_of_ble_eq_true rfl) dX1_greatestBest_1 ?_
  refine lv_istore_n (lv' := [(1, .int (cd_best (cd_under (mT μ)) (mW μ) (mN μ))), (0, .ref (ad 0))]) hx hb dX1_greatestBest_4 rfl hl (by decide) rfl (fun ls hl => ?_)
  refine lv_iconst (v := 0) hx hb dX1_greatestBest_5 (by decide) ?_
  refine lv_istore_n (lv' := [(2, .int 0), (1, .int (cd_best (cd_under (mT μ)) (mW μ) (mN μ))), (0, .ref (ad 0))]) hx hb dX1_greatestBest_6 rfl hl (by decide) rfl (fun ls hl => ?_)
  refine lv_iconst (v := 0) hx hb dX1_greatestBest_7 (by decide) ?_
  refine lv_istore_n (lv' := [(3, .int 0), (2, .int 0), (1, .int (cd_best (cd_under (mT μ)) (mW μ) (mN μ))), (0, .ref (ad 0))]) hx hb dX1_greatestBest_8 rfl hl (by decide) rfl (fun ls hl => ?_)
  refine w_ls (fun ls1 el => ?_)
  obtain ⟨n, i, x, hi, hn, hx2, hl⟩ : ∃ (n i : Nat) (x : Int32), i ≤ 512 ∧ 512 < i + n ∧ (x = cd_it (cd_gb1 (cd_under (mT μ)) (mW μ) (mN μ) (cd_best (cd_under (mT μ)) (mW μ) (mN μ))) i 0) ∧ lv_has ls1 4 [(3, .int (nI i)), (2, .int x), (1, .int (cd_best (cd_under (mT μ)) (mW μ) (mN μ))), (0, .ref (ad 0))] := ⟨(512 + 1), 0, _, by omega, by omega, rfl, by rw [el]; exact hl⟩
  clear el
  induction n generalizing ls1 i x with
  | zero => exact absurd hn (by omega)
  | succ n ih =>
    refine lv_iload_n hx hb dX1_greatestBest_9 rfl (lv_at hl 0 rfl) ?_
    refine lv_sipush (v := 512) hx hb dX1_greatestBest_10 (by decide) ?_
    refine lv_icmp_ge (tgt := 47) hx hb dX1_greatestBest_13 (by decide) (fun c13 => ?_) (fun c13 => ?_)
    · obtain rfl := cd_ge (N := 512) hi (by omega) c13
      refine lv_iload_n hx hb dX1_greatestBest_47 rfl (lv_at hl 1 rfl) ?_
      exact rt_R K hr hlocks (rfl) (hx2) dX1_greatestBest_48
    · have hlt := cd_lt (N := 512) hi (by omega) c13
      refine lv_aload_n hx hb dX1_greatestBest_16 rfl (lv_at hl 3 rfl) ?_
      refine lv_iload_n hx hb dX1_greatestBest_17 rfl (lv_at hl 0 rfl) ?_
      refine k_X1_closed K hP ⟨Nat.le_of_ble_eq_true rfl, Nat.le_of_ble_eq_true rfl⟩ ⟨Nat.le_of_ble_eq_true rfl, Nat.le_of_ble_eq_true rfl⟩ hl.1 (Nat.le_of_ble_eq_true rfl) dX1_greatestBest_18 ?_
      refine lv_if_eq (tgt := 39) hx hb dX1_greatestBest_21 (by decide) (fun c21 => ?_) (fun c21 => ?_)
      · refine lv_iload_n hx hb dX1_greatestBest_39 rfl (lv_at hl 1 rfl) ?_
        refine lv_istore_n (lv' := [(2, .int x), (3, .int (nI i)), (1, .int (cd_best (cd_under (mT μ)) (mW μ) (mN μ))), (0, .ref (ad 0))]) hx hb dX1_greatestBest_40 rfl hl (by decide) rfl (fun ls hl => ?_)
        refine lv_iinc (v := nI (i + 1)) (lv' := [(3, .int (nI (i + 1))), (2, .int x), (1, .int (cd_best (cd_under (mT μ)) (mW μ) (mN μ))), (0, .ref (ad 0))]) hx hb dX1_greatestBest_41 hl (k := 1) rfl (cd_inc i) (by decide) rfl (fun ls hl => ?_)
        refine lv_goto (tgt := 9) hx hb dX1_greatestBest_44 (by decide) ?_
        exact ih _ (i + 1) _ (by omega) (by omega) (by rw [cd_it_s, ← hx2]; unfold cd_gb1 cd_isb; rw [cd_zb_eq c21]; rfl) (lv_sub hl [0, 1, 2, 3] rfl)
      · refine lv_aload_n hx hb dX1_greatestBest_24 rfl (lv_at hl 3 rfl) ?_
        refine lv_iload_n hx hb dX1_greatestBest_25 rfl (lv_at hl 0 rfl) ?_
        refine k_X1_sum K hP ⟨Nat.le_of_ble_eq_true rfl, Nat.le_of_ble_eq_true rfl⟩ ⟨Nat.le_of_ble_eq_true rfl, Nat.le_of_ble_eq_true rfl⟩ hl.1 (Nat.le_of_ble_eq_true rfl) dX1_greatestBest_26 ?_
        refine lv_iload_n hx hb dX1_greatestBest_29 rfl (lv_at hl 2 rfl) ?_
        refine lv_icmp_ne (tgt := 39) hx hb dX1_greatestBest_30 (by decide) (fun c30 => ?_) (fun c30 => ?_)
        · refine lv_iload_n hx hb dX1_greatestBest_39 rfl (lv_at hl 1 rfl) ?_
          refine lv_istore_n (lv' := [(2, .int x), (3, .int (nI i)), (1, .int (cd_best (cd_under (mT μ)) (mW μ) (mN μ))), (0, .ref (ad 0))]) hx hb dX1_greatestBest_40 rfl hl (by decide) rfl (fun ls hl => ?_)
          refine lv_iinc (v := nI (i + 1)) (lv' := [(3, .int (nI (i + 1))), (2, .int x), (1, .int (cd_best (cd_under (mT μ)) (mW μ) (mN μ))), (0, .ref (ad 0))]) hx hb dX1_greatestBest_41 hl (k := 1) rfl (cd_inc i) (by decide) rfl (fun ls hl => ?_)
          refine lv_goto (tgt := 9) hx hb dX1_greatestBest_44 (by decide) ?_
          exact ih _ (i + 1) _ (by omega) (by omega) (by rw [cd_it_s, ← hx2]; unfold cd_gb1 cd_isb; rw [cd_zb_ne c21, decide_eq_false c30]; rfl) (lv_sub hl [0, 1, 2, 3] rfl)
        · refine lv_iload_n hx hb dX1_greatestBest_33 rfl (lv_at hl 1 rfl) ?_
          refine lv_iload_n hx hb dX1_greatestBest_34 rfl (lv_at hl 0 rfl) ?_
          refine lv_ior hx hb dX1_greatestBest_35 ?_
          refine lv_goto (tgt := 40) hx hb dX1_greatestBest_36 (by decide) ?_
          refine lv_istore_n (lv' := [(2, .int (x ||| nI i)), (3, .int (nI i)), (1, .int (cd_best (cd_under (mT μ)) (mW μ) (mN μ))), (0, .ref (ad 0))]) hx hb dX1_greatestBest_40 rfl hl (by decide) rfl (fun ls hl => ?_)
          refine lv_iinc (v := nI (i + 1)) (lv' := [(3, .int (nI (i + 1))), (2, .int (x ||| nI i)), (1, .int (cd_best (cd_under (mT μ)) (mW μ) (mN μ))), (0, .ref (ad 0))]) hx hb dX1_greatestBest_41 hl (k := 1) rfl (cd_inc i) (by decide) rfl (fun ls hl => ?_)
          refine lv_goto (tgt := 9) hx hb dX1_greatestBest_44 (by decide) ?_
          exact ih _ (i + 1) _ (by omega) (by omega) (by rw [cd_it_s, ← hx2]; unfold cd_gb1 cd_isb; rw [cd_zb_ne c21, decide_eq_true c30]; rfl) (lv_sub hl [0, 1, 2, 3] rfl)
set_option maxHeartbeats 4000000 in
set_option maxRecDepth 100000 in
theorem m_X1_choices (l : Launch) (D : va_G) (ad : Nat → Nat) (ca : Nat → ClassId) (μ : cd_M) : cR l D (mdT ca) (mdW ad ca μ) yX1_choices cX1_choices 4 (some .int) (cd_rm 4) [.ref (ad 0)] (cd_it (cd_co1 (cd_under (mT μ)) (mW μ) (mN μ) (cd_best (cd_under (mT μ)) (mW μ) (mN μ))) 512 0) := by
  refine en_R (own := RX1) (by decide) rfl (Nat.le_of_ble_eq_true rfl) ?_
  intro p e s m below meth c ls K hr hlocks hP hl
  have hl : lv_has ls 4 [(0, .ref (ad 0))] := hl
  obtain ⟨hx, hb, hml, hown, hts⟩ := id K
  refine lv_aload_n hx hb dX1_choices_0 rfl (lv_at hl 0 rfl) ?_
  refine k_X1_best K hP ⟨Nat.le_of_ble_eq_true rfl, Nat.le_of_ble_eq_true rfl⟩ ⟨Nat.le_of_ble_eq_true rfl, Nat.le_of_ble_eq_true rfl⟩ hl.1 (Nat.le_of_ble_eq_true rfl) dX1_choices_1 ?_
  refine lv_istore_n (lv' := [(1, .int (cd_best (cd_under (mT μ)) (mW μ) (mN μ))), (0, .ref (ad 0))]) hx hb dX1_choices_4 rfl hl (by decide) rfl (fun ls hl => ?_)
  refine lv_iconst (v := 0) hx hb dX1_choices_5 (by decide) ?_
  refine lv_istore_n (lv' := [(2, .int 0), (1, .int (cd_best (cd_under (mT μ)) (mW μ) (mN μ))), (0, .ref (ad 0))]) hx hb dX1_choices_6 rfl hl (by decide) rfl (fun ls hl => ?_)
  refine lv_iconst (v := 0) hx hb dX1_choices_7 (by decide) ?_
  refine lv_istore_n (lv' := [(3, .int 0), (2, .int 0), (1, .int (cd_best (cd_under (mT μ)) (mW μ) (mN μ))), (0, .ref (ad 0))]) hx hb dX1_choices_8 rfl hl (by decide) rfl (fun ls hl => ?_)
  refine w_ls (fun ls1 el => ?_)
  obtain ⟨n, i, x, hi, hn, hx2, hl⟩ : ∃ (n i : Nat) (x : Int32), i ≤ 512 ∧ 512 < i + n ∧ (x = cd_it (cd_co1 (cd_under (mT μ)) (mW μ) (mN μ) (cd_best (cd_under (mT μ)) (mW μ) (mN μ))) i 0) ∧ lv_has ls1 4 [(3, .int (nI i)), (2, .int x), (1, .int (cd_best (cd_under (mT μ)) (mW μ) (mN μ))), (0, .ref (ad 0))] := ⟨(512 + 1), 0, _, by omega, by omega, rfl, by rw [el]; exact hl⟩
  clear el
  induction n generalizing ls1 i x with
  | zero => exact absurd hn (by omega)
  | succ n ih =>
    refine lv_iload_n hx hb dX1_choices_9 rfl (lv_at hl 0 rfl) ?_
    refine lv_sipush (v := 512) hx hb dX1_choices_10 (by decide) ?_
    refine lv_icmp_ge (tgt := 47) hx hb dX1_choices_13 (by decide) (fun c13 => ?_) (fun c13 => ?_)
    · obtain rfl := cd_ge (N := 512) hi (by omega) c13
      refine lv_iload_n hx hb dX1_choices_47 rfl (lv_at hl 1 rfl) ?_
      exact rt_R K hr hlocks (rfl) (hx2) dX1_choices_48
    · have hlt := cd_lt (N := 512) hi (by omega) c13
      refine lv_aload_n hx hb dX1_choices_16 rfl (lv_at hl 3 rfl) ?_
      refine lv_iload_n hx hb dX1_choices_17 rfl (lv_at hl 0 rfl) ?_
      refine k_X1_closed K hP ⟨Nat.le_of_ble_eq_true rfl, Nat.le_of_ble_eq_true rfl⟩ ⟨Nat.le_of_ble_eq_true rfl, Nat.le_of_ble_eq_true rfl⟩ hl.1 (Nat.le_of_ble_eq_true rfl) dX1_choices_18 ?_
      refine lv_if_eq (tgt := 39) hx hb dX1_choices_21 (by decide) (fun c21 => ?_) (fun c21 => ?_)
      · refine lv_iload_n hx hb dX1_choices_39 rfl (lv_at hl 1 rfl) ?_
        refine lv_istore_n (lv' := [(2, .int x), (3, .int (nI i)), (1, .int (cd_best (cd_under (mT μ)) (mW μ) (mN μ))), (0, .ref (ad 0))]) hx hb dX1_choices_40 rfl hl (by decide) rfl (fun ls hl => ?_)
        refine lv_iinc (v := nI (i + 1)) (lv' := [(3, .int (nI (i + 1))), (2, .int x), (1, .int (cd_best (cd_under (mT μ)) (mW μ) (mN μ))), (0, .ref (ad 0))]) hx hb dX1_choices_41 hl (k := 1) rfl (cd_inc i) (by decide) rfl (fun ls hl => ?_)
        refine lv_goto (tgt := 9) hx hb dX1_choices_44 (by decide) ?_
        exact ih _ (i + 1) _ (by omega) (by omega) (by rw [cd_it_s, ← hx2]; unfold cd_co1 cd_isb; rw [cd_zb_eq c21]; rfl) (lv_sub hl [0, 1, 2, 3] rfl)
      · refine lv_aload_n hx hb dX1_choices_24 rfl (lv_at hl 3 rfl) ?_
        refine lv_iload_n hx hb dX1_choices_25 rfl (lv_at hl 0 rfl) ?_
        refine k_X1_sum K hP ⟨Nat.le_of_ble_eq_true rfl, Nat.le_of_ble_eq_true rfl⟩ ⟨Nat.le_of_ble_eq_true rfl, Nat.le_of_ble_eq_true rfl⟩ hl.1 (Nat.le_of_ble_eq_true rfl) dX1_choices_26 ?_
        refine lv_iload_n hx hb dX1_choices_29 rfl (lv_at hl 2 rfl) ?_
        refine lv_icmp_ne (tgt := 39) hx hb dX1_choices_30 (by decide) (fun c30 => ?_) (fun c30 => ?_)
        · refine lv_iload_n hx hb dX1_choices_39 rfl (lv_at hl 1 rfl) ?_
          refine lv_istore_n (lv' := [(2, .int x), (3, .int (nI i)), (1, .int (cd_best (cd_under (mT μ)) (mW μ) (mN μ))), (0, .ref (ad 0))]) hx hb dX1_choices_40 rfl hl (by decide) rfl (fun ls hl => ?_)
          refine lv_iinc (v := nI (i + 1)) (lv' := [(3, .int (nI (i + 1))), (2, .int x), (1, .int (cd_best (cd_under (mT μ)) (mW μ) (mN μ))), (0, .ref (ad 0))]) hx hb dX1_choices_41 hl (k := 1) rfl (cd_inc i) (by decide) rfl (fun ls hl => ?_)
          refine lv_goto (tgt := 9) hx hb dX1_choices_44 (by decide) ?_
          exact ih _ (i + 1) _ (by omega) (by omega) (by rw [cd_it_s, ← hx2]; unfold cd_co1 cd_isb; rw [cd_zb_ne c21, decide_eq_false c30]; rfl) (lv_sub hl [0, 1, 2, 3] rfl)
        · refine lv_iload_n hx hb dX1_choices_33 rfl (lv_at hl 1 rfl) ?_
          refine lv_iconst (v := 1) hx hb dX1_choices_34 (by decide) ?_
          refine lv_iadd hx hb dX1_choices_35 ?_
          refine lv_goto (tgt := 40) hx hb dX1_choices_36 (by decide) ?_
          refine lv_istore_n (lv' := [(2, .int (x + 1)), (3, .int (nI i)), (1, .int (cd_best (cd_under (mT μ)) (mW μ) (mN μ))), (0, .ref (ad 0))]) hx hb dX1_choices_40 rfl hl (by decide) rfl (fun ls hl => ?_)
          refine lv_iinc (v := nI (i + 1)) (lv' := [(3, .int (nI (i + 1))), (2, .int (x + 1)), (1, .int (cd_best (cd_under (mT μ)) (mW μ) (mN μ))), (0, .ref (ad 0))]) hx hb dX1_choices_41 hl (k := 1) rfl (cd_inc i) (by decide) rfl (fun ls hl => ?_)
          refine lv_goto (tgt := 9) hx hb dX1_choices_44 (by decide) ?_
          exact ih _ (i + 1) _ (by omega) (by omega) (by rw [cd_it_s, ← hx2]; unfold cd_co1 cd_isb; rw [cd_zb_ne c21, decide_eq_true c30]; rfl) (lv_sub hl [0, 1, 2, 3] rfl)
set_option maxHeartbeats 4000000 in
set_option maxRecDepth 100000 in
theorem m_X1_bestWith (l : Launch) (D : va_G) (ad : Nat → Nat) (ca : Nat → ClassId) (μ : cd_M) (u : Int32) : cR l D (mdT ca) (mdW ad ca μ) yX1_bestWith cX1_bestWith 2 (some .int) (cd_rm 3) [.ref (ad 0), .int u] (cd_mwith (mT μ) (mW μ) (mN μ) u) := by
  refine en_R (own := RX1) (by decide) rfl (Nat.le_of_ble_eq_true rfl) ?_
  intro p e s m below meth c ls K hr hlocks hP hl
  have hl : lv_has ls 2 [(0, .ref (ad 0)), (1, .int u)] := hl
  obtain ⟨hx, hb, hml, hown, hts⟩ := id K
  refine lv_aload_n hx hb dX1_bestWith_0 rfl (lv_at hl 0 rfl) ?_
  refine lv_iload_n hx hb dX1_bestWith_1 rfl (lv_at hl 1 rfl) ?_
  refine k_X1_is K hP ⟨Nat.le_of_ble_eq_true rfl, Nat.le_of_ble_eq_true rfl⟩ ⟨Nat.le_of_ble_eq_true rfl, Nat.le_of_ble_eq_true rfl⟩ hl.1 (Nat.le_of_ble_eq_true rfl) dX1_bestWith_2 ?_
  refine lv_if_eq (tgt := 19) hx hb dX1_bestWith_5 (by decide) (fun c5 => ?_) (fun c5 => ?_)
  · refine lv_ldc (v := (-100000)) hx hb hown (hts _ q221) dX1_bestWith_19 ?_
    exact rt_R K hr hlocks (rfl) (by unfold cd_mwith; rw [cd_zb_eq c5]; rfl) dX1_bestWith_21
  · refine lv_aload_n hx hb dX1_bestWith_8 rfl (lv_at hl 0 rfl) ?_
    refine lv_iconst (v := 1) hx hb dX1_bestWith_9 (by decide) ?_
    refine lv_iload_n hx hb dX1_bestWith_10 rfl (lv_at hl 1 rfl) ?_
    refine lv_ishl hx hb dX1_bestWith_11 ?_
    refine lv_iconst (v := 0) hx hb dX1_bestWith_12 (by decide) ?_
    refine k_X1_greatest K hP ⟨Nat.le_of_ble_eq_true rfl, Nat.le_of_ble_eq_true rfl⟩ ⟨Nat.le_of_ble_eq_true rfl, Nat.le_of_ble_eq_true rfl⟩ hl.1 (Nat.le_of_ble_eq_true rfl) dX1_bestWith_13 ?_
    refine lv_goto (tgt := 21) hx hb dX1_bestWith_16 (by decide) ?_
    exact rt_R K hr hlocks (rfl) (by unfold cd_mwith; rw [cd_zb_ne c5]; rfl) dX1_bestWith_21
set_option maxHeartbeats 4000000 in
set_option maxRecDepth 100000 in
theorem k_X1_bestWith {p : Program} {l : Launch} {e : Env} {R : Room} {s : State} {m : MethodId} {args : Array Value} {below : List Frame} {meth : Method} {c : Code} {H : Heap} {locs : List Loc} {cells slots : Nat} {Q : State → Prop} {cc : ByteArray} {nL pc : Nat} {ls : Array Slot} {rest : List Value} {D : va_G} {ad : Nat → Nat} {ca : Nat → ClassId} {μ : cd_M} {u : Int32} (K : CallFix p m c cc nL s args lw_all RX1)  (hP : wP D (mdT ca) (mdW ad ca μ) s H) (hR : (cd_rm 3).frames + 1 ≤ R.frames ∧ 8 + (2 + 11) + (cd_rm 3).locals ≤ R.locals) (hf : cells + 0 ≤ R.cells ∧ slots + 0 ≤ R.slots) (hls : ls.size = nL) (hrm : (rest.map fun v => v.category).sum ≤ 8) (hdg : decode cc pc = .ok (.invokevirtual 46, 3)) (kk : W p l e R s m args below meth c H locs cells slots Q (F0 m (pc + 3) ls (.int (cd_mwith (mT μ) (mW μ) (mN μ) u) :: rest))) : W p l e R s m args below meth c H locs cells slots Q (F0 m pc ls (.int u :: .ref (ad 0) :: rest)) :=
  cl_R K (m_X1_bestWith l D ad ca μ u) (cwV 1 K.2.2.2.2 (lw_V q247 q236 q237 q15 q238) rfl rfl rfl (by decide +kernel) hR) hP (va_recv hP.1 hP.2 (ci := 1) (q0 := 0) rfl rfl) rfl hls rfl hrm hf hdg kk
set_option maxHeartbeats 4000000 in
set_option maxRecDepth 100000 in
theorem m_X1_bestWithout (l : Launch) (D : va_G) (ad : Nat → Nat) (ca : Nat → ClassId) (μ : cd_M) (u : Int32) : cR l D (mdT ca) (mdW ad ca μ) yX1_bestWithout cX1_bestWithout 2 (some .int) (cd_rm 3) [.ref (ad 0), .int u] (cd_mwithout (mT μ) (mW μ) (mN μ) u) := by
  refine en_R (own := RX1) (by decide) rfl (Nat.le_of_ble_eq_true rfl) ?_
  intro p e s m below meth c ls K hr hlocks hP hl
  have hl : lv_has ls 2 [(0, .ref (ad 0)), (1, .int u)] := hl
  obtain ⟨hx, hb, hml, hown, hts⟩ := id K
  refine lv_aload_n hx hb dX1_bestWithout_0 rfl (lv_at hl 0 rfl) ?_
  refine lv_iconst (v := 0) hx hb dX1_bestWithout_1 (by decide) ?_
  refine lv_iload_n hx hb dX1_bestWithout_2 rfl (lv_at hl 1 rfl) ?_
  refine lv_if_lt (tgt := 18) hx hb dX1_bestWithout_3 (by decide) (fun c3 => ?_) (fun c3 => ?_)
  · refine lv_iconst (v := 0) hx hb dX1_bestWithout_18 (by decide) ?_
    refine k_X1_greatest K hP ⟨Nat.le_of_ble_eq_true rfl, Nat.le_of_ble_eq_true rfl⟩ ⟨Nat.le_of_ble_eq_true rfl, Nat.le_of_ble_eq_true rfl⟩ hl.1 (Nat.le_of_ble_eq_true rfl) dX1_bestWithout_19 ?_
    exact rt_R K hr hlocks (rfl) (by unfold cd_mwithout; rw [decide_eq_false (p := ¬ u < 0) (fun q => q c3)]; rfl) dX1_bestWithout_22
  · refine lv_iload_n hx hb dX1_bestWithout_6 rfl (lv_at hl 1 rfl) ?_
    refine lv_bipush (v := 9) hx hb dX1_bestWithout_7 (by decide) ?_
    refine lv_icmp_ge (tgt := 18) hx hb dX1_bestWithout_9 (by decide) (fun c9 => ?_) (fun c9 => ?_)
    · refine lv_iconst (v := 0) hx hb dX1_bestWithout_18 (by decide) ?_
      refine k_X1_greatest K hP ⟨Nat.le_of_ble_eq_true rfl, Nat.le_of_ble_eq_true rfl⟩ ⟨Nat.le_of_ble_eq_true rfl, Nat.le_of_ble_eq_true rfl⟩ hl.1 (Nat.le_of_ble_eq_true rfl) dX1_bestWithout_19 ?_
      exact rt_R K hr hlocks (rfl) (by unfold cd_mwithout; rw [decide_eq_false (p := ¬ 9 ≤ u) (fun q => q c9), Bool.and_false]; rfl) dX1_bestWithout_22
    · refine lv_iconst (v := 1) hx hb dX1_bestWithout_12 (by decide) ?_
      refine lv_iload_n hx hb dX1_bestWithout_13 rfl (lv_at hl 1 rfl) ?_
      refine lv_ishl hx hb dX1_bestWithout_14 ?_
      refine lv_goto (tgt := 19) hx hb dX1_bestWithout_15 (by decide) ?_
      refine k_X1_greatest K hP ⟨Nat.le_of_ble_eq_true rfl, Nat.le_of_ble_eq_true rfl⟩ ⟨Nat.le_of_ble_eq_true rfl, Nat.le_of_ble_eq_true rfl⟩ hl.1 (Nat.le_of_ble_eq_true rfl) dX1_bestWithout_19 ?_
      exact rt_R K hr hlocks (rfl) (by unfold cd_mwithout; rw [decide_eq_true c3, decide_eq_true c9]; rfl) dX1_bestWithout_22
end
section
/-! the model's writers -/
set_option maxHeartbeats 4000000 in
set_option maxRecDepth 100000 in
theorem m_X1_add (l : Launch) (D : va_G) (ad : Nat → Nat) (ca : Nat → ClassId) (μ : cd_M) (w : Int32) : cWi l D (mdT ca) (mdW ad ca) μ yX1_add cX1_add 3 (some .int) (cd_rm 1) [.ref (ad 0), .int w] (fun r τ => cd_maddP μ w r τ) := by
  refine en_Wi (own := RX1) (by decide) rfl (Nat.le_of_ble_eq_true rfl) ?_
  intro p e s m below meth c ls A K hr hlocks hS hl
  have hl : lv_has ls 3 [(0, .ref (ad 0)), (1, .int w)] := hl
  obtain ⟨hx, hb, hml, hown, hts⟩ := id K
  refine lv_aload_n hx hb dX1_add_0 rfl (lv_at hl 0 rfl) ?_
  refine lv_iload_n hx hb dX1_add_1 rfl (lv_at hl 1 rfl) ?_
  refine k_X1_fits K hS.1 ⟨Nat.le_of_ble_eq_true rfl, Nat.le_of_ble_eq_true rfl⟩ ⟨Nat.le_of_ble_eq_true rfl, Nat.le_of_ble_eq_true rfl⟩ hl.1 (Nat.le_of_ble_eq_true rfl) dX1_add_2 ?_
  refine lv_if_ne (tgt := 10) hx hb dX1_add_5 (by decide) (fun c5 => ?_) (fun c5 => ?_)
  · refine lv_iconst (v := 0) hx hb dX1_add_10 (by decide) ?_
    refine lv_istore_n (lv' := [(2, .int 0), (0, .ref (ad 0)), (1, .int w)]) hx hb dX1_add_11 rfl hl (by decide) rfl (fun ls hl => ?_)
    refine w_all (fun H1 locs1 ls1 eH eL el => ?_)
    obtain ⟨n, i, hi, hn, hA, hS, hl⟩ : ∃ (n i : Nat), i ≤ 9 ∧ 9 < i + n ∧ (∀ v, v < i → ¬ mT μ v = 0) ∧ wS D (mdT ca) A s.heap (mdW ad ca μ) s H1 locs1 ∧ lv_has ls1 3 [(2, .int (nI i)), (0, .ref (ad 0)), (1, .int w)] := ⟨(9 + 1), 0, by omega, by omega, fun v hv => absurd hv (Nat.not_lt_zero v), by rw [eH, eL]; exact hS, by rw [el]; exact hl⟩
    clear eH eL el
    induction n generalizing H1 locs1 ls1 i with
    | zero => exact absurd hn (by omega)
    | succ n ih =>
      refine lv_iload_n hx hb dX1_add_12 rfl (lv_at hl 0 rfl) ?_
      refine lv_bipush (v := 9) hx hb dX1_add_13 (by decide) ?_
      refine lv_icmp_ge (tgt := 56) hx hb dX1_add_15 (by decide) (fun c15 => ?_) (fun c15 => ?_)
      · obtain rfl := cd_ge (N := 9) hi (by omega) c15
        refine lv_bipush (v := (-2)) hx hb dX1_add_56 (by decide) ?_
        exact rt_Wi K hr hlocks (rfl) hS (Or.inr (Or.inr ⟨cd_zb_ne c5, hA, rfl, rfl⟩)) dX1_add_58
      · have hlt := cd_lt (N := 9) hi (by omega) c15
        refine lv_aload_n hx hb dX1_add_18 rfl (lv_at hl 1 rfl) ?_
        refine eg_T K hS.1 dX1_add_19 ?_
        refine lv_iload_n hx hb dX1_add_22 rfl (lv_at hl 0 rfl) ?_
        refine el_T K hS.1 i (by omega) rfl dX1_add_23 ?_
        refine lv_if_ne (tgt := 50) hx hb dX1_add_24 (by decide) (fun c24 => ?_) (fun c24 => ?_)
        · refine lv_iinc (v := nI (i + 1)) (lv' := [(2, .int (nI (i + 1))), (0, .ref (ad 0)), (1, .int w)]) hx hb dX1_add_50 hl (k := 0) rfl (cd_inc i) (by decide) rfl (fun ls hl => ?_)
          refine lv_goto (tgt := 12) hx hb dX1_add_53 (by decide) ?_
          exact ih _ _ _ (i + 1) (by omega) (by omega) (lt_s hA c24) hS (lv_sub hl [0, 1, 2] rfl)
        · refine lv_aload_n hx hb dX1_add_27 rfl (lv_at hl 1 rfl) ?_
          refine eg_T K hS.1 dX1_add_28 ?_
          refine lv_iload_n hx hb dX1_add_31 rfl (lv_at hl 0 rfl) ?_
          refine lv_iconst (v := 1) hx hb dX1_add_32 (by decide) ?_
          refine es_T K hS i (by omega) rfl (1) (by decide) dX1_add_33 (fun H locs hS => ?_)
          refine lv_aload_n hx hb dX1_add_34 rfl (lv_at hl 1 rfl) ?_
          refine eg_W K hS.1 dX1_add_35 ?_
          refine lv_iload_n hx hb dX1_add_38 rfl (lv_at hl 0 rfl) ?_
          refine lv_iload_n hx hb dX1_add_39 rfl (lv_at hl 2 rfl) ?_
          refine es_W K hS i (by omega) rfl dX1_add_40 (fun H locs hS => ?_)
          refine lv_aload_n hx hb dX1_add_41 rfl (lv_at hl 1 rfl) ?_
          refine eg_N K hS.1 dX1_add_42 ?_
          refine lv_iload_n hx hb dX1_add_45 rfl (lv_at hl 0 rfl) ?_
          refine lv_iconst (v := 0) hx hb dX1_add_46 (by decide) ?_
          refine es_N K hS i (by omega) rfl dX1_add_47 (fun H locs hS => ?_)
          refine lv_iload_n hx hb dX1_add_48 rfl (lv_at hl 0 rfl) ?_
          exact rt_Wi K hr hlocks (rfl) hS (Or.inr (Or.inl ⟨cd_zb_ne c5, i, hlt, hA, c24, rfl, rfl⟩)) dX1_add_49
  · refine lv_iconst (v := (-1)) hx hb dX1_add_8 (by decide) ?_
    exact rt_Wi K hr hlocks (rfl) hS (Or.inl ⟨cd_zb_eq c5, rfl, rfl⟩) dX1_add_9
set_option maxHeartbeats 4000000 in
set_option maxRecDepth 100000 in
theorem m_X1_remove (l : Launch) (D : va_G) (ad : Nat → Nat) (ca : Nat → ClassId) (μ : cd_M) (u : Int32) : cWi l D (mdT ca) (mdW ad ca) μ yX1_remove cX1_remove 3 (some .boolean) (cd_rm 1) [.ref (ad 0), .int u] (fun r τ => cd_mremP μ u r τ) := by
  refine en_Wi (own := RX1) (by decide) rfl (Nat.le_of_ble_eq_true rfl) ?_
  intro p e s m below meth c ls A K hr hlocks hS hl
  have hl : lv_has ls 3 [(0, .ref (ad 0)), (1, .int u)] := hl
  obtain ⟨hx, hb, hml, hown, hts⟩ := id K
  refine lv_aload_n hx hb dX1_remove_0 rfl (lv_at hl 0 rfl) ?_
  refine lv_iload_n hx hb dX1_remove_1 rfl (lv_at hl 1 rfl) ?_
  refine k_X1_is K hS.1 ⟨Nat.le_of_ble_eq_true rfl, Nat.le_of_ble_eq_true rfl⟩ ⟨Nat.le_of_ble_eq_true rfl, Nat.le_of_ble_eq_true rfl⟩ hl.1 (Nat.le_of_ble_eq_true rfl) dX1_remove_2 ?_
  refine lv_if_ne (tgt := 10) hx hb dX1_remove_5 (by decide) (fun c5 => ?_) (fun c5 => ?_)
  · obtain ⟨j, hj, rfl⟩ := cd_is_ix (cd_zb_ne c5)
    refine lv_aload_n hx hb dX1_remove_10 rfl (lv_at hl 0 rfl) ?_
    refine eg_T K hS.1 dX1_remove_11 ?_
    refine lv_iload_n hx hb dX1_remove_14 rfl (lv_at hl 1 rfl) ?_
    refine lv_iconst (v := 0) hx hb dX1_remove_15 (by decide) ?_
    refine es_T K hS j (by omega) rfl (0) (by decide) dX1_remove_16 (fun H locs hS => ?_)
    refine lv_iconst (v := 0) hx hb dX1_remove_17 (by decide) ?_
    refine lv_istore_n (lv' := [(2, .int 0), (0, .ref (ad 0)), (1, .int (nI j))]) hx hb dX1_remove_18 rfl hl (by decide) rfl (fun ls hl => ?_)
    refine w_all (fun H1 locs1 ls1 eH eL el => ?_)
    obtain ⟨n, i, x, hi, hn, hx2, hS, hl⟩ : ∃ (n i : Nat) (x : Nat → Int32), i ≤ 9 ∧ 9 < i + n ∧ (x = cd_it (cd_moff (nI j)) i (mN μ)) ∧ wS D (mdT ca) A s.heap (mdW ad ca (tN (tT μ (upd (mT μ) j 0)) x)) s H1 locs1 ∧ lv_has ls1 3 [(2, .int (nI i)), (0, .ref (ad 0)), (1, .int (nI j))] := ⟨(9 + 1), 0, mN μ, by omega, by omega, rfl, by rw [eH, eL]; exact hS, by rw [el]; exact hl⟩
    clear eH eL el
    induction n generalizing H1 locs1 ls1 i x with
    | zero => exact absurd hn (by omega)
    | succ n ih =>
      refine lv_iload_n hx hb dX1_remove_19 rfl (lv_at hl 0 rfl) ?_
      refine lv_bipush (v := 9) hx hb dX1_remove_20 (by decide) ?_
      refine lv_icmp_ge (tgt := 49) hx hb dX1_remove_22 (by decide) (fun c22 => ?_) (fun c22 => ?_)
      · obtain rfl := cd_ge (N := 9) hi (by omega) c22
        refine lv_iconst (v := 1) hx hb dX1_remove_49 (by decide) ?_
        exact rt_Wi K hr hlocks (rfl) hS (Or.inr ⟨cd_zb_ne c5, rfl, by rw [hx2, nI_clamp (by omega)]⟩) dX1_remove_50
      · have hlt := cd_lt (N := 9) hi (by omega) c22
        refine lv_aload_n hx hb dX1_remove_25 rfl (lv_at hl 1 rfl) ?_
        refine eg_N K hS.1 dX1_remove_26 ?_
        refine lv_iload_n hx hb dX1_remove_29 rfl (lv_at hl 0 rfl) ?_
        refine lv_aload_n hx hb dX1_remove_30 rfl (lv_at hl 1 rfl) ?_
        refine eg_N K hS.1 dX1_remove_31 ?_
        refine lv_iload_n hx hb dX1_remove_34 rfl (lv_at hl 0 rfl) ?_
        refine el_N K hS.1 i (by omega) rfl dX1_remove_35 ?_
        refine lv_iconst (v := 1) hx hb dX1_remove_36 (by decide) ?_
        refine lv_iload_n hx hb dX1_remove_37 rfl (lv_at hl 2 rfl) ?_
        refine lv_ishl hx hb dX1_remove_38 ?_
        refine lv_iconst (v := (-1)) hx hb dX1_remove_39 (by decide) ?_
        refine lv_ixor hx hb dX1_remove_40 ?_
        refine lv_iand hx hb dX1_remove_41 ?_
        refine es_N K hS i (by omega) rfl dX1_remove_42 (fun H locs hS => ?_)
        refine lv_iinc (v := nI (i + 1)) (lv' := [(2, .int (nI (i + 1))), (0, .ref (ad 0)), (1, .int (nI j))]) hx hb dX1_remove_43 hl (k := 0) rfl (cd_inc i) (by decide) rfl (fun ls hl => ?_)
        refine lv_goto (tgt := 19) hx hb dX1_remove_46 (by decide) ?_
        exact ih _ _ _ (i + 1) _ (by omega) (by omega) (by rw [cd_it_s, ← hx2]; rfl) hS (lv_sub hl [0, 1, 2] rfl)
  · refine lv_iconst (v := 0) hx hb dX1_remove_8 (by decide) ?_
    exact rt_Wi K hr hlocks (rfl) hS (Or.inl ⟨cd_zb_eq c5, rfl, rfl⟩) dX1_remove_9
set_option maxHeartbeats 4000000 in
set_option maxRecDepth 100000 in
theorem m_X1_rate (l : Launch) (D : va_G) (ad : Nat → Nat) (ca : Nat → ClassId) (μ : cd_M) (u : Int32) (w : Int32) : cWi l D (mdT ca) (mdW ad ca) μ yX1_rate cX1_rate 3 (some .boolean) (cd_rm 1) [.ref (ad 0), .int u, .int w] (fun r τ => cd_mratP μ u w r τ) := by
  refine en_Wi (own := RX1) (by decide) rfl (Nat.le_of_ble_eq_true rfl) ?_
  intro p e s m below meth c ls A K hr hlocks hS hl
  have hl : lv_has ls 3 [(0, .ref (ad 0)), (1, .int u), (2, .int w)] := hl
  obtain ⟨hx, hb, hml, hown, hts⟩ := id K
  refine lv_aload_n hx hb dX1_rate_0 rfl (lv_at hl 0 rfl) ?_
  refine lv_iload_n hx hb dX1_rate_1 rfl (lv_at hl 1 rfl) ?_
  refine k_X1_is K hS.1 ⟨Nat.le_of_ble_eq_true rfl, Nat.le_of_ble_eq_true rfl⟩ ⟨Nat.le_of_ble_eq_true rfl, Nat.le_of_ble_eq_true rfl⟩ hl.1 (Nat.le_of_ble_eq_true rfl) dX1_rate_2 ?_
  refine lv_if_eq (tgt := 16) hx hb dX1_rate_5 (by decide) (fun c5 => ?_) (fun c5 => ?_)
  · refine lv_iconst (v := 0) hx hb dX1_rate_16 (by decide) ?_
    exact rt_Wi K hr hlocks (rfl) hS (Or.inl ⟨by rw [cd_zb_eq c5]; rfl, rfl, rfl⟩) dX1_rate_17
  · refine lv_aload_n hx hb dX1_rate_8 rfl (lv_at hl 0 rfl) ?_
    refine lv_iload_n hx hb dX1_rate_9 rfl (lv_at hl 2 rfl) ?_
    refine k_X1_fits K hS.1 ⟨Nat.le_of_ble_eq_true rfl, Nat.le_of_ble_eq_true rfl⟩ ⟨Nat.le_of_ble_eq_true rfl, Nat.le_of_ble_eq_true rfl⟩ hl.1 (Nat.le_of_ble_eq_true rfl) dX1_rate_10 ?_
    refine lv_if_ne (tgt := 18) hx hb dX1_rate_13 (by decide) (fun c13 => ?_) (fun c13 => ?_)
    · obtain ⟨j, hj, rfl⟩ := cd_is_ix (cd_zb_ne c5)
      refine lv_aload_n hx hb dX1_rate_18 rfl (lv_at hl 0 rfl) ?_
      refine eg_W K hS.1 dX1_rate_19 ?_
      refine lv_iload_n hx hb dX1_rate_22 rfl (lv_at hl 1 rfl) ?_
      refine lv_iload_n hx hb dX1_rate_23 rfl (lv_at hl 2 rfl) ?_
      refine es_W K hS j (by omega) rfl dX1_rate_24 (fun H locs hS => ?_)
      refine lv_iconst (v := 1) hx hb dX1_rate_25 (by decide) ?_
      exact rt_Wi K hr hlocks (rfl) hS (Or.inr ⟨by rw [cd_zb_ne c5, cd_zb_ne c13]; rfl, rfl, by rw [nI_clamp (by omega)]⟩) dX1_rate_26
    · refine lv_iconst (v := 0) hx hb dX1_rate_16 (by decide) ?_
      exact rt_Wi K hr hlocks (rfl) hS (Or.inl ⟨by rw [cd_zb_eq c13, Bool.and_false], rfl, rfl⟩) dX1_rate_17
set_option maxHeartbeats 4000000 in
set_option maxRecDepth 100000 in
theorem m_X1_need (l : Launch) (D : va_G) (ad : Nat → Nat) (ca : Nat → ClassId) (μ : cd_M) (u : Int32) (v : Int32) (o : Int32) : cWi l D (mdT ca) (mdW ad ca) μ yX1_need cX1_need 4 (some .boolean) (cd_rm 1) [.ref (ad 0), .int u, .int v, .int o] (fun r τ => cd_mneeP μ u v o r τ) := by
  refine en_Wi (own := RX1) (by decide) rfl (Nat.le_of_ble_eq_true rfl) ?_
  intro p e s m below meth c ls A K hr hlocks hS hl
  have hl : lv_has ls 4 [(0, .ref (ad 0)), (1, .int u), (2, .int v), (3, .int o)] := hl
  obtain ⟨hx, hb, hml, hown, hts⟩ := id K
  refine lv_iload_n hx hb dX1_need_0 rfl (lv_at hl 1 rfl) ?_
  refine lv_iload_n hx hb dX1_need_1 rfl (lv_at hl 2 rfl) ?_
  refine lv_icmp_eq (tgt := 21) hx hb dX1_need_2 (by decide) (fun c2 => ?_) (fun c2 => ?_)
  · refine lv_iconst (v := 0) hx hb dX1_need_21 (by decide) ?_
    exact rt_Wi K hr hlocks (rfl) hS (Or.inl ⟨by unfold cd_mnok; rw [decide_eq_false (fun q => q c2)]; rfl, rfl, rfl⟩) dX1_need_22
  · refine lv_aload_n hx hb dX1_need_5 rfl (lv_at hl 0 rfl) ?_
    refine lv_iload_n hx hb dX1_need_6 rfl (lv_at hl 1 rfl) ?_
    refine k_X1_is K hS.1 ⟨Nat.le_of_ble_eq_true rfl, Nat.le_of_ble_eq_true rfl⟩ ⟨Nat.le_of_ble_eq_true rfl, Nat.le_of_ble_eq_true rfl⟩ hl.1 (Nat.le_of_ble_eq_true rfl) dX1_need_7 ?_
    refine lv_if_eq (tgt := 21) hx hb dX1_need_10 (by decide) (fun c10 => ?_) (fun c10 => ?_)
    · refine lv_iconst (v := 0) hx hb dX1_need_21 (by decide) ?_
      exact rt_Wi K hr hlocks (rfl) hS (Or.inl ⟨by unfold cd_mnok; rw [cd_zb_eq c10, Bool.false_and, Bool.and_false], rfl, rfl⟩) dX1_need_22
    · refine lv_aload_n hx hb dX1_need_13 rfl (lv_at hl 0 rfl) ?_
      refine lv_iload_n hx hb dX1_need_14 rfl (lv_at hl 2 rfl) ?_
      refine k_X1_is K hS.1 ⟨Nat.le_of_ble_eq_true rfl, Nat.le_of_ble_eq_true rfl⟩ ⟨Nat.le_of_ble_eq_true rfl, Nat.le_of_ble_eq_true rfl⟩ hl.1 (Nat.le_of_ble_eq_true rfl) dX1_need_15 ?_
      refine lv_if_ne (tgt := 23) hx hb dX1_need_18 (by decide) (fun c18 => ?_) (fun c18 => ?_)
      · obtain ⟨j, hj, rfl⟩ := cd_is_ix (cd_zb_ne c10)
        refine lv_aload_n hx hb dX1_need_23 rfl (lv_at hl 0 rfl) ?_
        refine eg_N K hS.1 dX1_need_24 ?_
        refine lv_iload_n hx hb dX1_need_27 rfl (lv_at hl 1 rfl) ?_
        refine lv_iload_n hx hb dX1_need_28 rfl (lv_at hl 3 rfl) ?_
        refine lv_if_eq (tgt := 45) hx hb dX1_need_29 (by decide) (fun c29 => ?_) (fun c29 => ?_)
        · refine lv_aload_n hx hb dX1_need_45 rfl (lv_at hl 0 rfl) ?_
          refine eg_N K hS.1 dX1_need_46 ?_
          refine lv_iload_n hx hb dX1_need_49 rfl (lv_at hl 1 rfl) ?_
          refine el_N K hS.1 j (by omega) rfl dX1_need_50 ?_
          refine lv_iconst (v := 1) hx hb dX1_need_51 (by decide) ?_
          refine lv_iload_n hx hb dX1_need_52 rfl (lv_at hl 2 rfl) ?_
          refine lv_ishl hx hb dX1_need_53 ?_
          refine lv_iconst (v := (-1)) hx hb dX1_need_54 (by decide) ?_
          refine lv_ixor hx hb dX1_need_55 ?_
          refine lv_iand hx hb dX1_need_56 ?_
          refine es_N K hS j (by omega) rfl dX1_need_57 (fun H locs hS => ?_)
          refine lv_iconst (v := 1) hx hb dX1_need_58 (by decide) ?_
          exact rt_Wi K hr hlocks (rfl) hS (Or.inr ⟨by unfold cd_mnok; rw [cd_zb_ne c10, cd_zb_ne c18, decide_eq_true c2]; rfl, rfl, by rw [nI_clamp (by omega)]; unfold cd_nv; rw [if_pos c29]⟩) dX1_need_59
        · refine lv_aload_n hx hb dX1_need_32 rfl (lv_at hl 0 rfl) ?_
          refine eg_N K hS.1 dX1_need_33 ?_
          refine lv_iload_n hx hb dX1_need_36 rfl (lv_at hl 1 rfl) ?_
          refine el_N K hS.1 j (by omega) rfl dX1_need_37 ?_
          refine lv_iconst (v := 1) hx hb dX1_need_38 (by decide) ?_
          refine lv_iload_n hx hb dX1_need_39 rfl (lv_at hl 2 rfl) ?_
          refine lv_ishl hx hb dX1_need_40 ?_
          refine lv_ior hx hb dX1_need_41 ?_
          refine lv_goto (tgt := 57) hx hb dX1_need_42 (by decide) ?_
          refine es_N K hS j (by omega) rfl dX1_need_57 (fun H locs hS => ?_)
          refine lv_iconst (v := 1) hx hb dX1_need_58 (by decide) ?_
          exact rt_Wi K hr hlocks (rfl) hS (Or.inr ⟨by unfold cd_mnok; rw [cd_zb_ne c10, cd_zb_ne c18, decide_eq_true c2]; rfl, rfl, by rw [nI_clamp (by omega)]; unfold cd_nv; rw [if_neg c29]⟩) dX1_need_59
      · refine lv_iconst (v := 0) hx hb dX1_need_21 (by decide) ?_
        exact rt_Wi K hr hlocks (rfl) hS (Or.inl ⟨by unfold cd_mnok; rw [cd_zb_eq c18, Bool.and_false, Bool.and_false], rfl, rfl⟩) dX1_need_22
set_option maxHeartbeats 4000000 in
set_option maxRecDepth 100000 in
theorem m_X1_threshold (l : Launch) (D : va_G) (ad : Nat → Nat) (ca : Nat → ClassId) (μ : cd_M) (u : Int32) : cWi l D (mdT ca) (mdW ad ca) μ yX1_threshold cX1_threshold 5 (some .int) (cd_rm 4) [.ref (ad 0), .int u] (fun r τ => τ = μ ∧ r = (if cd_is (mT μ) u then cd_it (cd_th1 (mT μ) (mW μ) (mN μ) u) 101 51 else -100000)) := by
  refine en_Wi (own := RX1) (by decide) rfl (Nat.le_of_ble_eq_true rfl) ?_
  intro p e s m below meth c ls A K hr hlocks hS hl
  have hl : lv_has ls 5 [(0, .ref (ad 0)), (1, .int u)] := hl
  obtain ⟨hx, hb, hml, hown, hts⟩ := id K
  refine lv_aload_n hx hb dX1_threshold_0 rfl (lv_at hl 0 rfl) ?_
  refine lv_iload_n hx hb dX1_threshold_1 rfl (lv_at hl 1 rfl) ?_
  refine k_X1_is K hS.1 ⟨Nat.le_of_ble_eq_true rfl, Nat.le_of_ble_eq_true rfl⟩ ⟨Nat.le_of_ble_eq_true rfl, Nat.le_of_ble_eq_true rfl⟩ hl.1 (Nat.le_of_ble_eq_true rfl) dX1_threshold_2 ?_
  refine lv_if_ne (tgt := 11) hx hb dX1_threshold_5 (by decide) (fun c5 => ?_) (fun c5 => ?_)
  · have his := cd_zb_ne c5
    obtain ⟨j, hj, rfl⟩ := cd_is_ix his
    refine lv_aload_n hx hb dX1_threshold_11 rfl (lv_at hl 0 rfl) ?_
    refine eg_W K hS.1 dX1_threshold_12 ?_
    refine lv_iload_n hx hb dX1_threshold_15 rfl (lv_at hl 1 rfl) ?_
    refine el_W K hS.1 j (by omega) rfl dX1_threshold_16 ?_
    refine lv_istore_n (lv' := [(2, .int (mW μ j)), (0, .ref (ad 0)), (1, .int (nI j))]) hx hb dX1_threshold_17 rfl hl (by decide) rfl (fun ls hl => ?_)
    refine lv_bipush (v := 51) hx hb dX1_threshold_18 (by decide) ?_
    refine lv_istore_n (lv' := [(3, .int 51), (2, .int (mW μ j)), (0, .ref (ad 0)), (1, .int (nI j))]) hx hb dX1_threshold_20 rfl hl (by decide) rfl (fun ls hl => ?_)
    refine lv_bipush (v := 50) hx hb dX1_threshold_21 (by decide) ?_
    refine lv_istore (lv' := [(4, .int 50), (3, .int 51), (2, .int (mW μ j)), (0, .ref (ad 0)), (1, .int (nI j))]) hx hb dX1_threshold_23 hl (by decide) rfl (fun ls hl => ?_)
    refine w_all (fun H1 locs1 ls1 eH eL el => ?_)
    obtain ⟨n, i, x, y, hi, hn, hx2, hy, hS, hl⟩ : ∃ (n i : Nat) (x : Int32) (y : Nat → Int32), i ≤ 101 ∧ 101 < i + n ∧ (x = cd_it (cd_th1 (mT μ) (mW μ) (mN μ) (nI j)) i 51) ∧ (∀ a, upd y j a = upd (mW μ) j a) ∧ wS D (mdT ca) A s.heap (mdW ad ca (tW μ y)) s H1 locs1 ∧ lv_has ls1 5 [(4, .int (cd_dn 50 i)), (3, .int x), (2, .int (mW μ j)), (0, .ref (ad 0)), (1, .int (nI j))] := ⟨(101 + 1), 0, 51, mW μ, by omega, by omega, rfl, fun _ => rfl, by rw [eH, eL]; exact hS, by rw [el]; exact hl⟩
    clear eH eL el
    induction n generalizing H1 locs1 ls1 i x y with
    | zero => exact absurd hn (by omega)
    | succ n ih =>
      refine lv_iload hx hb dX1_threshold_25 (lv_at hl 0 rfl) ?_
      refine lv_bipush (v := (-50)) hx hb dX1_threshold_27 (by decide) ?_
      refine lv_icmp_lt (tgt := 65) hx hb dX1_threshold_29 (by decide) (fun c29 => ?_) (fun c29 => ?_)
      · obtain rfl := cd_dn_e2 hi c29
        refine lv_aload_n hx hb dX1_threshold_65 rfl (lv_at hl 3 rfl) ?_
        refine eg_W K hS.1 dX1_threshold_66 ?_
        refine lv_iload_n hx hb dX1_threshold_69 rfl (lv_at hl 4 rfl) ?_
        refine lv_iload_n hx hb dX1_threshold_70 rfl (lv_at hl 2 rfl) ?_
        refine es_W K hS j (by omega) rfl dX1_threshold_71 (fun H locs hS => ?_)
        refine lv_iload_n hx hb dX1_threshold_72 rfl (lv_at hl 1 rfl) ?_
        exact rt_Wi K hr hlocks (rfl) hS (⟨by show tW μ (upd y j (mW μ j)) = μ; rw [hy, cd_upd_self], by rw [if_pos his]; exact hx2⟩) dX1_threshold_73
      · have hlt := cd_dn_g2 hi c29
        refine lv_aload_n hx hb dX1_threshold_32 rfl (lv_at hl 3 rfl) ?_
        refine eg_W K hS.1 dX1_threshold_33 ?_
        refine lv_iload_n hx hb dX1_threshold_36 rfl (lv_at hl 4 rfl) ?_
        refine lv_iload hx hb dX1_threshold_37 (lv_at hl 0 rfl) ?_
        refine es_W K hS j (by omega) rfl dX1_threshold_39 (fun H locs hS => ?_)
        have hS : wS D (mdT ca) A s.heap (mdW ad ca (tW μ (upd (mW μ) j (cd_dn 50 i)))) s H locs := by rw [← hy (cd_dn 50 i)]; exact hS
        refine lv_aload_n hx hb dX1_threshold_40 rfl (lv_at hl 3 rfl) ?_
        refine lv_iload_n hx hb dX1_threshold_41 rfl (lv_at hl 4 rfl) ?_
        refine k_X1_bestWith K hS.1 ⟨Nat.le_of_ble_eq_true rfl, Nat.le_of_ble_eq_true rfl⟩ ⟨Nat.le_of_ble_eq_true rfl, Nat.le_of_ble_eq_true rfl⟩ hl.1 (Nat.le_of_ble_eq_true rfl) dX1_threshold_42 ?_
        refine lv_aload_n hx hb dX1_threshold_45 rfl (lv_at hl 3 rfl) ?_
        refine k_X1_best K hS.1 ⟨Nat.le_of_ble_eq_true rfl, Nat.le_of_ble_eq_true rfl⟩ ⟨Nat.le_of_ble_eq_true rfl, Nat.le_of_ble_eq_true rfl⟩ hl.1 (Nat.le_of_ble_eq_true rfl) dX1_threshold_46 ?_
        refine lv_icmp_ne (tgt := 57) hx hb dX1_threshold_49 (by decide) (fun c49 => ?_) (fun c49 => ?_)
        · refine lv_iload_n hx hb dX1_threshold_57 rfl (lv_at hl 1 rfl) ?_
          refine lv_istore_n (lv' := [(3, .int x), (4, .int (cd_dn 50 i)), (2, .int (mW μ j)), (0, .ref (ad 0)), (1, .int (nI j))]) hx hb dX1_threshold_58 rfl hl (by decide) rfl (fun ls hl => ?_)
          refine lv_iinc (v := cd_dn 50 (i + 1)) (lv' := [(4, .int (cd_dn 50 (i + 1))), (3, .int x), (2, .int (mW μ j)), (0, .ref (ad 0)), (1, .int (nI j))]) hx hb dX1_threshold_59 hl (k := 1) rfl (cd_dn_inc 50 i) (by decide) rfl (fun ls hl => ?_)
          refine lv_goto (tgt := 25) hx hb dX1_threshold_62 (by decide) ?_
          exact ih _ _ _ (i + 1) _ (upd (mW μ) j (cd_dn 50 i)) (by omega) (by omega) (by rw [cd_it_s, ← hx2]; unfold cd_th1; rw [nI_clamp (by omega)]; exact (if_neg c49).symm) (fun a => cd_upd2 _ _ _ _) hS (lv_sub hl [0, 1, 2, 3, 4] rfl)
        · refine lv_iload hx hb dX1_threshold_52 (lv_at hl 0 rfl) ?_
          refine lv_goto (tgt := 58) hx hb dX1_threshold_54 (by decide) ?_
          refine lv_istore_n (lv' := [(3, .int (cd_dn 50 i)), (4, .int (cd_dn 50 i)), (2, .int (mW μ j)), (0, .ref (ad 0)), (1, .int (nI j))]) hx hb dX1_threshold_58 rfl hl (by decide) rfl (fun ls hl => ?_)
          refine lv_iinc (v := cd_dn 50 (i + 1)) (lv' := [(4, .int (cd_dn 50 (i + 1))), (3, .int (cd_dn 50 i)), (2, .int (mW μ j)), (0, .ref (ad 0)), (1, .int (nI j))]) hx hb dX1_threshold_59 hl (k := 1) rfl (cd_dn_inc 50 i) (by decide) rfl (fun ls hl => ?_)
          refine lv_goto (tgt := 25) hx hb dX1_threshold_62 (by decide) ?_
          exact ih _ _ _ (i + 1) _ (upd (mW μ) j (cd_dn 50 i)) (by omega) (by omega) (by rw [cd_it_s, ← hx2]; unfold cd_th1; rw [nI_clamp (by omega)]; exact (if_pos c49).symm) (fun a => cd_upd2 _ _ _ _) hS (lv_sub hl [0, 1, 2, 3, 4] rfl)
  · refine lv_ldc (v := (-100000)) hx hb hown (hts _ q221) dX1_threshold_8 ?_
    exact rt_Wi K hr hlocks (rfl) hS (⟨rfl, by rw [cd_zb_eq c5]; rfl⟩) dX1_threshold_10
set_option maxHeartbeats 4000000 in
set_option maxRecDepth 100000 in
theorem m_X1_burden (l : Launch) (D : va_G) (ad : Nat → Nat) (ca : Nat → ClassId) (μ : cd_M) (u : Int32) (v : Int32) : cWi l D (mdT ca) (mdW ad ca) μ yX1_burden cX1_burden 6 (some .int) (cd_rm 4) [.ref (ad 0), .int u, .int v] (fun r τ => τ = μ ∧ r = (if cd_mnok (mT μ) u v then cd_best (cd_under (mT μ)) (mW μ) (upd (mN μ) u.toNatClampNeg (mN μ u.toNatClampNeg &&& (((1 : Int32) <<< (v &&& 31)) ^^^ (-1)))) - cd_best (cd_under (mT μ)) (mW μ) (mN μ) else -100000)) := by
  refine en_Wi (own := RX1) (by decide) rfl (Nat.le_of_ble_eq_true rfl) ?_
  intro p e s m below meth c ls A K hr hlocks hS hl
  have hl : lv_has ls 6 [(0, .ref (ad 0)), (1, .int u), (2, .int v)] := hl
  obtain ⟨hx, hb, hml, hown, hts⟩ := id K
  refine lv_iload_n hx hb dX1_burden_0 rfl (lv_at hl 1 rfl) ?_
  refine lv_iload_n hx hb dX1_burden_1 rfl (lv_at hl 2 rfl) ?_
  refine lv_icmp_eq (tgt := 21) hx hb dX1_burden_2 (by decide) (fun c2 => ?_) (fun c2 => ?_)
  · refine lv_ldc (v := (-100000)) hx hb hown (hts _ q221) dX1_burden_21 ?_
    exact rt_Wi K hr hlocks (rfl) hS (⟨rfl, by unfold cd_mnok; rw [decide_eq_false (fun q => q c2)]; rfl⟩) dX1_burden_23
  · refine lv_aload_n hx hb dX1_burden_5 rfl (lv_at hl 0 rfl) ?_
    refine lv_iload_n hx hb dX1_burden_6 rfl (lv_at hl 1 rfl) ?_
    refine k_X1_is K hS.1 ⟨Nat.le_of_ble_eq_true rfl, Nat.le_of_ble_eq_true rfl⟩ ⟨Nat.le_of_ble_eq_true rfl, Nat.le_of_ble_eq_true rfl⟩ hl.1 (Nat.le_of_ble_eq_true rfl) dX1_burden_7 ?_
    refine lv_if_eq (tgt := 21) hx hb dX1_burden_10 (by decide) (fun c10 => ?_) (fun c10 => ?_)
    · refine lv_ldc (v := (-100000)) hx hb hown (hts _ q221) dX1_burden_21 ?_
      exact rt_Wi K hr hlocks (rfl) hS (⟨rfl, by unfold cd_mnok; rw [cd_zb_eq c10, Bool.false_and, Bool.and_false]; rfl⟩) dX1_burden_23
    · refine lv_aload_n hx hb dX1_burden_13 rfl (lv_at hl 0 rfl) ?_
      refine lv_iload_n hx hb dX1_burden_14 rfl (lv_at hl 2 rfl) ?_
      refine k_X1_is K hS.1 ⟨Nat.le_of_ble_eq_true rfl, Nat.le_of_ble_eq_true rfl⟩ ⟨Nat.le_of_ble_eq_true rfl, Nat.le_of_ble_eq_true rfl⟩ hl.1 (Nat.le_of_ble_eq_true rfl) dX1_burden_15 ?_
      refine lv_if_ne (tgt := 24) hx hb dX1_burden_18 (by decide) (fun c18 => ?_) (fun c18 => ?_)
      · have hok : cd_mnok (mT μ) u v = true := by unfold cd_mnok; rw [cd_zb_ne c10, cd_zb_ne c18, decide_eq_true c2]; rfl
        obtain ⟨j, hj, rfl⟩ := cd_is_ix (cd_zb_ne c10)
        refine lv_aload_n hx hb dX1_burden_24 rfl (lv_at hl 0 rfl) ?_
        refine eg_N K hS.1 dX1_burden_25 ?_
        refine lv_iload_n hx hb dX1_burden_28 rfl (lv_at hl 1 rfl) ?_
        refine el_N K hS.1 j (by omega) rfl dX1_burden_29 ?_
        refine lv_istore_n (lv' := [(3, .int (mN μ j)), (0, .ref (ad 0)), (1, .int (nI j)), (2, .int v)]) hx hb dX1_burden_30 rfl hl (by decide) rfl (fun ls hl => ?_)
        refine lv_aload_n hx hb dX1_burden_31 rfl (lv_at hl 1 rfl) ?_
        refine k_X1_best K hS.1 ⟨Nat.le_of_ble_eq_true rfl, Nat.le_of_ble_eq_true rfl⟩ ⟨Nat.le_of_ble_eq_true rfl, Nat.le_of_ble_eq_true rfl⟩ hl.1 (Nat.le_of_ble_eq_true rfl) dX1_burden_32 ?_
        refine lv_istore (lv' := [(4, .int (cd_best (cd_under (mT μ)) (mW μ) (mN μ))), (3, .int (mN μ j)), (0, .ref (ad 0)), (1, .int (nI j)), (2, .int v)]) hx hb dX1_burden_35 hl (by decide) rfl (fun ls hl => ?_)
        refine lv_aload_n hx hb dX1_burden_37 rfl (lv_at hl 2 rfl) ?_
        refine eg_N K hS.1 dX1_burden_38 ?_
        refine lv_iload_n hx hb dX1_burden_41 rfl (lv_at hl 3 rfl) ?_
        refine lv_iload_n hx hb dX1_burden_42 rfl (lv_at hl 1 rfl) ?_
        refine lv_iconst (v := 1) hx hb dX1_burden_43 (by decide) ?_
        refine lv_iload_n hx hb dX1_burden_44 rfl (lv_at hl 4 rfl) ?_
        refine lv_ishl hx hb dX1_burden_45 ?_
        refine lv_iconst (v := (-1)) hx hb dX1_burden_46 (by decide) ?_
        refine lv_ixor hx hb dX1_burden_47 ?_
        refine lv_iand hx hb dX1_burden_48 ?_
        refine es_N K hS j (by omega) rfl dX1_burden_49 (fun H locs hS => ?_)
        refine lv_aload_n hx hb dX1_burden_50 rfl (lv_at hl 2 rfl) ?_
        refine k_X1_best K hS.1 ⟨Nat.le_of_ble_eq_true rfl, Nat.le_of_ble_eq_true rfl⟩ ⟨Nat.le_of_ble_eq_true rfl, Nat.le_of_ble_eq_true rfl⟩ hl.1 (Nat.le_of_ble_eq_true rfl) dX1_burden_51 ?_
        refine lv_istore (lv' := [(5, .int (cd_best (cd_under (mT (tN μ (upd (mN μ) j ((mN μ j) &&& (((1 : Int32) <<< (v &&& 31)) ^^^ (-1))))))) (mW (tN μ (upd (mN μ) j ((mN μ j) &&& (((1 : Int32) <<< (v &&& 31)) ^^^ (-1)))))) (mN (tN μ (upd (mN μ) j ((mN μ j) &&& (((1 : Int32) <<< (v &&& 31)) ^^^ (-1)))))))), (4, .int (cd_best (cd_under (mT μ)) (mW μ) (mN μ))), (3, .int (mN μ j)), (0, .ref (ad 0)), (1, .int (nI j)), (2, .int v)]) hx hb dX1_burden_54 hl (by decide) rfl (fun ls hl => ?_)
        refine lv_aload_n hx hb dX1_burden_56 rfl (lv_at hl 3 rfl) ?_
        refine eg_N K hS.1 dX1_burden_57 ?_
        refine lv_iload_n hx hb dX1_burden_60 rfl (lv_at hl 4 rfl) ?_
        refine lv_iload_n hx hb dX1_burden_61 rfl (lv_at hl 2 rfl) ?_
        refine es_N K hS j (by omega) rfl dX1_burden_62 (fun H locs hS => ?_)
        refine lv_iload hx hb dX1_burden_63 (lv_at hl 0 rfl) ?_
        refine lv_iload hx hb dX1_burden_65 (lv_at hl 1 rfl) ?_
        refine lv_isub hx hb dX1_burden_67 ?_
        exact rt_Wi K hr hlocks (rfl) hS (⟨by show tN μ (upd (upd (mN μ) j _) j (mN μ j)) = μ; rw [cd_upd2, cd_upd_self], by rw [if_pos hok, nI_clamp (by omega)]⟩) dX1_burden_68
      · refine lv_ldc (v := (-100000)) hx hb hown (hts _ q221) dX1_burden_21 ?_
        exact rt_Wi K hr hlocks (rfl) hS (⟨rfl, by unfold cd_mnok; rw [cd_zb_eq c18, Bool.and_false, Bool.and_false]; rfl⟩) dX1_burden_23
end
section
/-! the search and the sending -/
set_option maxHeartbeats 4000000 in
set_option maxRecDepth 100000 in
theorem m_X0_spread (l : Launch) (D : va_G) (ad : Nat → Nat) (ca : Nat → ClassId) (σ : cd_D) : cWi l D (dkT ca) (dkW ad ca) σ yX0_spread cX0_spread 5 (some .boolean) (cd_rm 1) [.ref (ad 0)] (fun z τ => cd_sprP σ z τ) := by
  refine en_Wi (own := RX0) (by decide) rfl (Nat.le_of_ble_eq_true rfl) ?_
  intro p e s m below meth c ls A K hr hlocks hS hl
  have hl : lv_has ls 5 [(0, .ref (ad 0))] := hl
  obtain ⟨hx, hb, hml, hown, hts⟩ := id K
  refine lv_aload_n hx hb dX0_spread_0 rfl (lv_at hl 0 rfl) ?_
  refine lv_sipush (v := 512) hx hb dX0_spread_1 (by decide) ?_
  refine dp_S K hS dX0_spread_4 (fun H locs hS => ?_)
  refine lv_aload_n hx hb dX0_spread_7 rfl (lv_at hl 0 rfl) ?_
  refine dg_L K hS.1 dX0_spread_8 ?_
  refine lv_iconst (v := 0) hx hb dX0_spread_11 (by decide) ?_
  refine lv_bipush (v := 9) hx hb dX0_spread_12 (by decide) ?_
  refine ds_L K hS 0 (by omega) rfl (9) (by decide) dX0_spread_14 (fun H locs hS => ?_)
  refine lv_iconst (v := 1) hx hb dX0_spread_15 (by decide) ?_
  refine lv_istore_n (lv' := [(1, .int 1), (0, .ref (ad 0))]) hx hb dX0_spread_16 rfl hl (by decide) rfl (fun ls hl => ?_)
  refine lv_iconst (v := 0) hx hb dX0_spread_17 (by decide) ?_
  refine lv_istore_n (lv' := [(2, .int 0), (1, .int 1), (0, .ref (ad 0))]) hx hb dX0_spread_18 rfl hl (by decide) rfl (fun ls hl => ?_)
  refine w_all (fun H1 locs1 ls1 eH eL el => ?_)
  obtain ⟨n, k, fs, f, g, en, L, q, hk, hn, hso, hS, hl⟩ : ∃ (n k : Nat) (fs : Int32) (f : Nat → Int32) (g : Nat → Int32) (en : Nat) (L : Nat → Nat) (q : Nat → Nat), k ≤ 11 ∧ 11 < k + n ∧ (cd_so (gR σ) fs f g en L q k) ∧ wS D (dkT ca) A s.heap (dkW ad ca (sL (sF (sS σ fs) f) g)) s H1 locs1 ∧ lv_has ls1 5 [(2, .int (nI k)), (1, .int (nI en)), (0, .ref (ad 0))] := ⟨(11 + 1), 0, 512, gF σ, upd (gL σ) 0 9, 1, fun _ => 9, fun _ => 0, by omega, by omega, so_0 _ _ _, by rw [eH, eL]; exact hS, by rw [el]; exact hl⟩
  clear eH eL el
  induction n generalizing H1 locs1 ls1 k fs f g en L q with
  | zero => exact absurd hn (by omega)
  | succ n ih =>
    have hen := sp_en hso.1
    refine lv_iload_n hx hb dX0_spread_19 rfl (lv_at hl 0 rfl) ?_
    refine lv_iload_n hx hb dX0_spread_20 rfl (lv_at hl 1 rfl) ?_
    refine lv_icmp_ge (tgt := 120) hx hb dX0_spread_21 (by decide) (fun c21 => ?_) (fun c21 => ?_)
    · refine lv_aload_n hx hb dX0_spread_120 rfl (lv_at hl 2 rfl) ?_
      refine dg_S K hS.1 dX0_spread_121 ?_
      refine lv_bipush (v := 10) hx hb dX0_spread_124 (by decide) ?_
      refine k_X0_in K ⟨Nat.le_of_ble_eq_true rfl, Nat.le_of_ble_eq_true rfl⟩ ⟨Nat.le_of_ble_eq_true rfl, Nat.le_of_ble_eq_true rfl⟩ hl.1 (Nat.le_of_ble_eq_true rfl) dX0_spread_126 ?_
      exact rt_Wi K hr hlocks (cd_zb_nar _) hS (⟨fs, f, g, en, L, q, rfl, hso.1, so_end hso ((nI_leI (by omega) (by omega)).mp c21), congrArg cd_zb (cb_in (u := 10) (by omega))⟩) dX0_spread_129
    · refine lv_iload_n hx hb dX0_spread_24 rfl (lv_at hl 0 rfl) ?_
      refine lv_bipush (v := 11) hx hb dX0_spread_25 (by decide) ?_
      refine lv_icmp_ge (tgt := 120) hx hb dX0_spread_27 (by decide) (fun c27 => ?_) (fun c27 => ?_)
      · refine lv_aload_n hx hb dX0_spread_120 rfl (lv_at hl 2 rfl) ?_
        refine dg_S K hS.1 dX0_spread_121 ?_
        refine lv_bipush (v := 10) hx hb dX0_spread_124 (by decide) ?_
        refine k_X0_in K ⟨Nat.le_of_ble_eq_true rfl, Nat.le_of_ble_eq_true rfl⟩ ⟨Nat.le_of_ble_eq_true rfl, Nat.le_of_ble_eq_true rfl⟩ hl.1 (Nat.le_of_ble_eq_true rfl) dX0_spread_126 ?_
        exact rt_Wi K hr hlocks (cd_zb_nar _) hS (⟨fs, f, g, en, L, q, rfl, hso.1, so_end hso (by have := (nI_leI (a := 11) (by omega) (by omega)).mp c27; omega), congrArg cd_zb (cb_in (u := 10) (by omega))⟩) dX0_spread_129
      · have hken : k < en := by
          rcases Nat.lt_or_ge k en with h | h
          · exact h
          · exact absurd (nI_le h (by omega)) c21
        have hk11 : k < 11 := by omega
        have hsi := so_in hso hken
        obtain ⟨a, ea⟩ : ∃ a, a = L k := ⟨_, rfl⟩
        rw [← ea] at hsi
        have ha : a < 11 := by rw [ea]; exact (hso.1.2.2.2.1 k hken).1
        refine lv_aload_n hx hb dX0_spread_30 rfl (lv_at hl 2 rfl) ?_
        refine dg_L K hS.1 dX0_spread_31 ?_
        refine lv_iload_n hx hb dX0_spread_34 rfl (lv_at hl 0 rfl) ?_
        refine dl_L K hS.1 k (by omega) rfl dX0_spread_35 ?_
        refine tp_eq (nI a) (by rw [ea]; exact (hso.1.2.2.2.1 k hken).2) ?_
        refine lv_istore_n (lv' := [(3, .int (nI a)), (2, .int (nI k)), (1, .int (nI en)), (0, .ref (ad 0))]) hx hb dX0_spread_36 rfl hl (by decide) rfl (fun ls hl => ?_)
        refine lv_iconst (v := 0) hx hb dX0_spread_37 (by decide) ?_
        refine lv_istore (lv' := [(4, .int 0), (3, .int (nI a)), (2, .int (nI k)), (1, .int (nI en)), (0, .ref (ad 0))]) hx hb dX0_spread_38 hl (by decide) rfl (fun ls hl => ?_)
        refine w_all (fun H1 locs1 ls1 eH eL el => ?_)
        obtain ⟨n2, j, fs1, f1, g1, en1, L1, q1, hj, hn2, hsj, hS, hl⟩ : ∃ (n2 j : Nat) (fs1 : Int32) (f1 : Nat → Int32) (g1 : Nat → Int32) (en1 : Nat) (L1 : Nat → Nat) (q1 : Nat → Nat), j ≤ 11 ∧ 11 < j + n2 ∧ (cd_si (gR σ) fs1 f1 g1 en1 L1 q1 k a j) ∧ wS D (dkT ca) A s.heap (dkW ad ca (sL (sF (sS σ fs1) f1) g1)) s H1 locs1 ∧ lv_has ls1 5 [(4, .int (nI j)), (3, .int (nI a)), (2, .int (nI k)), (1, .int (nI en1)), (0, .ref (ad 0))] := ⟨(11 + 1), 0, fs, f, g, en, L, q, by omega, by omega, hsi, by rw [eH, eL]; exact hS, by rw [el]; exact hl⟩
        clear eH eL el
        induction n2 generalizing H1 locs1 ls1 j fs1 f1 g1 en1 L1 q1 with
        | zero => exact absurd hn2 (by omega)
        | succ n2 ih2 =>
          have hen1 := sp_en hsj.1
          refine lv_iload hx hb dX0_spread_40 (lv_at hl 0 rfl) ?_
          refine lv_bipush (v := 11) hx hb dX0_spread_42 (by decide) ?_
          refine lv_icmp_ge (tgt := 114) hx hb dX0_spread_44 (by decide) (fun c44 => ?_) (fun c44 => ?_)
          · obtain rfl := cd_ge (N := 11) hj (by omega) c44
            refine lv_iinc (v := nI (k + 1)) (lv' := [(2, .int (nI (k + 1))), (4, .int (nI 11)), (3, .int (nI a)), (1, .int (nI en1)), (0, .ref (ad 0))]) hx hb dX0_spread_114 hl (k := 2) rfl (cd_inc k) (by decide) rfl (fun ls hl => ?_)
            refine lv_goto (tgt := 19) hx hb dX0_spread_117 (by decide) ?_
            exact ih _ _ _ (k + 1) fs1 f1 g1 en1 L1 q1 (by omega) (by omega) (si_done hsj) hS (lv_sub hl [0, 3, 4] rfl)
          · have hlt := cd_lt (N := 11) hj (by omega) c44
            refine lv_aload_n hx hb dX0_spread_47 rfl (lv_at hl 4 rfl) ?_
            refine dg_S K hS.1 dX0_spread_48 ?_
            refine lv_iload hx hb dX0_spread_51 (lv_at hl 0 rfl) ?_
            refine k_X0_in K ⟨Nat.le_of_ble_eq_true rfl, Nat.le_of_ble_eq_true rfl⟩ ⟨Nat.le_of_ble_eq_true rfl, Nat.le_of_ble_eq_true rfl⟩ hl.1 (Nat.le_of_ble_eq_true rfl) dX0_spread_53 ?_
            refine lv_if_ne (tgt := 108) hx hb dX0_spread_56 (by decide) (fun c56 => ?_) (fun c56 => ?_)
            · refine lv_iinc (v := nI (j + 1)) (lv' := [(4, .int (nI (j + 1))), (3, .int (nI a)), (2, .int (nI k)), (1, .int (nI en1)), (0, .ref (ad 0))]) hx hb dX0_spread_108 hl (k := 0) rfl (cd_inc j) (by decide) rfl (fun ls hl => ?_)
              refine lv_goto (tgt := 40) hx hb dX0_spread_111 (by decide) ?_
              exact ih2 _ _ _ (j + 1) fs1 f1 g1 en1 L1 q1 (by omega) (by omega) (si_skip1 hsj (by rw [← cb_in (by omega)]; exact cd_zb_ne c56)) hS (lv_sub hl [0, 1, 2, 3, 4] rfl)
            · refine lv_aload_n hx hb dX0_spread_59 rfl (lv_at hl 4 rfl) ?_
              refine dg_R K hS.1 dX0_spread_60 ?_
              refine lv_iload_n hx hb dX0_spread_63 rfl (lv_at hl 1 rfl) ?_
              refine lv_bipush (v := 11) hx hb dX0_spread_64 (by decide) ?_
              refine lv_imul hx hb dX0_spread_66 ?_
              refine lv_iload hx hb dX0_spread_67 (lv_at hl 0 rfl) ?_
              refine lv_iadd hx hb dX0_spread_69 ?_
              refine dl_R K hS.1 (a * 11 + j) (by omega) (cd_ixm a j) dX0_spread_70 ?_
              refine lv_if_le (tgt := 108) hx hb dX0_spread_71 (by decide) (fun c71 => ?_) (fun c71 => ?_)
              · refine lv_iinc (v := nI (j + 1)) (lv' := [(4, .int (nI (j + 1))), (3, .int (nI a)), (2, .int (nI k)), (1, .int (nI en1)), (0, .ref (ad 0))]) hx hb dX0_spread_108 hl (k := 0) rfl (cd_inc j) (by decide) rfl (fun ls hl => ?_)
                refine lv_goto (tgt := 40) hx hb dX0_spread_111 (by decide) ?_
                exact ih2 _ _ _ (j + 1) fs1 f1 g1 en1 L1 q1 (by omega) (by omega) (si_skip2 hsj (Int.not_lt.mpr (cd_le0.mp c71))) hS (lv_sub hl [0, 1, 2, 3, 4] rfl)
              · refine lv_aload_n hx hb dX0_spread_74 rfl (lv_at hl 4 rfl) ?_
                refine lv_dup hx hb dX0_spread_75 rfl ?_
                refine dg_S K hS.1 dX0_spread_76 ?_
                refine lv_iconst (v := 1) hx hb dX0_spread_79 (by decide) ?_
                refine lv_iload hx hb dX0_spread_80 (lv_at hl 0 rfl) ?_
                refine lv_ishl hx hb dX0_spread_82 ?_
                refine lv_ior hx hb dX0_spread_83 ?_
                refine dp_S K hS dX0_spread_84 (fun H locs hS => ?_)
                refine lv_aload_n hx hb dX0_spread_87 rfl (lv_at hl 4 rfl) ?_
                refine dg_F K hS.1 dX0_spread_88 ?_
                refine lv_iload hx hb dX0_spread_91 (lv_at hl 0 rfl) ?_
                refine lv_iload_n hx hb dX0_spread_93 rfl (lv_at hl 1 rfl) ?_
                refine lv_i2b (v := (nI a).toInt8.toInt32) hx hb dX0_spread_94 rfl ?_
                refine tp_eq (nI a) (cd_b8 a (by omega)) ?_
                refine ds_F K hS j (by omega) rfl (nI a) (cd_nb (by omega)) dX0_spread_95 (fun H locs hS => ?_)
                refine lv_aload_n hx hb dX0_spread_96 rfl (lv_at hl 4 rfl) ?_
                refine dg_L K hS.1 dX0_spread_97 ?_
                refine lv_iload_n hx hb dX0_spread_100 rfl (lv_at hl 3 rfl) ?_
                refine lv_iload hx hb dX0_spread_101 (lv_at hl 0 rfl) ?_
                refine lv_i2b (v := (nI j).toInt8.toInt32) hx hb dX0_spread_103 rfl ?_
                refine tp_eq (nI j) (cd_b8 j (by omega)) ?_
                refine ds_L K hS en1 (by omega) rfl (nI j) (cd_nb (by omega)) dX0_spread_104 (fun H locs hS => ?_)
                refine lv_iinc (v := nI (en1 + 1)) (lv' := [(1, .int (nI (en1 + 1))), (4, .int (nI j)), (3, .int (nI a)), (2, .int (nI k)), (0, .ref (ad 0))]) hx hb dX0_spread_105 hl (k := 3) rfl (cd_inc en1) (by decide) rfl (fun ls hl => ?_)
                refine lv_iinc (v := nI (j + 1)) (lv' := [(4, .int (nI (j + 1))), (1, .int (nI (en1 + 1))), (3, .int (nI a)), (2, .int (nI k)), (0, .ref (ad 0))]) hx hb dX0_spread_108 hl (k := 1) rfl (cd_inc j) (by decide) rfl (fun ls hl => ?_)
                refine lv_goto (tgt := 40) hx hb dX0_spread_111 (by decide) ?_
                exact ih2 _ _ _ (j + 1) _ _ _ _ _ _ (by omega) (by omega) (si_add hsj hlt (by rw [← cb_in (by omega)]; exact cd_zb_eq c56) (Int.not_le.mp (fun h => c71 (cd_le0.mpr h)))) hS (lv_sub hl [0, 2, 3, 1, 4] rfl)
set_option maxHeartbeats 4000000 in
set_option maxRecDepth 100000 in
theorem k_X0_spread {p : Program} {l : Launch} {e : Env} {R : Room} {s : State} {m : MethodId} {args : Array Value} {below : List Frame} {meth : Method} {c : Code} {H : Heap} {locs : List Loc} {cells slots : Nat} {Q : State → Prop} {cc : ByteArray} {nL pc : Nat} {ls : Array Slot} {rest : List Value} {D : va_G} {A : Nat → Prop} {H0 : Heap} {ad : Nat → Nat} {ca : Nat → ClassId} {σ : cd_D} (K : CallFix p m c cc nL s args lw_all RX0)  (hS : wS D (dkT ca) A H0 (dkW ad ca σ) s H locs) (hR : (cd_rm 1).frames + 1 ≤ R.frames ∧ 8 + (5 + 11) + (cd_rm 1).locals ≤ R.locals) (hf : cells + 0 ≤ R.cells ∧ slots + 0 ≤ R.slots) (hls : ls.size = nL) (hrm : (rest.map fun v => v.category).sum ≤ 8) (hdg : decode cc pc = .ok (.invokevirtual 46, 3)) (kk : ∀ (rr : Int32) (zz : cd_D) (H1 : Heap) (locs1 : List Loc), (fun z τ => cd_sprP σ z τ) rr zz → wS D (dkT ca) A H0 (dkW ad ca zz) s H1 locs1 → W p l e R s m args below meth c H1 locs1 cells slots Q (F0 m (pc + 3) ls (.int rr :: rest))) : W p l e R s m args below meth c H locs cells slots Q (F0 m pc ls (.ref (ad 0) :: rest)) :=
  cl_Wi K (m_X0_spread l D ad ca σ) (cwV 0 K.2.2.2.2 (lw_V q103 q105 qs3 q14 q106) rfl rfl rfl (by decide +kernel) hR) hS (va_recv hS.1.1 hS.1.2 (ci := 0) (q0 := 0) rfl rfl) rfl hls rfl hrm hf hdg kk
set_option maxHeartbeats 4000000 in
set_option maxRecDepth 100000 in
theorem m_X0_push (l : Launch) (D : va_G) (ad : Nat → Nat) (ca : Nat → ClassId) (σ : cd_D) (fs : Int32) (en : Nat) (L q : Nat → Nat) (i0 : Nat) (hsp : cd_sp (gR σ) fs (gF σ) (gL σ) en L q) (hi0 : i0 < en) (hL0 : L i0 = 10) (hri : cd_ri (gR σ)) : cWi l D (dkT ca) (dkW ad ca) σ yX0_push cX0_push 4 (some .int) (cd_rm 0) [.ref (ad 0)] (fun z τ => cd_pusP σ z τ) := by
  refine en_Wi (own := RX0) (by decide) rfl (Nat.le_of_ble_eq_true rfl) ?_
  intro p e s m below meth c ls A K hr hlocks hS hl
  have hl : lv_has ls 4 [(0, .ref (ad 0))] := hl
  obtain ⟨hx, hb, hml, hown, hts⟩ := id K
  refine lv_ldc (v := 1048576) hx hb hown (hts _ q102) dX0_push_0 ?_
  refine lv_istore_n (lv' := [(1, .int 1048576), (0, .ref (ad 0))]) hx hb dX0_push_2 rfl hl (by decide) rfl (fun ls hl => ?_)
  refine lv_bipush (v := 10) hx hb dX0_push_3 (by decide) ?_
  refine lv_istore_n (lv' := [(2, .int 10), (1, .int 1048576), (0, .ref (ad 0))]) hx hb dX0_push_5 rfl hl (by decide) rfl (fun ls hl => ?_)
  refine w_all (fun H1 locs1 ls1 eH eL el => ?_)
  obtain ⟨n, i, d, b, hi, hn, eb, hd, hpl, hS, hl⟩ : ∃ (n i : Nat) (d : Int32) (b : Nat), i < en ∧ i < n ∧ (b = L i) ∧ (0 < d.toInt) ∧ (∀ z : Int, z ≤ d.toInt → cd_pl (gR σ) L q z i → cd_pl (gR σ) L q z i0) ∧ wS D (dkT ca) A s.heap (dkW ad ca σ) s H1 locs1 ∧ lv_has ls1 4 [(2, .int (nI b)), (1, .int d), (0, .ref (ad 0))] := ⟨en, i0, 1048576, 10, hi0, hi0, hL0.symm, by decide, fun _ _ h => h, by rw [eH, eL]; exact hS, by rw [el]; exact hl⟩
  clear eH eL el
  induction n generalizing H1 locs1 ls1 i d b with
  | zero => exact absurd hn (by omega)
  | succ n ih =>
    have hb11 : b < 11 := by rw [eb]; exact (hsp.2.2.2.1 i hi).1
    refine lv_iload_n hx hb dX0_push_6 rfl (lv_at hl 0 rfl) ?_
    refine lv_bipush (v := 9) hx hb dX0_push_7 (by decide) ?_
    refine lv_icmp_eq (tgt := 50) hx hb dX0_push_9 (by decide) (fun c9 => ?_) (fun c9 => ?_)
    · have e9 : L i = 9 := by rw [← eb]; exact (nI_eq (b := 9) (by omega) (by omega)).mp c9
      have ei : i = 0 := hsp.2.2.2.2.2.1 i 0 hi hsp.1 (by rw [e9, hsp.2.1])
      have hpl2 := hpl d.toInt (Int.le_refl _) (by rw [ei]; exact pl_0 hsp.2.2.1)
      clear hpl eb hb11 hi ih e9 ei c9
      refine lv_bipush (v := 10) hx hb dX0_push_50 (by decide) ?_
      refine lv_istore_n (lv' := [(2, .int 10), (1, .int d), (0, .ref (ad 0))]) hx hb dX0_push_52 rfl hl (by decide) rfl (fun ls hl => ?_)
      refine w_all (fun H1 locs1 ls1 eH eL el => ?_)
      obtain ⟨n2, j, b2, r', hj, hn2, eb2, hp2, hS, hl⟩ : ∃ (n2 j : Nat) (b2 : Nat) (r' : Nat → Int32), j < en ∧ j < n2 ∧ (b2 = L j) ∧ (cd_p2 (gR σ) r' L q d.toInt j) ∧ wS D (dkT ca) A s.heap (dkW ad ca (sR σ r')) s H1 locs1 ∧ lv_has ls1 4 [(2, .int (nI b2)), (1, .int d), (0, .ref (ad 0))] := ⟨en, i0, 10, gR σ, hi0, hi0, hL0.symm, p2_0 hri hL0 hpl2, by rw [eH, eL]; exact hS, by rw [el]; exact hl⟩
      clear eH eL el
      induction n2 generalizing H1 locs1 ls1 j b2 r' with
      | zero => exact absurd hn2 (by omega)
      | succ n2 ih2 =>
        have hb2 : b2 < 11 := by rw [eb2]; exact (hsp.2.2.2.1 j hj).1
        refine lv_iload_n hx hb dX0_push_53 rfl (lv_at hl 0 rfl) ?_
        refine lv_bipush (v := 9) hx hb dX0_push_54 (by decide) ?_
        refine lv_icmp_eq (tgt := 106) hx hb dX0_push_56 (by decide) (fun c56 => ?_) (fun c56 => ?_)
        · have e9 : L j = 9 := by rw [← eb2]; exact (nI_eq (b := 9) (by omega) (by omega)).mp c56
          refine lv_iload_n hx hb dX0_push_106 rfl (lv_at hl 1 rfl) ?_
          exact rt_Wi K hr hlocks (rfl) hS (⟨r', rfl, p2_end hd e9 hp2⟩) dX0_push_107
        · have h0j : 0 < j := by
            rcases Nat.eq_zero_or_pos j with h | h
            · exact absurd (by rw [eb2, h, hsp.2.1]; rfl) c56
            · exact h
          have hqj := hsp.2.2.2.2.2.2 j h0j hj
          obtain ⟨a, ea⟩ : ∃ a, a = L (q j) := ⟨_, rfl⟩
          have ha : a < 11 := by rw [ea]; exact (hsp.2.2.2.1 (q j) (by omega)).1
          refine lv_aload_n hx hb dX0_push_59 rfl (lv_at hl 2 rfl) ?_
          refine dg_F K hS.1 dX0_push_60 ?_
          refine lv_iload_n hx hb dX0_push_63 rfl (lv_at hl 0 rfl) ?_
          refine dl_F K hS.1 b2 (by omega) rfl dX0_push_64 ?_
          refine tp_eq (nI a) (by rw [ea, eb2]; exact hqj.2.1) ?_
          refine lv_istore_n (lv' := [(3, .int (nI a)), (2, .int (nI b2)), (1, .int d), (0, .ref (ad 0))]) hx hb dX0_push_65 rfl hl (by decide) rfl (fun ls hl => ?_)
          refine lv_aload_n hx hb dX0_push_66 rfl (lv_at hl 3 rfl) ?_
          refine dg_R K hS.1 dX0_push_67 ?_
          refine lv_iload_n hx hb dX0_push_70 rfl (lv_at hl 0 rfl) ?_
          refine lv_bipush (v := 11) hx hb dX0_push_71 (by decide) ?_
          refine lv_imul hx hb dX0_push_73 ?_
          refine lv_iload_n hx hb dX0_push_74 rfl (lv_at hl 1 rfl) ?_
          refine lv_iadd hx hb dX0_push_75 ?_
          refine lv_dup2_11 hx hb dX0_push_76 rfl rfl ?_
          refine dl_R K hS.1 (a * 11 + b2) (by omega) (cd_ixm a b2) dX0_push_77 ?_
          refine lv_iload_n hx hb dX0_push_78 rfl (lv_at hl 2 rfl) ?_
          refine lv_isub hx hb dX0_push_79 ?_
          refine ds_R K hS (a * 11 + b2) (by omega) (cd_ixm a b2) dX0_push_80 (fun H locs hS => ?_)
          refine lv_aload_n hx hb dX0_push_81 rfl (lv_at hl 3 rfl) ?_
          refine dg_R K hS.1 dX0_push_82 ?_
          refine lv_iload_n hx hb dX0_push_85 rfl (lv_at hl 1 rfl) ?_
          refine lv_bipush (v := 11) hx hb dX0_push_86 (by decide) ?_
          refine lv_imul hx hb dX0_push_88 ?_
          refine lv_iload_n hx hb dX0_push_89 rfl (lv_at hl 0 rfl) ?_
          refine lv_iadd hx hb dX0_push_90 ?_
          refine lv_dup2_11 hx hb dX0_push_91 rfl rfl ?_
          refine dl_R K hS.1 (b2 * 11 + a) (by omega) (cd_ixm b2 a) dX0_push_92 ?_
          refine lv_iload_n hx hb dX0_push_93 rfl (lv_at hl 2 rfl) ?_
          refine lv_iadd hx hb dX0_push_94 ?_
          refine ds_R K hS (b2 * 11 + a) (by omega) (cd_ixm b2 a) dX0_push_95 (fun H locs hS => ?_)
          refine lv_aload_n hx hb dX0_push_96 rfl (lv_at hl 3 rfl) ?_
          refine dg_F K hS.1 dX0_push_97 ?_
          refine lv_iload_n hx hb dX0_push_100 rfl (lv_at hl 1 rfl) ?_
          refine dl_F K hS.1 b2 (by omega) rfl dX0_push_101 ?_
          refine tp_eq (nI a) (by rw [ea, eb2]; exact hqj.2.1) ?_
          refine lv_istore_n (lv' := [(2, .int (nI a)), (3, .int (nI a)), (1, .int d), (0, .ref (ad 0))]) hx hb dX0_push_102 rfl hl (by decide) rfl (fun ls hl => ?_)
          refine lv_goto (tgt := 53) hx hb dX0_push_103 (by decide) ?_
          exact ih2 _ _ _ (q j) a _ (by omega) (by omega) (ea) (p2_step hsp hri hd h0j hj ea eb2 hp2) hS (lv_sub hl [0, 2, 3] rfl)
    · have h0i : 0 < i := by
        rcases Nat.eq_zero_or_pos i with h | h
        · exact absurd (by rw [eb, h, hsp.2.1]; rfl) c9
        · exact h
      have hqi := hsp.2.2.2.2.2.2 i h0i hi
      obtain ⟨a, ea⟩ : ∃ a, a = L (q i) := ⟨_, rfl⟩
      have ha : a < 11 := by rw [ea]; exact (hsp.2.2.2.1 (q i) (by omega)).1
      refine lv_aload_n hx hb dX0_push_12 rfl (lv_at hl 2 rfl) ?_
      refine dg_R K hS.1 dX0_push_13 ?_
      refine lv_aload_n hx hb dX0_push_16 rfl (lv_at hl 2 rfl) ?_
      refine dg_F K hS.1 dX0_push_17 ?_
      refine lv_iload_n hx hb dX0_push_20 rfl (lv_at hl 0 rfl) ?_
      refine dl_F K hS.1 b (by omega) rfl dX0_push_21 ?_
      refine tp_eq (nI a) (by rw [ea, eb]; exact hqi.2.1) ?_
      refine lv_bipush (v := 11) hx hb dX0_push_22 (by decide) ?_
      refine lv_imul hx hb dX0_push_24 ?_
      refine lv_iload_n hx hb dX0_push_25 rfl (lv_at hl 0 rfl) ?_
      refine lv_iadd hx hb dX0_push_26 ?_
      refine dl_R K hS.1 (a * 11 + b) (by omega) (cd_ixm a b) dX0_push_27 ?_
      refine lv_istore_n (lv' := [(3, .int (gR σ (a * 11 + b))), (2, .int (nI b)), (1, .int d), (0, .ref (ad 0))]) hx hb dX0_push_28 rfl hl (by decide) rfl (fun ls hl => ?_)
      refine lv_iload_n hx hb dX0_push_29 rfl (lv_at hl 0 rfl) ?_
      refine lv_iload_n hx hb dX0_push_30 rfl (lv_at hl 2 rfl) ?_
      refine lv_icmp_ge (tgt := 38) hx hb dX0_push_31 (by decide) (fun c31 => ?_) (fun c31 => ?_)
      · refine lv_iload_n hx hb dX0_push_38 rfl (lv_at hl 2 rfl) ?_
        refine lv_istore_n (lv' := [(1, .int d), (3, .int (gR σ (a * 11 + b))), (2, .int (nI b)), (0, .ref (ad 0))]) hx hb dX0_push_39 rfl hl (by decide) rfl (fun ls hl => ?_)
        refine lv_aload_n hx hb dX0_push_40 rfl (lv_at hl 3 rfl) ?_
        refine dg_F K hS.1 dX0_push_41 ?_
        refine lv_iload_n hx hb dX0_push_44 rfl (lv_at hl 2 rfl) ?_
        refine dl_F K hS.1 b (by omega) rfl dX0_push_45 ?_
        refine tp_eq (nI a) (by rw [ea, eb]; exact hqi.2.1) ?_
        refine lv_istore_n (lv' := [(2, .int (nI a)), (1, .int d), (3, .int (gR σ (a * 11 + b))), (0, .ref (ad 0))]) hx hb dX0_push_46 rfl hl (by decide) rfl (fun ls hl => ?_)
        refine lv_goto (tgt := 6) hx hb dX0_push_47 (by decide) ?_
        exact ih _ _ _ (q i) _ a (by omega) (by omega) (ea) (hd) (fun z hz hp => hpl z hz (pl_s (by have := cd_leI.mp c31; rw [ea, eb] at this; omega) hp)) hS (lv_sub hl [0, 1, 3] rfl)
      · refine lv_iload_n hx hb dX0_push_34 rfl (lv_at hl 0 rfl) ?_
        refine lv_goto (tgt := 39) hx hb dX0_push_35 (by decide) ?_
        refine lv_istore_n (lv' := [(1, .int (gR σ (a * 11 + b))), (3, .int (gR σ (a * 11 + b))), (2, .int (nI b)), (0, .ref (ad 0))]) hx hb dX0_push_39 rfl hl (by decide) rfl (fun ls hl => ?_)
        refine lv_aload_n hx hb dX0_push_40 rfl (lv_at hl 3 rfl) ?_
        refine dg_F K hS.1 dX0_push_41 ?_
        refine lv_iload_n hx hb dX0_push_44 rfl (lv_at hl 2 rfl) ?_
        refine dl_F K hS.1 b (by omega) rfl dX0_push_45 ?_
        refine tp_eq (nI a) (by rw [ea, eb]; exact hqi.2.1) ?_
        refine lv_istore_n (lv' := [(2, .int (nI a)), (1, .int (gR σ (a * 11 + b))), (3, .int (gR σ (a * 11 + b))), (0, .ref (ad 0))]) hx hb dX0_push_46 rfl hl (by decide) rfl (fun ls hl => ?_)
        refine lv_goto (tgt := 6) hx hb dX0_push_47 (by decide) ?_
        exact ih _ _ _ (q i) _ a (by omega) (by omega) (ea) (by rw [ea, eb]; exact hqi.2.2) (fun z hz hp => hpl z (by have := mt cd_leI.mpr c31; omega) (pl_s (by rw [ea, eb] at hz; exact hz) hp)) hS (lv_sub hl [0, 1, 3] rfl)
set_option maxHeartbeats 4000000 in
set_option maxRecDepth 100000 in
theorem k_X0_push {p : Program} {l : Launch} {e : Env} {R : Room} {s : State} {m : MethodId} {args : Array Value} {below : List Frame} {meth : Method} {c : Code} {H : Heap} {locs : List Loc} {cells slots : Nat} {Q : State → Prop} {cc : ByteArray} {nL pc : Nat} {ls : Array Slot} {rest : List Value} {D : va_G} {A : Nat → Prop} {H0 : Heap} {ad : Nat → Nat} {ca : Nat → ClassId} {σ : cd_D} (K : CallFix p m c cc nL s args lw_all RX0) (fs : Int32) (en : Nat) (L q : Nat → Nat) (i0 : Nat) (hsp : cd_sp (gR σ) fs (gF σ) (gL σ) en L q) (hi0 : i0 < en) (hL0 : L i0 = 10) (hri : cd_ri (gR σ)) (hS : wS D (dkT ca) A H0 (dkW ad ca σ) s H locs) (hR : (cd_rm 0).frames + 1 ≤ R.frames ∧ 8 + (4 + 11) + (cd_rm 0).locals ≤ R.locals) (hf : cells + 0 ≤ R.cells ∧ slots + 0 ≤ R.slots) (hls : ls.size = nL) (hrm : (rest.map fun v => v.category).sum ≤ 8) (hdg : decode cc pc = .ok (.invokevirtual 50, 3)) (kk : ∀ (rr : Int32) (zz : cd_D) (H1 : Heap) (locs1 : List Loc), (fun z τ => cd_pusP σ z τ) rr zz → wS D (dkT ca) A H0 (dkW ad ca zz) s H1 locs1 → W p l e R s m args below meth c H1 locs1 cells slots Q (F0 m (pc + 3) ls (.int rr :: rest))) : W p l e R s m args below meth c H locs cells slots Q (F0 m pc ls (.ref (ad 0) :: rest)) :=
  cl_Wi K (m_X0_push l D ad ca σ fs en L q i0 hsp hi0 hL0 hri) (cwV 0 K.2.2.2.2 (lw_V q107 q109 qs4 q14 q110) rfl rfl rfl (by decide +kernel) hR) hS (va_recv hS.1.1 hS.1.2 (ci := 0) (q0 := 0) rfl rfl) rfl hls rfl hrm hf hdg kk
end
section
/-! the greatest flow -/
set_option maxHeartbeats 4000000 in
set_option maxRecDepth 100000 in
theorem m_X0_solve (l : Launch) (D : va_G) (ad : Nat → Nat) (ca : Nat → ClassId) (σ : cd_D) (hok : cd_aok (gP σ) (gN σ) (gK σ)) : cWi l D (dkT ca) (dkW ad ca) σ yX0_solve cX0_solve 4 (some .int) (cd_rm 2) [.ref (ad 0)] (fun z τ => cd_solP σ z τ) := by
  refine en_Wi (own := RX0) (by decide) rfl (Nat.le_of_ble_eq_true rfl) ?_
  intro p e s m below meth c ls A K hr hlocks hS hl
  have hl : lv_has ls 4 [(0, .ref (ad 0))] := hl
  obtain ⟨hx, hb, hml, hown, hts⟩ := id K
  refine lv_iconst (v := 0) hx hb dX0_solve_0 (by decide) ?_
  refine lv_istore_n (lv' := [(1, .int 0), (0, .ref (ad 0))]) hx hb dX0_solve_1 rfl hl (by decide) rfl (fun ls hl => ?_)
  refine lv_iconst (v := 0) hx hb dX0_solve_2 (by decide) ?_
  refine lv_istore_n (lv' := [(2, .int 0), (1, .int 0), (0, .ref (ad 0))]) hx hb dX0_solve_3 rfl hl (by decide) rfl (fun ls hl => ?_)
  refine w_all (fun H1 locs1 ls1 eH eL el => ?_)
  obtain ⟨n, i, x, hi, hn, hx2, hS, hl⟩ : ∃ (n i : Nat) (x : Nat → Int32), i ≤ 121 ∧ 121 < i + n ∧ (x = cd_it cd_i0 i (gR σ)) ∧ wS D (dkT ca) A s.heap (dkW ad ca (sR σ x)) s H1 locs1 ∧ lv_has ls1 4 [(2, .int (nI i)), (1, .int 0), (0, .ref (ad 0))] := ⟨(121 + 1), 0, gR σ, by omega, by omega, rfl, by rw [eH, eL]; exact hS, by rw [el]; exact hl⟩
  clear eH eL el
  induction n generalizing H1 locs1 ls1 i x with
  | zero => exact absurd hn (by omega)
  | succ n ih =>
    refine lv_iload_n hx hb dX0_solve_4 rfl (lv_at hl 0 rfl) ?_
    refine lv_bipush (v := 121) hx hb dX0_solve_5 (by decide) ?_
    refine lv_icmp_ge (tgt := 23) hx hb dX0_solve_7 (by decide) (fun c7 => ?_) (fun c7 => ?_)
    · obtain rfl := cd_ge (N := 121) hi (by omega) c7
      clear ih
      refine lv_iconst (v := 0) hx hb dX0_solve_23 (by decide) ?_
      refine lv_istore_n (lv' := [(2, .int 0), (1, .int 0), (0, .ref (ad 0))]) hx hb dX0_solve_24 rfl hl (by decide) rfl (fun ls hl => ?_)
      refine w_all (fun H1 locs1 ls1 eH eL el => ?_)
      obtain ⟨n, i, y, hi, hn, hy, hS, hl⟩ : ∃ (n i : Nat) (y : Int32 × (Nat → Int32)), i ≤ 9 ∧ 9 < i + n ∧ (y = cd_it (cd_i2 (gP σ) (gN σ) (gK σ)) i (0, cd_it cd_i0 121 (gR σ))) ∧ wS D (dkT ca) A s.heap (dkW ad ca (sR σ y.2)) s H1 locs1 ∧ lv_has ls1 4 [(2, .int (nI i)), (1, .int (y.1)), (0, .ref (ad 0))] := ⟨(9 + 1), 0, (0, x), by omega, by omega, by rw [hx2]; rfl, by rw [eH, eL]; exact hS, by rw [el]; exact hl⟩
      clear eH eL el
      induction n generalizing H1 locs1 ls1 i y with
      | zero => exact absurd hn (by omega)
      | succ n ih =>
        refine lv_iload_n hx hb dX0_solve_25 rfl (lv_at hl 0 rfl) ?_
        refine lv_bipush (v := 9) hx hb dX0_solve_26 (by decide) ?_
        refine lv_icmp_ge (tgt := 171) hx hb dX0_solve_28 (by decide) (fun c28 => ?_) (fun c28 => ?_)
        · obtain rfl := cd_ge (N := 9) hi (by omega) c28
          clear ih
          have hy : y = cd_ini (gP σ) (gN σ) (gK σ) (gR σ) := hy
          obtain ⟨S0, hS0, hv0, hr0⟩ := hok.2.2
          have hX0 := ini_tot (r := gR σ) hok
          refine lv_iconst (v := 0) hx hb dX0_solve_171 (by decide) ?_
          refine lv_istore_n (lv' := [(2, .int 0), (1, .int (y.1)), (0, .ref (ad 0))]) hx hb dX0_solve_172 rfl hl (by decide) rfl (fun ls hl => ?_)
          refine w_all (fun H1 locs1 ls1 eH eL el => ?_)
          obtain ⟨n, t, w, r, fs, f, g, ht, hn, hI, hT, hS, hl⟩ : ∃ (n t : Nat) (w : Int32) (r : Nat → Int32) (fs : Int32) (f : Nat → Int32) (g : Nat → Int32), t ≤ 512 ∧ 512 < t + n ∧ (cd_soI (gP σ) (gN σ) (gK σ) r w) ∧ (w.toInt + (t : Int) ≤ cd_tot (gP σ) (gK σ) 9) ∧ wS D (dkT ca) A s.heap (dkW ad ca (sL (sF (sS (sR σ r) fs) f) g)) s H1 locs1 ∧ lv_has ls1 4 [(2, .int (nI t)), (1, .int w), (0, .ref (ad 0))] := ⟨(512 + 1), 0, y.1, y.2, gS σ, gF σ, gL σ, by omega, by omega, by rw [hy]; exact soI_0 hok.1 hok.2.1, by rw [hy, hX0]; omega, by rw [eH, eL]; exact hS, by rw [el]; exact hl⟩
          clear eH eL el
          induction n generalizing H1 locs1 ls1 t w r fs f g with
          | zero => exact absurd hn (by omega)
          | succ n ih =>
            refine lv_iload_n hx hb dX0_solve_173 rfl (lv_at hl 0 rfl) ?_
            refine lv_sipush (v := 512) hx hb dX0_solve_174 (by decide) ?_
            refine lv_icmp_ge (tgt := 200) hx hb dX0_solve_177 (by decide) (fun c177 => ?_) (fun c177 => ?_)
            · obtain rfl := cd_ge (N := 512) ht (by omega) c177
              exact absurd (soI_low hI hS0 hv0) (by omega)
            · have hlt := cd_lt (N := 512) ht (by omega) c177
              refine lv_aload_n hx hb dX0_solve_180 rfl (lv_at hl 2 rfl) ?_
              refine k_X0_spread (σ := (sL (sF (sS (sR σ r) fs) f) g)) K  hS ⟨Nat.le_of_ble_eq_true rfl, Nat.le_of_ble_eq_true rfl⟩ ⟨Nat.le_of_ble_eq_true rfl, Nat.le_of_ble_eq_true rfl⟩ hl.1 (Nat.le_of_ble_eq_true rfl) dX0_solve_181 (fun z τ H locs hpost hS => ?_)
              obtain ⟨fs1, f1, g1, en, L, q, rfl, hsp, hcl, rfl⟩ := hpost
              have hS : wS D (dkT ca) A s.heap (dkW ad ca (sL (sF (sS (sR σ r) fs1) f1) g1)) s H locs := hS
              have hsp : cd_sp r fs1 f1 g1 en L q := hsp
              refine lv_if_eq (tgt := 200) hx hb dX0_solve_184 (by decide) (fun c184 => ?_) (fun c184 => ?_)
              · refine lv_iload_n hx hb dX0_solve_200 rfl (lv_at hl 1 rfl) ?_
                exact rt_Wi K hr hlocks (rfl) hS (⟨r, fs1, f1, g1, rfl, hI, f1, g1, en, L, q, hsp, hcl, cd_zb_eq c184⟩) dX0_solve_201
              · obtain ⟨i0, hi0, hL0⟩ := (hsp.2.2.2.2.1 10 (by omega)).mp (cd_zb_ne c184)
                refine lv_iload_n hx hb dX0_solve_187 rfl (lv_at hl 1 rfl) ?_
                refine lv_aload_n hx hb dX0_solve_188 rfl (lv_at hl 2 rfl) ?_
                refine k_X0_push (σ := (sL (sF (sS (sR σ r) fs1) f1) g1)) K fs1 en L q i0 hsp hi0 hL0 hI.1 hS ⟨Nat.le_of_ble_eq_true rfl, Nat.le_of_ble_eq_true rfl⟩ ⟨Nat.le_of_ble_eq_true rfl, Nat.le_of_ble_eq_true rfl⟩ hl.1 (Nat.le_of_ble_eq_true rfl) dX0_solve_189 (fun z τ H locs hpost hS => ?_)
                obtain ⟨r1, rfl, hpu⟩ := hpost
                have hS : wS D (dkT ca) A s.heap (dkW ad ca (sL (sF (sS (sR σ r1) fs1) f1) g1)) s H locs := hS
                have hpu : cd_pu r r1 z := hpu
                have hI2 := soI_push hI hpu
                have hz := hpu.1
                refine lv_isub hx hb dX0_solve_192 ?_
                refine lv_istore_n (lv' := [(1, .int (w - z)), (2, .int (nI t)), (0, .ref (ad 0))]) hx hb dX0_solve_193 rfl hl (by decide) rfl (fun ls hl => ?_)
                refine lv_iinc (v := nI (t + 1)) (lv' := [(2, .int (nI (t + 1))), (1, .int (w - z)), (0, .ref (ad 0))]) hx hb dX0_solve_194 hl (k := 1) rfl (cd_inc t) (by decide) rfl (fun ls hl => ?_)
                refine lv_goto (tgt := 173) hx hb dX0_solve_197 (by decide) ?_
                exact ih _ _ _ (t + 1) _ r1 fs1 f1 g1 (by omega) (by omega) (hI2.1) (by rw [hI2.2]; omega) hS (lv_sub hl [0, 1, 2] rfl)
        · have hlt := cd_lt (N := 9) hi (by omega) c28
          refine lv_aload_n hx hb dX0_solve_31 rfl (lv_at hl 2 rfl) ?_
          refine lv_iload_n hx hb dX0_solve_32 rfl (lv_at hl 0 rfl) ?_
          refine k_X0_has K hS.1 ⟨Nat.le_of_ble_eq_true rfl, Nat.le_of_ble_eq_true rfl⟩ ⟨Nat.le_of_ble_eq_true rfl, Nat.le_of_ble_eq_true rfl⟩ hl.1 (Nat.le_of_ble_eq_true rfl) dX0_solve_33 ?_
          refine lv_if_eq (tgt := 165) hx hb dX0_solve_36 (by decide) (fun c36 => ?_) (fun c36 => ?_)
          · refine lv_iinc (v := nI (i + 1)) (lv' := [(2, .int (nI (i + 1))), (1, .int (y.1)), (0, .ref (ad 0))]) hx hb dX0_solve_165 hl (k := 0) rfl (cd_inc i) (by decide) rfl (fun ls hl => ?_)
            refine lv_goto (tgt := 25) hx hb dX0_solve_168 (by decide) ?_
            exact ih _ _ _ (i + 1) y (by omega) (by omega) (by rw [cd_it_s, ← hy]; unfold cd_i2; rw [cd_zb_eq c36]; rfl) hS (lv_sub hl [0, 1, 2] rfl)
          · refine lv_iload_n hx hb dX0_solve_39 rfl (lv_at hl 1 rfl) ?_
            refine lv_aload_n hx hb dX0_solve_40 rfl (lv_at hl 2 rfl) ?_
            refine dg_K K hS.1 dX0_solve_41 ?_
            refine lv_iload_n hx hb dX0_solve_44 rfl (lv_at hl 0 rfl) ?_
            refine dl_K K hS.1 i (by omega) rfl dX0_solve_45 ?_
            refine lv_if_le (tgt := 58) hx hb dX0_solve_46 (by decide) (fun c46 => ?_) (fun c46 => ?_)
            · refine lv_iconst (v := 0) hx hb dX0_solve_58 (by decide) ?_
              refine tp_eq (cd_pos (gK σ i)) (by unfold cd_pos; exact (if_pos c46).symm) ?_
              refine lv_iadd hx hb dX0_solve_59 ?_
              refine lv_istore_n (lv' := [(1, .int (y.1 + cd_pos (gK σ i))), (2, .int (nI i)), (0, .ref (ad 0))]) hx hb dX0_solve_60 rfl hl (by decide) rfl (fun ls hl => ?_)
              refine lv_aload_n hx hb dX0_solve_61 rfl (lv_at hl 2 rfl) ?_
              refine dg_R K hS.1 dX0_solve_62 ?_
              refine lv_bipush (v := 99) hx hb dX0_solve_65 (by decide) ?_
              refine lv_iload_n hx hb dX0_solve_67 rfl (lv_at hl 1 rfl) ?_
              refine lv_iadd hx hb dX0_solve_68 ?_
              refine lv_aload_n hx hb dX0_solve_69 rfl (lv_at hl 2 rfl) ?_
              refine dg_K K hS.1 dX0_solve_70 ?_
              refine lv_iload_n hx hb dX0_solve_73 rfl (lv_at hl 1 rfl) ?_
              refine dl_K K hS.1 i (by omega) rfl dX0_solve_74 ?_
              refine lv_if_le (tgt := 87) hx hb dX0_solve_75 (by decide) (fun c75 => ?_) (fun c75 => ?_)
              · refine lv_iconst (v := 0) hx hb dX0_solve_87 (by decide) ?_
                refine tp_eq (cd_pos (gK σ i)) (by unfold cd_pos; exact (if_pos c46).symm) ?_
                refine ds_R K hS (99 + i) (by omega) (cd_ix9 i) dX0_solve_88 (fun H locs hS => ?_)
                refine lv_aload_n hx hb dX0_solve_89 rfl (lv_at hl 2 rfl) ?_
                refine dg_R K hS.1 dX0_solve_90 ?_
                refine lv_iload_n hx hb dX0_solve_93 rfl (lv_at hl 1 rfl) ?_
                refine lv_bipush (v := 11) hx hb dX0_solve_94 (by decide) ?_
                refine lv_imul hx hb dX0_solve_96 ?_
                refine lv_bipush (v := 10) hx hb dX0_solve_97 (by decide) ?_
                refine lv_iadd hx hb dX0_solve_99 ?_
                refine lv_aload_n hx hb dX0_solve_100 rfl (lv_at hl 2 rfl) ?_
                refine dg_K K hS.1 dX0_solve_101 ?_
                refine lv_iload_n hx hb dX0_solve_104 rfl (lv_at hl 1 rfl) ?_
                refine dl_K K hS.1 i (by omega) rfl dX0_solve_105 ?_
                refine lv_if_ge (tgt := 119) hx hb dX0_solve_106 (by decide) (fun c106 => ?_) (fun c106 => ?_)
                · refine lv_iconst (v := 0) hx hb dX0_solve_119 (by decide) ?_
                  refine tp_eq (cd_neg (gK σ i)) (by unfold cd_neg; exact (if_pos c106).symm) ?_
                  refine ds_R K hS (i * 11 + 10) (by omega) (cd_ixs i) dX0_solve_120 (fun H locs hS => ?_)
                  refine lv_iconst (v := 0) hx hb dX0_solve_121 (by decide) ?_
                  refine lv_istore_n (lv' := [(3, .int 0), (1, .int (y.1 + cd_pos (gK σ i))), (2, .int (nI i)), (0, .ref (ad 0))]) hx hb dX0_solve_122 rfl hl (by decide) rfl (fun ls hl => ?_)
                  refine w_all (fun H1 locs1 ls1 eH eL el => ?_)
                  obtain ⟨n2, j, x3, hj, hn2, hx3, hS, hl⟩ : ∃ (n2 j : Nat) (x3 : Nat → Int32), j ≤ 9 ∧ 9 < j + n2 ∧ (x3 = cd_it (cd_i1 (gN σ) i) j (upd (upd y.2 (99 + i) (cd_pos (gK σ i))) (i * 11 + 10) (cd_neg (gK σ i)))) ∧ wS D (dkT ca) A s.heap (dkW ad ca (sR σ x3)) s H1 locs1 ∧ lv_has ls1 4 [(3, .int (nI j)), (1, .int (y.1 + cd_pos (gK σ i))), (2, .int (nI i)), (0, .ref (ad 0))] := ⟨(9 + 1), 0, (upd (upd y.2 (99 + i) (cd_pos (gK σ i))) (i * 11 + 10) (cd_neg (gK σ i))), by omega, by omega, rfl, by rw [eH, eL]; exact hS, by rw [el]; exact hl⟩
                  clear eH eL el
                  induction n2 generalizing H1 locs1 ls1 j x3 with
                  | zero => exact absurd hn2 (by omega)
                  | succ n2 ih2 =>
                    refine lv_iload_n hx hb dX0_solve_123 rfl (lv_at hl 0 rfl) ?_
                    refine lv_bipush (v := 9) hx hb dX0_solve_124 (by decide) ?_
                    refine lv_icmp_ge (tgt := 165) hx hb dX0_solve_126 (by decide) (fun c126 => ?_) (fun c126 => ?_)
                    · obtain rfl := cd_ge (N := 9) hj (by omega) c126
                      refine lv_iinc (v := nI (i + 1)) (lv' := [(2, .int (nI (i + 1))), (3, .int (nI 9)), (1, .int (y.1 + cd_pos (gK σ i))), (0, .ref (ad 0))]) hx hb dX0_solve_165 hl (k := 2) rfl (cd_inc i) (by decide) rfl (fun ls hl => ?_)
                      refine lv_goto (tgt := 25) hx hb dX0_solve_168 (by decide) ?_
                      exact ih _ _ _ (i + 1) (y.1 + cd_pos (gK σ i), x3) (by omega) (by omega) (by rw [cd_it_s, ← hy]; unfold cd_i2; rw [cd_zb_ne c36, hx3]; rfl) hS (lv_sub hl [0, 2, 3] rfl)
                    · have hlt2 := cd_lt (N := 9) hj (by omega) c126
                      refine lv_aload_n hx hb dX0_solve_129 rfl (lv_at hl 3 rfl) ?_
                      refine dg_R K hS.1 dX0_solve_130 ?_
                      refine lv_iload_n hx hb dX0_solve_133 rfl (lv_at hl 2 rfl) ?_
                      refine lv_bipush (v := 11) hx hb dX0_solve_134 (by decide) ?_
                      refine lv_imul hx hb dX0_solve_136 ?_
                      refine lv_iload_n hx hb dX0_solve_137 rfl (lv_at hl 0 rfl) ?_
                      refine lv_iadd hx hb dX0_solve_138 ?_
                      refine lv_aload_n hx hb dX0_solve_139 rfl (lv_at hl 3 rfl) ?_
                      refine dg_N K hS.1 dX0_solve_140 ?_
                      refine lv_iload_n hx hb dX0_solve_143 rfl (lv_at hl 2 rfl) ?_
                      refine dl_N K hS.1 i (by omega) rfl dX0_solve_144 ?_
                      refine lv_iload_n hx hb dX0_solve_145 rfl (lv_at hl 0 rfl) ?_
                      refine k_X0_in K ⟨Nat.le_of_ble_eq_true rfl, Nat.le_of_ble_eq_true rfl⟩ ⟨Nat.le_of_ble_eq_true rfl, Nat.le_of_ble_eq_true rfl⟩ hl.1 (Nat.le_of_ble_eq_true rfl) dX0_solve_146 ?_
                      refine lv_if_eq (tgt := 157) hx hb dX0_solve_149 (by decide) (fun c149 => ?_) (fun c149 => ?_)
                      · refine lv_iconst (v := 0) hx hb dX0_solve_157 (by decide) ?_
                        refine ds_R K hS (i * 11 + j) (by omega) (cd_ixm i j) dX0_solve_158 (fun H locs hS => ?_)
                        refine lv_iinc (v := nI (j + 1)) (lv' := [(3, .int (nI (j + 1))), (1, .int (y.1 + cd_pos (gK σ i))), (2, .int (nI i)), (0, .ref (ad 0))]) hx hb dX0_solve_159 hl (k := 0) rfl (cd_inc j) (by decide) rfl (fun ls hl => ?_)
                        refine lv_goto (tgt := 123) hx hb dX0_solve_162 (by decide) ?_
                        exact ih2 _ _ _ (j + 1) _ (by omega) (by omega) (by rw [cd_it_s, ← hx3]; unfold cd_i1; rw [cd_zb_eq c149]; rfl) hS (lv_sub hl [0, 1, 2, 3] rfl)
                      · refine lv_ldc (v := 1048576) hx hb hown (hts _ q102) dX0_solve_152 ?_
                        refine lv_goto (tgt := 158) hx hb dX0_solve_154 (by decide) ?_
                        refine ds_R K hS (i * 11 + j) (by omega) (cd_ixm i j) dX0_solve_158 (fun H locs hS => ?_)
                        refine lv_iinc (v := nI (j + 1)) (lv' := [(3, .int (nI (j + 1))), (1, .int (y.1 + cd_pos (gK σ i))), (2, .int (nI i)), (0, .ref (ad 0))]) hx hb dX0_solve_159 hl (k := 0) rfl (cd_inc j) (by decide) rfl (fun ls hl => ?_)
                        refine lv_goto (tgt := 123) hx hb dX0_solve_162 (by decide) ?_
                        exact ih2 _ _ _ (j + 1) _ (by omega) (by omega) (by rw [cd_it_s, ← hx3]; unfold cd_i1; rw [cd_zb_ne c149]; rfl) hS (lv_sub hl [0, 1, 2, 3] rfl)
                · refine lv_aload_n hx hb dX0_solve_109 rfl (lv_at hl 2 rfl) ?_
                  refine dg_K K hS.1 dX0_solve_110 ?_
                  refine lv_iload_n hx hb dX0_solve_113 rfl (lv_at hl 1 rfl) ?_
                  refine dl_K K hS.1 i (by omega) rfl dX0_solve_114 ?_
                  refine lv_ineg hx hb dX0_solve_115 ?_
                  refine lv_goto (tgt := 120) hx hb dX0_solve_116 (by decide) ?_
                  refine tp_eq (cd_neg (gK σ i)) (by unfold cd_neg; exact (if_neg c106).symm) ?_
                  refine ds_R K hS (i * 11 + 10) (by omega) (cd_ixs i) dX0_solve_120 (fun H locs hS => ?_)
                  refine lv_iconst (v := 0) hx hb dX0_solve_121 (by decide) ?_
                  refine lv_istore_n (lv' := [(3, .int 0), (1, .int (y.1 + cd_pos (gK σ i))), (2, .int (nI i)), (0, .ref (ad 0))]) hx hb dX0_solve_122 rfl hl (by decide) rfl (fun ls hl => ?_)
                  refine w_all (fun H1 locs1 ls1 eH eL el => ?_)
                  obtain ⟨n2, j, x3, hj, hn2, hx3, hS, hl⟩ : ∃ (n2 j : Nat) (x3 : Nat → Int32), j ≤ 9 ∧ 9 < j + n2 ∧ (x3 = cd_it (cd_i1 (gN σ) i) j (upd (upd y.2 (99 + i) (cd_pos (gK σ i))) (i * 11 + 10) (cd_neg (gK σ i)))) ∧ wS D (dkT ca) A s.heap (dkW ad ca (sR σ x3)) s H1 locs1 ∧ lv_has ls1 4 [(3, .int (nI j)), (1, .int (y.1 + cd_pos (gK σ i))), (2, .int (nI i)), (0, .ref (ad 0))] := ⟨(9 + 1), 0, (upd (upd y.2 (99 + i) (cd_pos (gK σ i))) (i * 11 + 10) (cd_neg (gK σ i))), by omega, by omega, rfl, by rw [eH, eL]; exact hS, by rw [el]; exact hl⟩
                  clear eH eL el
                  induction n2 generalizing H1 locs1 ls1 j x3 with
                  | zero => exact absurd hn2 (by omega)
                  | succ n2 ih2 =>
                    refine lv_iload_n hx hb dX0_solve_123 rfl (lv_at hl 0 rfl) ?_
                    refine lv_bipush (v := 9) hx hb dX0_solve_124 (by decide) ?_
                    refine lv_icmp_ge (tgt := 165) hx hb dX0_solve_126 (by decide) (fun c126 => ?_) (fun c126 => ?_)
                    · obtain rfl := cd_ge (N := 9) hj (by omega) c126
                      refine lv_iinc (v := nI (i + 1)) (lv' := [(2, .int (nI (i + 1))), (3, .int (nI 9)), (1, .int (y.1 + cd_pos (gK σ i))), (0, .ref (ad 0))]) hx hb dX0_solve_165 hl (k := 2) rfl (cd_inc i) (by decide) rfl (fun ls hl => ?_)
                      refine lv_goto (tgt := 25) hx hb dX0_solve_168 (by decide) ?_
                      exact ih _ _ _ (i + 1) (y.1 + cd_pos (gK σ i), x3) (by omega) (by omega) (by rw [cd_it_s, ← hy]; unfold cd_i2; rw [cd_zb_ne c36, hx3]; rfl) hS (lv_sub hl [0, 2, 3] rfl)
                    · have hlt2 := cd_lt (N := 9) hj (by omega) c126
                      refine lv_aload_n hx hb dX0_solve_129 rfl (lv_at hl 3 rfl) ?_
                      refine dg_R K hS.1 dX0_solve_130 ?_
                      refine lv_iload_n hx hb dX0_solve_133 rfl (lv_at hl 2 rfl) ?_
                      refine lv_bipush (v := 11) hx hb dX0_solve_134 (by decide) ?_
                      refine lv_imul hx hb dX0_solve_136 ?_
                      refine lv_iload_n hx hb dX0_solve_137 rfl (lv_at hl 0 rfl) ?_
                      refine lv_iadd hx hb dX0_solve_138 ?_
                      refine lv_aload_n hx hb dX0_solve_139 rfl (lv_at hl 3 rfl) ?_
                      refine dg_N K hS.1 dX0_solve_140 ?_
                      refine lv_iload_n hx hb dX0_solve_143 rfl (lv_at hl 2 rfl) ?_
                      refine dl_N K hS.1 i (by omega) rfl dX0_solve_144 ?_
                      refine lv_iload_n hx hb dX0_solve_145 rfl (lv_at hl 0 rfl) ?_
                      refine k_X0_in K ⟨Nat.le_of_ble_eq_true rfl, Nat.le_of_ble_eq_true rfl⟩ ⟨Nat.le_of_ble_eq_true rfl, Nat.le_of_ble_eq_true rfl⟩ hl.1 (Nat.le_of_ble_eq_true rfl) dX0_solve_146 ?_
                      refine lv_if_eq (tgt := 157) hx hb dX0_solve_149 (by decide) (fun c149 => ?_) (fun c149 => ?_)
                      · refine lv_iconst (v := 0) hx hb dX0_solve_157 (by decide) ?_
                        refine ds_R K hS (i * 11 + j) (by omega) (cd_ixm i j) dX0_solve_158 (fun H locs hS => ?_)
                        refine lv_iinc (v := nI (j + 1)) (lv' := [(3, .int (nI (j + 1))), (1, .int (y.1 + cd_pos (gK σ i))), (2, .int (nI i)), (0, .ref (ad 0))]) hx hb dX0_solve_159 hl (k := 0) rfl (cd_inc j) (by decide) rfl (fun ls hl => ?_)
                        refine lv_goto (tgt := 123) hx hb dX0_solve_162 (by decide) ?_
                        exact ih2 _ _ _ (j + 1) _ (by omega) (by omega) (by rw [cd_it_s, ← hx3]; unfold cd_i1; rw [cd_zb_eq c149]; rfl) hS (lv_sub hl [0, 1, 2, 3] rfl)
                      · refine lv_ldc (v := 1048576) hx hb hown (hts _ q102) dX0_solve_152 ?_
                        refine lv_goto (tgt := 158) hx hb dX0_solve_154 (by decide) ?_
                        refine ds_R K hS (i * 11 + j) (by omega) (cd_ixm i j) dX0_solve_158 (fun H locs hS => ?_)
                        refine lv_iinc (v := nI (j + 1)) (lv' := [(3, .int (nI (j + 1))), (1, .int (y.1 + cd_pos (gK σ i))), (2, .int (nI i)), (0, .ref (ad 0))]) hx hb dX0_solve_159 hl (k := 0) rfl (cd_inc j) (by decide) rfl (fun ls hl => ?_)
                        refine lv_goto (tgt := 123) hx hb dX0_solve_162 (by decide) ?_
                        exact ih2 _ _ _ (j + 1) _ (by omega) (by omega) (by rw [cd_it_s, ← hx3]; unfold cd_i1; rw [cd_zb_ne c149]; rfl) hS (lv_sub hl [0, 1, 2, 3] rfl)
              · exact absurd c46 c75
            · refine lv_aload_n hx hb dX0_solve_49 rfl (lv_at hl 2 rfl) ?_
              refine dg_K K hS.1 dX0_solve_50 ?_
              refine lv_iload_n hx hb dX0_solve_53 rfl (lv_at hl 0 rfl) ?_
              refine dl_K K hS.1 i (by omega) rfl dX0_solve_54 ?_
              refine lv_goto (tgt := 59) hx hb dX0_solve_55 (by decide) ?_
              refine tp_eq (cd_pos (gK σ i)) (by unfold cd_pos; exact (if_neg c46).symm) ?_
              refine lv_iadd hx hb dX0_solve_59 ?_
              refine lv_istore_n (lv' := [(1, .int (y.1 + cd_pos (gK σ i))), (2, .int (nI i)), (0, .ref (ad 0))]) hx hb dX0_solve_60 rfl hl (by decide) rfl (fun ls hl => ?_)
              refine lv_aload_n hx hb dX0_solve_61 rfl (lv_at hl 2 rfl) ?_
              refine dg_R K hS.1 dX0_solve_62 ?_
              refine lv_bipush (v := 99) hx hb dX0_solve_65 (by decide) ?_
              refine lv_iload_n hx hb dX0_solve_67 rfl (lv_at hl 1 rfl) ?_
              refine lv_iadd hx hb dX0_solve_68 ?_
              refine lv_aload_n hx hb dX0_solve_69 rfl (lv_at hl 2 rfl) ?_
              refine dg_K K hS.1 dX0_solve_70 ?_
              refine lv_iload_n hx hb dX0_solve_73 rfl (lv_at hl 1 rfl) ?_
              refine dl_K K hS.1 i (by omega) rfl dX0_solve_74 ?_
              refine lv_if_le (tgt := 87) hx hb dX0_solve_75 (by decide) (fun c75 => ?_) (fun c75 => ?_)
              · exact absurd c75 c46
              · refine lv_aload_n hx hb dX0_solve_78 rfl (lv_at hl 2 rfl) ?_
                refine dg_K K hS.1 dX0_solve_79 ?_
                refine lv_iload_n hx hb dX0_solve_82 rfl (lv_at hl 1 rfl) ?_
                refine dl_K K hS.1 i (by omega) rfl dX0_solve_83 ?_
                refine lv_goto (tgt := 88) hx hb dX0_solve_84 (by decide) ?_
                refine tp_eq (cd_pos (gK σ i)) (by unfold cd_pos; exact (if_neg c46).symm) ?_
                refine ds_R K hS (99 + i) (by omega) (cd_ix9 i) dX0_solve_88 (fun H locs hS => ?_)
                refine lv_aload_n hx hb dX0_solve_89 rfl (lv_at hl 2 rfl) ?_
                refine dg_R K hS.1 dX0_solve_90 ?_
                refine lv_iload_n hx hb dX0_solve_93 rfl (lv_at hl 1 rfl) ?_
                refine lv_bipush (v := 11) hx hb dX0_solve_94 (by decide) ?_
                refine lv_imul hx hb dX0_solve_96 ?_
                refine lv_bipush (v := 10) hx hb dX0_solve_97 (by decide) ?_
                refine lv_iadd hx hb dX0_solve_99 ?_
                refine lv_aload_n hx hb dX0_solve_100 rfl (lv_at hl 2 rfl) ?_
                refine dg_K K hS.1 dX0_solve_101 ?_
                refine lv_iload_n hx hb dX0_solve_104 rfl (lv_at hl 1 rfl) ?_
                refine dl_K K hS.1 i (by omega) rfl dX0_solve_105 ?_
                refine lv_if_ge (tgt := 119) hx hb dX0_solve_106 (by decide) (fun c106 => ?_) (fun c106 => ?_)
                · refine lv_iconst (v := 0) hx hb dX0_solve_119 (by decide) ?_
                  refine tp_eq (cd_neg (gK σ i)) (by unfold cd_neg; exact (if_pos c106).symm) ?_
                  refine ds_R K hS (i * 11 + 10) (by omega) (cd_ixs i) dX0_solve_120 (fun H locs hS => ?_)
                  refine lv_iconst (v := 0) hx hb dX0_solve_121 (by decide) ?_
                  refine lv_istore_n (lv' := [(3, .int 0), (1, .int (y.1 + cd_pos (gK σ i))), (2, .int (nI i)), (0, .ref (ad 0))]) hx hb dX0_solve_122 rfl hl (by decide) rfl (fun ls hl => ?_)
                  refine w_all (fun H1 locs1 ls1 eH eL el => ?_)
                  obtain ⟨n2, j, x3, hj, hn2, hx3, hS, hl⟩ : ∃ (n2 j : Nat) (x3 : Nat → Int32), j ≤ 9 ∧ 9 < j + n2 ∧ (x3 = cd_it (cd_i1 (gN σ) i) j (upd (upd y.2 (99 + i) (cd_pos (gK σ i))) (i * 11 + 10) (cd_neg (gK σ i)))) ∧ wS D (dkT ca) A s.heap (dkW ad ca (sR σ x3)) s H1 locs1 ∧ lv_has ls1 4 [(3, .int (nI j)), (1, .int (y.1 + cd_pos (gK σ i))), (2, .int (nI i)), (0, .ref (ad 0))] := ⟨(9 + 1), 0, (upd (upd y.2 (99 + i) (cd_pos (gK σ i))) (i * 11 + 10) (cd_neg (gK σ i))), by omega, by omega, rfl, by rw [eH, eL]; exact hS, by rw [el]; exact hl⟩
                  clear eH eL el
                  induction n2 generalizing H1 locs1 ls1 j x3 with
                  | zero => exact absurd hn2 (by omega)
                  | succ n2 ih2 =>
                    refine lv_iload_n hx hb dX0_solve_123 rfl (lv_at hl 0 rfl) ?_
                    refine lv_bipush (v := 9) hx hb dX0_solve_124 (by decide) ?_
                    refine lv_icmp_ge (tgt := 165) hx hb dX0_solve_126 (by decide) (fun c126 => ?_) (fun c126 => ?_)
                    · obtain rfl := cd_ge (N := 9) hj (by omega) c126
                      refine lv_iinc (v := nI (i + 1)) (lv' := [(2, .int (nI (i + 1))), (3, .int (nI 9)), (1, .int (y.1 + cd_pos (gK σ i))), (0, .ref (ad 0))]) hx hb dX0_solve_165 hl (k := 2) rfl (cd_inc i) (by decide) rfl (fun ls hl => ?_)
                      refine lv_goto (tgt := 25) hx hb dX0_solve_168 (by decide) ?_
                      exact ih _ _ _ (i + 1) (y.1 + cd_pos (gK σ i), x3) (by omega) (by omega) (by rw [cd_it_s, ← hy]; unfold cd_i2; rw [cd_zb_ne c36, hx3]; rfl) hS (lv_sub hl [0, 2, 3] rfl)
                    · have hlt2 := cd_lt (N := 9) hj (by omega) c126
                      refine lv_aload_n hx hb dX0_solve_129 rfl (lv_at hl 3 rfl) ?_
                      refine dg_R K hS.1 dX0_solve_130 ?_
                      refine lv_iload_n hx hb dX0_solve_133 rfl (lv_at hl 2 rfl) ?_
                      refine lv_bipush (v := 11) hx hb dX0_solve_134 (by decide) ?_
                      refine lv_imul hx hb dX0_solve_136 ?_
                      refine lv_iload_n hx hb dX0_solve_137 rfl (lv_at hl 0 rfl) ?_
                      refine lv_iadd hx hb dX0_solve_138 ?_
                      refine lv_aload_n hx hb dX0_solve_139 rfl (lv_at hl 3 rfl) ?_
                      refine dg_N K hS.1 dX0_solve_140 ?_
                      refine lv_iload_n hx hb dX0_solve_143 rfl (lv_at hl 2 rfl) ?_
                      refine dl_N K hS.1 i (by omega) rfl dX0_solve_144 ?_
                      refine lv_iload_n hx hb dX0_solve_145 rfl (lv_at hl 0 rfl) ?_
                      refine k_X0_in K ⟨Nat.le_of_ble_eq_true rfl, Nat.le_of_ble_eq_true rfl⟩ ⟨Nat.le_of_ble_eq_true rfl, Nat.le_of_ble_eq_true rfl⟩ hl.1 (Nat.le_of_ble_eq_true rfl) dX0_solve_146 ?_
                      refine lv_if_eq (tgt := 157) hx hb dX0_solve_149 (by decide) (fun c149 => ?_) (fun c149 => ?_)
                      · refine lv_iconst (v := 0) hx hb dX0_solve_157 (by decide) ?_
                        refine ds_R K hS (i * 11 + j) (by omega) (cd_ixm i j) dX0_solve_158 (fun H locs hS => ?_)
                        refine lv_iinc (v := nI (j + 1)) (lv' := [(3, .int (nI (j + 1))), (1, .int (y.1 + cd_pos (gK σ i))), (2, .int (nI i)), (0, .ref (ad 0))]) hx hb dX0_solve_159 hl (k := 0) rfl (cd_inc j) (by decide) rfl (fun ls hl => ?_)
                        refine lv_goto (tgt := 123) hx hb dX0_solve_162 (by decide) ?_
                        exact ih2 _ _ _ (j + 1) _ (by omega) (by omega) (by rw [cd_it_s, ← hx3]; unfold cd_i1; rw [cd_zb_eq c149]; rfl) hS (lv_sub hl [0, 1, 2, 3] rfl)
                      · refine lv_ldc (v := 1048576) hx hb hown (hts _ q102) dX0_solve_152 ?_
                        refine lv_goto (tgt := 158) hx hb dX0_solve_154 (by decide) ?_
                        refine ds_R K hS (i * 11 + j) (by omega) (cd_ixm i j) dX0_solve_158 (fun H locs hS => ?_)
                        refine lv_iinc (v := nI (j + 1)) (lv' := [(3, .int (nI (j + 1))), (1, .int (y.1 + cd_pos (gK σ i))), (2, .int (nI i)), (0, .ref (ad 0))]) hx hb dX0_solve_159 hl (k := 0) rfl (cd_inc j) (by decide) rfl (fun ls hl => ?_)
                        refine lv_goto (tgt := 123) hx hb dX0_solve_162 (by decide) ?_
                        exact ih2 _ _ _ (j + 1) _ (by omega) (by omega) (by rw [cd_it_s, ← hx3]; unfold cd_i1; rw [cd_zb_ne c149]; rfl) hS (lv_sub hl [0, 1, 2, 3] rfl)
                · refine lv_aload_n hx hb dX0_solve_109 rfl (lv_at hl 2 rfl) ?_
                  refine dg_K K hS.1 dX0_solve_110 ?_
                  refine lv_iload_n hx hb dX0_solve_113 rfl (lv_at hl 1 rfl) ?_
                  refine dl_K K hS.1 i (by omega) rfl dX0_solve_114 ?_
                  refine lv_ineg hx hb dX0_solve_115 ?_
                  refine lv_goto (tgt := 120) hx hb dX0_solve_116 (by decide) ?_
                  refine tp_eq (cd_neg (gK σ i)) (by unfold cd_neg; exact (if_neg c106).symm) ?_
                  refine ds_R K hS (i * 11 + 10) (by omega) (cd_ixs i) dX0_solve_120 (fun H locs hS => ?_)
                  refine lv_iconst (v := 0) hx hb dX0_solve_121 (by decide) ?_
                  refine lv_istore_n (lv' := [(3, .int 0), (1, .int (y.1 + cd_pos (gK σ i))), (2, .int (nI i)), (0, .ref (ad 0))]) hx hb dX0_solve_122 rfl hl (by decide) rfl (fun ls hl => ?_)
                  refine w_all (fun H1 locs1 ls1 eH eL el => ?_)
                  obtain ⟨n2, j, x3, hj, hn2, hx3, hS, hl⟩ : ∃ (n2 j : Nat) (x3 : Nat → Int32), j ≤ 9 ∧ 9 < j + n2 ∧ (x3 = cd_it (cd_i1 (gN σ) i) j (upd (upd y.2 (99 + i) (cd_pos (gK σ i))) (i * 11 + 10) (cd_neg (gK σ i)))) ∧ wS D (dkT ca) A s.heap (dkW ad ca (sR σ x3)) s H1 locs1 ∧ lv_has ls1 4 [(3, .int (nI j)), (1, .int (y.1 + cd_pos (gK σ i))), (2, .int (nI i)), (0, .ref (ad 0))] := ⟨(9 + 1), 0, (upd (upd y.2 (99 + i) (cd_pos (gK σ i))) (i * 11 + 10) (cd_neg (gK σ i))), by omega, by omega, rfl, by rw [eH, eL]; exact hS, by rw [el]; exact hl⟩
                  clear eH eL el
                  induction n2 generalizing H1 locs1 ls1 j x3 with
                  | zero => exact absurd hn2 (by omega)
                  | succ n2 ih2 =>
                    refine lv_iload_n hx hb dX0_solve_123 rfl (lv_at hl 0 rfl) ?_
                    refine lv_bipush (v := 9) hx hb dX0_solve_124 (by decide) ?_
                    refine lv_icmp_ge (tgt := 165) hx hb dX0_solve_126 (by decide) (fun c126 => ?_) (fun c126 => ?_)
                    · obtain rfl := cd_ge (N := 9) hj (by omega) c126
                      refine lv_iinc (v := nI (i + 1)) (lv' := [(2, .int (nI (i + 1))), (3, .int (nI 9)), (1, .int (y.1 + cd_pos (gK σ i))), (0, .ref (ad 0))]) hx hb dX0_solve_165 hl (k := 2) rfl (cd_inc i) (by decide) rfl (fun ls hl => ?_)
                      refine lv_goto (tgt := 25) hx hb dX0_solve_168 (by decide) ?_
                      exact ih _ _ _ (i + 1) (y.1 + cd_pos (gK σ i), x3) (by omega) (by omega) (by rw [cd_it_s, ← hy]; unfold cd_i2; rw [cd_zb_ne c36, hx3]; rfl) hS (lv_sub hl [0, 2, 3] rfl)
                    · have hlt2 := cd_lt (N := 9) hj (by omega) c126
                      refine lv_aload_n hx hb dX0_solve_129 rfl (lv_at hl 3 rfl) ?_
                      refine dg_R K hS.1 dX0_solve_130 ?_
                      refine lv_iload_n hx hb dX0_solve_133 rfl (lv_at hl 2 rfl) ?_
                      refine lv_bipush (v := 11) hx hb dX0_solve_134 (by decide) ?_
                      refine lv_imul hx hb dX0_solve_136 ?_
                      refine lv_iload_n hx hb dX0_solve_137 rfl (lv_at hl 0 rfl) ?_
                      refine lv_iadd hx hb dX0_solve_138 ?_
                      refine lv_aload_n hx hb dX0_solve_139 rfl (lv_at hl 3 rfl) ?_
                      refine dg_N K hS.1 dX0_solve_140 ?_
                      refine lv_iload_n hx hb dX0_solve_143 rfl (lv_at hl 2 rfl) ?_
                      refine dl_N K hS.1 i (by omega) rfl dX0_solve_144 ?_
                      refine lv_iload_n hx hb dX0_solve_145 rfl (lv_at hl 0 rfl) ?_
                      refine k_X0_in K ⟨Nat.le_of_ble_eq_true rfl, Nat.le_of_ble_eq_true rfl⟩ ⟨Nat.le_of_ble_eq_true rfl, Nat.le_of_ble_eq_true rfl⟩ hl.1 (Nat.le_of_ble_eq_true rfl) dX0_solve_146 ?_
                      refine lv_if_eq (tgt := 157) hx hb dX0_solve_149 (by decide) (fun c149 => ?_) (fun c149 => ?_)
                      · refine lv_iconst (v := 0) hx hb dX0_solve_157 (by decide) ?_
                        refine ds_R K hS (i * 11 + j) (by omega) (cd_ixm i j) dX0_solve_158 (fun H locs hS => ?_)
                        refine lv_iinc (v := nI (j + 1)) (lv' := [(3, .int (nI (j + 1))), (1, .int (y.1 + cd_pos (gK σ i))), (2, .int (nI i)), (0, .ref (ad 0))]) hx hb dX0_solve_159 hl (k := 0) rfl (cd_inc j) (by decide) rfl (fun ls hl => ?_)
                        refine lv_goto (tgt := 123) hx hb dX0_solve_162 (by decide) ?_
                        exact ih2 _ _ _ (j + 1) _ (by omega) (by omega) (by rw [cd_it_s, ← hx3]; unfold cd_i1; rw [cd_zb_eq c149]; rfl) hS (lv_sub hl [0, 1, 2, 3] rfl)
                      · refine lv_ldc (v := 1048576) hx hb hown (hts _ q102) dX0_solve_152 ?_
                        refine lv_goto (tgt := 158) hx hb dX0_solve_154 (by decide) ?_
                        refine ds_R K hS (i * 11 + j) (by omega) (cd_ixm i j) dX0_solve_158 (fun H locs hS => ?_)
                        refine lv_iinc (v := nI (j + 1)) (lv' := [(3, .int (nI (j + 1))), (1, .int (y.1 + cd_pos (gK σ i))), (2, .int (nI i)), (0, .ref (ad 0))]) hx hb dX0_solve_159 hl (k := 0) rfl (cd_inc j) (by decide) rfl (fun ls hl => ?_)
                        refine lv_goto (tgt := 123) hx hb dX0_solve_162 (by decide) ?_
                        exact ih2 _ _ _ (j + 1) _ (by omega) (by omega) (by rw [cd_it_s, ← hx3]; unfold cd_i1; rw [cd_zb_ne c149]; rfl) hS (lv_sub hl [0, 1, 2, 3] rfl)
    · have hlt := cd_lt (N := 121) hi (by omega) c7
      refine lv_aload_n hx hb dX0_solve_10 rfl (lv_at hl 2 rfl) ?_
      refine dg_R K hS.1 dX0_solve_11 ?_
      refine lv_iload_n hx hb dX0_solve_14 rfl (lv_at hl 0 rfl) ?_
      refine lv_iconst (v := 0) hx hb dX0_solve_15 (by decide) ?_
      refine ds_R K hS i (by omega) rfl dX0_solve_16 (fun H locs hS => ?_)
      refine lv_iinc (v := nI (i + 1)) (lv' := [(2, .int (nI (i + 1))), (1, .int 0), (0, .ref (ad 0))]) hx hb dX0_solve_17 hl (k := 0) rfl (cd_inc i) (by decide) rfl (fun ls hl => ?_)
      refine lv_goto (tgt := 4) hx hb dX0_solve_20 (by decide) ?_
      exact ih _ _ _ (i + 1) _ (by omega) (by omega) (by rw [cd_it_s, ← hx2]; rfl) hS (lv_sub hl [0, 1, 2] rfl)
set_option maxHeartbeats 4000000 in
set_option maxRecDepth 100000 in
theorem k_X0_solve {p : Program} {l : Launch} {e : Env} {R : Room} {s : State} {m : MethodId} {args : Array Value} {below : List Frame} {meth : Method} {c : Code} {H : Heap} {locs : List Loc} {cells slots : Nat} {Q : State → Prop} {cc : ByteArray} {nL pc : Nat} {ls : Array Slot} {rest : List Value} {D : va_G} {A : Nat → Prop} {H0 : Heap} {ad : Nat → Nat} {ca : Nat → ClassId} {σ : cd_D} (K : CallFix p m c cc nL s args lw_all RX0) (hok : cd_aok (gP σ) (gN σ) (gK σ)) (hS : wS D (dkT ca) A H0 (dkW ad ca σ) s H locs) (hR : (cd_rm 2).frames + 1 ≤ R.frames ∧ 8 + (4 + 11) + (cd_rm 2).locals ≤ R.locals) (hf : cells + 0 ≤ R.cells ∧ slots + 0 ≤ R.slots) (hls : ls.size = nL) (hrm : (rest.map fun v => v.category).sum ≤ 8) (hdg : decode cc pc = .ok (.invokevirtual 60, 3)) (kk : ∀ (rr : Int32) (zz : cd_D) (H1 : Heap) (locs1 : List Loc), (fun z τ => cd_solP σ z τ) rr zz → wS D (dkT ca) A H0 (dkW ad ca zz) s H1 locs1 → W p l e R s m args below meth c H1 locs1 cells slots Q (F0 m (pc + 3) ls (.int rr :: rest))) : W p l e R s m args below meth c H locs cells slots Q (F0 m pc ls (.ref (ad 0) :: rest)) :=
  cl_Wi K (m_X0_solve l D ad ca σ hok) (cwV 0 K.2.2.2.2 (lw_V q98 q100 qs2 q14 q101) rfl rfl rfl (by decide +kernel) hR) hS (va_recv hS.1.1 hS.1.2 (ci := 0) (q0 := 0) rfl rfl) rfl hls rfl hrm hf hdg kk
end
section
/-! the desk's questions -/
set_option maxHeartbeats 4000000 in
set_option maxRecDepth 100000 in
theorem m_X0_best (l : Launch) (D : va_G) (ad : Nat → Nat) (ca : Nat → ClassId) (σ : cd_D) (hg : cd_gd (gP σ) (gW σ) (gN σ)) : cWi l D (dkT ca) (dkW ad ca) σ yX0_best cX0_best 1 (some .int) (cd_rm 3) [.ref (ad 0)] (fun z τ => cd_besP σ z τ) := by
  refine en_Wi (own := RX0) (by decide) rfl (Nat.le_of_ble_eq_true rfl) ?_
  intro p e s m below meth c ls A K hr hlocks hS hl
  have hl : lv_has ls 1 [(0, .ref (ad 0))] := hl
  obtain ⟨hx, hb, hml, hown, hts⟩ := id K
  refine lv_aload_n hx hb dX0_best_0 rfl (lv_at hl 0 rfl) ?_
  refine k_X0_askPlainly (σ := σ) K  hS ⟨Nat.le_of_ble_eq_true rfl, Nat.le_of_ble_eq_true rfl⟩ ⟨Nat.le_of_ble_eq_true rfl, Nat.le_of_ble_eq_true rfl⟩ hl.1 (Nat.le_of_ble_eq_true rfl) dX0_best_1 (fun τ H locs hpost hS => ?_)
  obtain rfl := hpost
  have hS : wS D (dkT ca) A s.heap (dkW ad ca (sK σ (cd_it (cd_ask (gW σ)) 9 (gK σ)))) s H locs := hS
  have hok : cd_aok (gP σ) (gN σ) (cd_it (cd_ask (gW σ)) 9 (gK σ)) := aok_congr (fun u hu => (ask_eq _ _ u hu).symm) (aok_plain hg)
  refine lv_aload_n hx hb dX0_best_4 rfl (lv_at hl 0 rfl) ?_
  refine k_X0_solve (σ := (sK σ (cd_it (cd_ask (gW σ)) 9 (gK σ)))) K hok hS ⟨Nat.le_of_ble_eq_true rfl, Nat.le_of_ble_eq_true rfl⟩ ⟨Nat.le_of_ble_eq_true rfl, Nat.le_of_ble_eq_true rfl⟩ hl.1 (Nat.le_of_ble_eq_true rfl) dX0_best_5 (fun z τ H locs hpost hS => ?_)
  obtain ⟨r, fs, f, g, rfl, hf⟩ := hpost
  have hS : wS D (dkT ca) A s.heap (dkW ad ca (sL (sF (sS (sR (sK σ (cd_it (cd_ask (gW σ)) 9 (gK σ))) r) fs) f) g)) s H locs := hS
  have hf : cd_fin (gP σ) (gN σ) (gW σ) r fs z := fin_congr (ask_eq (gW σ) (gK σ)) hf
  exact rt_Wi K hr hlocks (rfl) hS (⟨⟨rfl, rfl, rfl⟩, r, fs, hf⟩) dX0_best_8
set_option maxHeartbeats 4000000 in
set_option maxRecDepth 100000 in
theorem k_X0_best {p : Program} {l : Launch} {e : Env} {R : Room} {s : State} {m : MethodId} {args : Array Value} {below : List Frame} {meth : Method} {c : Code} {H : Heap} {locs : List Loc} {cells slots : Nat} {Q : State → Prop} {cc : ByteArray} {nL pc : Nat} {ls : Array Slot} {rest : List Value} {D : va_G} {A : Nat → Prop} {H0 : Heap} {ad : Nat → Nat} {ca : Nat → ClassId} {σ : cd_D} (K : CallFix p m c cc nL s args lw_all RX0) (hg : cd_gd (gP σ) (gW σ) (gN σ)) (hS : wS D (dkT ca) A H0 (dkW ad ca σ) s H locs) (hR : (cd_rm 3).frames + 1 ≤ R.frames ∧ 8 + (1 + 11) + (cd_rm 3).locals ≤ R.locals) (hf : cells + 0 ≤ R.cells ∧ slots + 0 ≤ R.slots) (hls : ls.size = nL) (hrm : (rest.map fun v => v.category).sum ≤ 8) (hdg : decode cc pc = .ok (.invokevirtual 74, 3)) (kk : ∀ (rr : Int32) (zz : cd_D) (H1 : Heap) (locs1 : List Loc), (fun z τ => cd_besP σ z τ) rr zz → wS D (dkT ca) A H0 (dkW ad ca zz) s H1 locs1 → W p l e R s m args below meth c H1 locs1 cells slots Q (F0 m (pc + 3) ls (.int rr :: rest))) : W p l e R s m args below meth c H locs cells slots Q (F0 m pc ls (.ref (ad 0) :: rest)) :=
  cl_Wi K (m_X0_best l D ad ca σ hg) (cwV 0 K.2.2.2.2 (lw_V q140 q91 q92 q14 q93) rfl rfl rfl (by decide +kernel) hR) hS (va_recv hS.1.1 hS.1.2 (ci := 0) (q0 := 0) rfl rfl) rfl hls rfl hrm hf hdg kk
set_option maxHeartbeats 4000000 in
set_option maxRecDepth 100000 in
theorem m_X0_leastBest (l : Launch) (D : va_G) (ad : Nat → Nat) (ca : Nat → ClassId) (σ : cd_D) (hg : cd_gd (gP σ) (gW σ) (gN σ)) : cWi l D (dkT ca) (dkW ad ca) σ yX0_leastBest cX0_leastBest 1 (some .int) (cd_rm 3) [.ref (ad 0)] (fun z τ => cd_leaP σ z τ) := by
  refine en_Wi (own := RX0) (by decide) rfl (Nat.le_of_ble_eq_true rfl) ?_
  intro p e s m below meth c ls A K hr hlocks hS hl
  have hl : lv_has ls 1 [(0, .ref (ad 0))] := hl
  obtain ⟨hx, hb, hml, hown, hts⟩ := id K
  refine lv_aload_n hx hb dX0_leastBest_0 rfl (lv_at hl 0 rfl) ?_
  refine k_X0_askPlainly (σ := σ) K  hS ⟨Nat.le_of_ble_eq_true rfl, Nat.le_of_ble_eq_true rfl⟩ ⟨Nat.le_of_ble_eq_true rfl, Nat.le_of_ble_eq_true rfl⟩ hl.1 (Nat.le_of_ble_eq_true rfl) dX0_leastBest_1 (fun τ H locs hpost hS => ?_)
  obtain rfl := hpost
  have hS : wS D (dkT ca) A s.heap (dkW ad ca (sK σ (cd_it (cd_ask (gW σ)) 9 (gK σ)))) s H locs := hS
  have hok : cd_aok (gP σ) (gN σ) (cd_it (cd_ask (gW σ)) 9 (gK σ)) := aok_congr (fun u hu => (ask_eq _ _ u hu).symm) (aok_plain hg)
  refine lv_aload_n hx hb dX0_leastBest_4 rfl (lv_at hl 0 rfl) ?_
  refine k_X0_solve (σ := (sK σ (cd_it (cd_ask (gW σ)) 9 (gK σ)))) K hok hS ⟨Nat.le_of_ble_eq_true rfl, Nat.le_of_ble_eq_true rfl⟩ ⟨Nat.le_of_ble_eq_true rfl, Nat.le_of_ble_eq_true rfl⟩ hl.1 (Nat.le_of_ble_eq_true rfl) dX0_leastBest_5 (fun z τ H locs hpost hS => ?_)
  obtain ⟨r, fs, f, g, rfl, hf⟩ := hpost
  have hS : wS D (dkT ca) A s.heap (dkW ad ca (sL (sF (sS (sR (sK σ (cd_it (cd_ask (gW σ)) 9 (gK σ))) r) fs) f) g)) s H locs := hS
  have hf : cd_fin (gP σ) (gN σ) (gW σ) r fs z := fin_congr (ask_eq (gW σ) (gK σ)) hf
  refine lv_pop hx hb dX0_leastBest_8 rfl ?_
  refine lv_aload_n hx hb dX0_leastBest_9 rfl (lv_at hl 0 rfl) ?_
  refine dg_S K hS.1 dX0_leastBest_10 ?_
  refine lv_aload_n hx hb dX0_leastBest_13 rfl (lv_at hl 0 rfl) ?_
  refine dg_P K hS.1 dX0_leastBest_14 ?_
  refine lv_iand hx hb dX0_leastBest_17 ?_
  exact rt_Wi K hr hlocks (rfl) hS (⟨⟨rfl, rfl, rfl⟩, r, fs, z, hf, rfl⟩) dX0_leastBest_18
set_option maxHeartbeats 4000000 in
set_option maxRecDepth 100000 in
theorem m_X0_greatestBest (l : Launch) (D : va_G) (ad : Nat → Nat) (ca : Nat → ClassId) (σ : cd_D) (hg : cd_gd (gP σ) (gW σ) (gN σ)) : cWi l D (dkT ca) (dkW ad ca) σ yX0_greatestBest cX0_greatestBest 1 (some .int) (cd_rm 3) [.ref (ad 0)] (fun z τ => cd_greP σ z τ) := by
  refine en_Wi (own := RX0) (by decide) rfl (Nat.le_of_ble_eq_true rfl) ?_
  intro p e s m below meth c ls A K hr hlocks hS hl
  have hl : lv_has ls 1 [(0, .ref (ad 0))] := hl
  obtain ⟨hx, hb, hml, hown, hts⟩ := id K
  refine lv_aload_n hx hb dX0_greatestBest_0 rfl (lv_at hl 0 rfl) ?_
  refine k_X0_askPlainly (σ := σ) K  hS ⟨Nat.le_of_ble_eq_true rfl, Nat.le_of_ble_eq_true rfl⟩ ⟨Nat.le_of_ble_eq_true rfl, Nat.le_of_ble_eq_true rfl⟩ hl.1 (Nat.le_of_ble_eq_true rfl) dX0_greatestBest_1 (fun τ H locs hpost hS => ?_)
  obtain rfl := hpost
  have hS : wS D (dkT ca) A s.heap (dkW ad ca (sK σ (cd_it (cd_ask (gW σ)) 9 (gK σ)))) s H locs := hS
  have hok : cd_aok (gP σ) (gN σ) (cd_it (cd_ask (gW σ)) 9 (gK σ)) := aok_congr (fun u hu => (ask_eq _ _ u hu).symm) (aok_plain hg)
  refine lv_aload_n hx hb dX0_greatestBest_4 rfl (lv_at hl 0 rfl) ?_
  refine k_X0_solve (σ := (sK σ (cd_it (cd_ask (gW σ)) 9 (gK σ)))) K hok hS ⟨Nat.le_of_ble_eq_true rfl, Nat.le_of_ble_eq_true rfl⟩ ⟨Nat.le_of_ble_eq_true rfl, Nat.le_of_ble_eq_true rfl⟩ hl.1 (Nat.le_of_ble_eq_true rfl) dX0_greatestBest_5 (fun z τ H locs hpost hS => ?_)
  obtain ⟨r, fs, f, g, rfl, hf⟩ := hpost
  have hS : wS D (dkT ca) A s.heap (dkW ad ca (sL (sF (sS (sR (sK σ (cd_it (cd_ask (gW σ)) 9 (gK σ))) r) fs) f) g)) s H locs := hS
  have hf : cd_fin (gP σ) (gN σ) (gW σ) r fs z := fin_congr (ask_eq (gW σ) (gK σ)) hf
  refine lv_pop hx hb dX0_greatestBest_8 rfl ?_
  refine lv_aload_n hx hb dX0_greatestBest_9 rfl (lv_at hl 0 rfl) ?_
  refine k_X0_apart K hS.1 ⟨Nat.le_of_ble_eq_true rfl, Nat.le_of_ble_eq_true rfl⟩ ⟨Nat.le_of_ble_eq_true rfl, Nat.le_of_ble_eq_true rfl⟩ hl.1 (Nat.le_of_ble_eq_true rfl) dX0_greatestBest_10 ?_
  exact rt_Wi K hr hlocks (rfl) hS (⟨⟨rfl, rfl, rfl⟩, r, fs, z, hf, rfl⟩) dX0_greatestBest_13
set_option maxHeartbeats 4000000 in
set_option maxRecDepth 100000 in
theorem m_X0_worthWith (l : Launch) (D : va_G) (ad : Nat → Nat) (ca : Nat → ClassId) (σ : cd_D) (u : Int32) (j : Nat) (hj : j < 9) (hu : u = nI j) (hg : cd_gd (gP σ) (gW σ) (gN σ)) : cWi l D (dkT ca) (dkW ad ca) σ yX0_worthWith cX0_worthWith 3 (some .int) (cd_rm 3) [.ref (ad 0), .int u] (fun z τ => cd_wwiP σ j z τ) := by
  refine en_Wi (own := RX0) (by decide) rfl (Nat.le_of_ble_eq_true rfl) ?_
  intro p e s m below meth c ls A K hr hlocks hS hl
  have hl : lv_has ls 3 [(0, .ref (ad 0)), (1, .int u)] := hl
  obtain ⟨hx, hb, hml, hown, hts⟩ := id K
  subst hu
  refine lv_aload_n hx hb dX0_worthWith_0 rfl (lv_at hl 0 rfl) ?_
  refine k_X0_askPlainly (σ := σ) K  hS ⟨Nat.le_of_ble_eq_true rfl, Nat.le_of_ble_eq_true rfl⟩ ⟨Nat.le_of_ble_eq_true rfl, Nat.le_of_ble_eq_true rfl⟩ hl.1 (Nat.le_of_ble_eq_true rfl) dX0_worthWith_1 (fun τ H locs hpost hS => ?_)
  obtain rfl := hpost
  have hS : wS D (dkT ca) A s.heap (dkW ad ca (sK σ (cd_it (cd_ask (gW σ)) 9 (gK σ)))) s H locs := hS
  refine lv_aload_n hx hb dX0_worthWith_4 rfl (lv_at hl 0 rfl) ?_
  refine dg_K K hS.1 dX0_worthWith_5 ?_
  refine lv_iload_n hx hb dX0_worthWith_8 rfl (lv_at hl 1 rfl) ?_
  refine lv_sipush (v := 1000) hx hb dX0_worthWith_9 (by decide) ?_
  refine ds_K K hS j (by omega) rfl dX0_worthWith_12 (fun H locs hS => ?_)
  have hS : wS D (dkT ca) A s.heap (dkW ad ca (sK σ (upd (cd_it (cd_ask (gW σ)) 9 (gK σ)) j 1000))) s H locs := hS
  have hok : cd_aok (gP σ) (gN σ) (upd (cd_it (cd_ask (gW σ)) 9 (gK σ)) j 1000) := aok_congr (ask_upd _ _ _ _) (aok_with hg hj)
  refine lv_aload_n hx hb dX0_worthWith_13 rfl (lv_at hl 0 rfl) ?_
  refine k_X0_solve (σ := (sK σ (upd (cd_it (cd_ask (gW σ)) 9 (gK σ)) j 1000))) K hok hS ⟨Nat.le_of_ble_eq_true rfl, Nat.le_of_ble_eq_true rfl⟩ ⟨Nat.le_of_ble_eq_true rfl, Nat.le_of_ble_eq_true rfl⟩ hl.1 (Nat.le_of_ble_eq_true rfl) dX0_worthWith_14 (fun z τ H locs hpost hS => ?_)
  obtain ⟨r, fs, f, g, rfl, hf⟩ := hpost
  have hS : wS D (dkT ca) A s.heap (dkW ad ca (sL (sF (sS (sR (sK σ (upd (cd_it (cd_ask (gW σ)) 9 (gK σ)) j 1000)) r) fs) f) g)) s H locs := hS
  have hf : cd_fin (gP σ) (gN σ) (upd (gW σ) j 1000) r fs z := fin_congr (fun u hu => (ask_upd _ _ _ _ u hu).symm) hf
  refine lv_istore_n (lv' := [(2, .int z), (0, .ref (ad 0)), (1, .int (nI j))]) hx hb dX0_worthWith_17 rfl hl (by decide) rfl (fun ls hl => ?_)
  refine lv_iload_n hx hb dX0_worthWith_18 rfl (lv_at hl 0 rfl) ?_
  refine lv_sipush (v := 1000) hx hb dX0_worthWith_19 (by decide) ?_
  refine lv_isub hx hb dX0_worthWith_22 ?_
  exact rt_Wi K hr hlocks (rfl) hS (⟨⟨rfl, rfl, rfl⟩, r, fs, z, hf, rfl⟩) dX0_worthWith_23
set_option maxHeartbeats 4000000 in
set_option maxRecDepth 100000 in
theorem k_X0_worthWith {p : Program} {l : Launch} {e : Env} {R : Room} {s : State} {m : MethodId} {args : Array Value} {below : List Frame} {meth : Method} {c : Code} {H : Heap} {locs : List Loc} {cells slots : Nat} {Q : State → Prop} {cc : ByteArray} {nL pc : Nat} {ls : Array Slot} {rest : List Value} {D : va_G} {A : Nat → Prop} {H0 : Heap} {ad : Nat → Nat} {ca : Nat → ClassId} {σ : cd_D} {u : Int32} (K : CallFix p m c cc nL s args lw_all RX0) (j : Nat) (hj : j < 9) (hu : u = nI j) (hg : cd_gd (gP σ) (gW σ) (gN σ)) (hS : wS D (dkT ca) A H0 (dkW ad ca σ) s H locs) (hR : (cd_rm 3).frames + 1 ≤ R.frames ∧ 8 + (3 + 11) + (cd_rm 3).locals ≤ R.locals) (hf : cells + 0 ≤ R.cells ∧ slots + 0 ≤ R.slots) (hls : ls.size = nL) (hrm : (rest.map fun v => v.category).sum ≤ 8) (hdg : decode cc pc = .ok (.invokevirtual 66, 3)) (kk : ∀ (rr : Int32) (zz : cd_D) (H1 : Heap) (locs1 : List Loc), (fun z τ => cd_wwiP σ j z τ) rr zz → wS D (dkT ca) A H0 (dkW ad ca zz) s H1 locs1 → W p l e R s m args below meth c H1 locs1 cells slots Q (F0 m (pc + 3) ls (.int rr :: rest))) : W p l e R s m args below meth c H locs cells slots Q (F0 m pc ls (.int u :: .ref (ad 0) :: rest)) :=
  cl_Wi K (m_X0_worthWith l D ad ca σ u j hj hu hg) (cwV 1 K.2.2.2.2 (lw_V q127 q129 qs6 q14 q130) rfl rfl rfl (by decide +kernel) hR) hS (va_recv hS.1.1 hS.1.2 (ci := 0) (q0 := 0) rfl rfl) rfl hls rfl hrm hf hdg kk
set_option maxHeartbeats 4000000 in
set_option maxRecDepth 100000 in
theorem m_X0_worthWithout (l : Launch) (D : va_G) (ad : Nat → Nat) (ca : Nat → ClassId) (σ : cd_D) (u : Int32) (j : Nat) (hj : j < 9) (hu : u = nI j) (hg : cd_gd (gP σ) (gW σ) (gN σ)) : cWi l D (dkT ca) (dkW ad ca) σ yX0_worthWithout cX0_worthWithout 2 (some .int) (cd_rm 3) [.ref (ad 0), .int u] (fun z τ => cd_wwoP σ j z τ) := by
  refine en_Wi (own := RX0) (by decide) rfl (Nat.le_of_ble_eq_true rfl) ?_
  intro p e s m below meth c ls A K hr hlocks hS hl
  have hl : lv_has ls 2 [(0, .ref (ad 0)), (1, .int u)] := hl
  obtain ⟨hx, hb, hml, hown, hts⟩ := id K
  subst hu
  refine lv_aload_n hx hb dX0_worthWithout_0 rfl (lv_at hl 0 rfl) ?_
  refine k_X0_askPlainly (σ := σ) K  hS ⟨Nat.le_of_ble_eq_true rfl, Nat.le_of_ble_eq_true rfl⟩ ⟨Nat.le_of_ble_eq_true rfl, Nat.le_of_ble_eq_true rfl⟩ hl.1 (Nat.le_of_ble_eq_true rfl) dX0_worthWithout_1 (fun τ H locs hpost hS => ?_)
  obtain rfl := hpost
  have hS : wS D (dkT ca) A s.heap (dkW ad ca (sK σ (cd_it (cd_ask (gW σ)) 9 (gK σ)))) s H locs := hS
  refine lv_aload_n hx hb dX0_worthWithout_4 rfl (lv_at hl 0 rfl) ?_
  refine dg_K K hS.1 dX0_worthWithout_5 ?_
  refine lv_iload_n hx hb dX0_worthWithout_8 rfl (lv_at hl 1 rfl) ?_
  refine lv_sipush (v := (-1000)) hx hb dX0_worthWithout_9 (by decide) ?_
  refine ds_K K hS j (by omega) rfl dX0_worthWithout_12 (fun H locs hS => ?_)
  have hS : wS D (dkT ca) A s.heap (dkW ad ca (sK σ (upd (cd_it (cd_ask (gW σ)) 9 (gK σ)) j (-1000)))) s H locs := hS
  have hok : cd_aok (gP σ) (gN σ) (upd (cd_it (cd_ask (gW σ)) 9 (gK σ)) j (-1000)) := aok_congr (ask_upd _ _ _ _) (aok_without hg hj)
  refine lv_aload_n hx hb dX0_worthWithout_13 rfl (lv_at hl 0 rfl) ?_
  refine k_X0_solve (σ := (sK σ (upd (cd_it (cd_ask (gW σ)) 9 (gK σ)) j (-1000)))) K hok hS ⟨Nat.le_of_ble_eq_true rfl, Nat.le_of_ble_eq_true rfl⟩ ⟨Nat.le_of_ble_eq_true rfl, Nat.le_of_ble_eq_true rfl⟩ hl.1 (Nat.le_of_ble_eq_true rfl) dX0_worthWithout_14 (fun z τ H locs hpost hS => ?_)
  obtain ⟨r, fs, f, g, rfl, hf⟩ := hpost
  have hS : wS D (dkT ca) A s.heap (dkW ad ca (sL (sF (sS (sR (sK σ (upd (cd_it (cd_ask (gW σ)) 9 (gK σ)) j (-1000))) r) fs) f) g)) s H locs := hS
  have hf : cd_fin (gP σ) (gN σ) (upd (gW σ) j (-1000)) r fs z := fin_congr (fun u hu => (ask_upd _ _ _ _ u hu).symm) hf
  exact rt_Wi K hr hlocks (rfl) hS (⟨⟨rfl, rfl, rfl⟩, r, fs, hf⟩) dX0_worthWithout_17
set_option maxHeartbeats 4000000 in
set_option maxRecDepth 100000 in
theorem k_X0_worthWithout {p : Program} {l : Launch} {e : Env} {R : Room} {s : State} {m : MethodId} {args : Array Value} {below : List Frame} {meth : Method} {c : Code} {H : Heap} {locs : List Loc} {cells slots : Nat} {Q : State → Prop} {cc : ByteArray} {nL pc : Nat} {ls : Array Slot} {rest : List Value} {D : va_G} {A : Nat → Prop} {H0 : Heap} {ad : Nat → Nat} {ca : Nat → ClassId} {σ : cd_D} {u : Int32} (K : CallFix p m c cc nL s args lw_all RX0) (j : Nat) (hj : j < 9) (hu : u = nI j) (hg : cd_gd (gP σ) (gW σ) (gN σ)) (hS : wS D (dkT ca) A H0 (dkW ad ca σ) s H locs) (hR : (cd_rm 3).frames + 1 ≤ R.frames ∧ 8 + (2 + 11) + (cd_rm 3).locals ≤ R.locals) (hf : cells + 0 ≤ R.cells ∧ slots + 0 ≤ R.slots) (hls : ls.size = nL) (hrm : (rest.map fun v => v.category).sum ≤ 8) (hdg : decode cc pc = .ok (.invokevirtual 71, 3)) (kk : ∀ (rr : Int32) (zz : cd_D) (H1 : Heap) (locs1 : List Loc), (fun z τ => cd_wwoP σ j z τ) rr zz → wS D (dkT ca) A H0 (dkW ad ca zz) s H1 locs1 → W p l e R s m args below meth c H1 locs1 cells slots Q (F0 m (pc + 3) ls (.int rr :: rest))) : W p l e R s m args below meth c H locs cells slots Q (F0 m pc ls (.int u :: .ref (ad 0) :: rest)) :=
  cl_Wi K (m_X0_worthWithout l D ad ca σ u j hj hu hg) (cwV 1 K.2.2.2.2 (lw_V q136 q138 qs7 q14 q139) rfl rfl rfl (by decide +kernel) hR) hS (va_recv hS.1.1 hS.1.2 (ci := 0) (q0 := 0) rfl rfl) rfl hls rfl hrm hf hdg kk
set_option maxHeartbeats 4000000 in
set_option maxRecDepth 100000 in
theorem m_X0_bestWith (l : Launch) (D : va_G) (ad : Nat → Nat) (ca : Nat → ClassId) (σ : cd_D) (u : Int32) (hg : cd_gd (gP σ) (gW σ) (gN σ)) : cWi l D (dkT ca) (dkW ad ca) σ yX0_bestWith cX0_bestWith 2 (some .int) (cd_rm 4) [.ref (ad 0), .int u] (fun z τ => cd_bwiP σ u z τ) := by
  refine en_Wi (own := RX0) (by decide) rfl (Nat.le_of_ble_eq_true rfl) ?_
  intro p e s m below meth c ls A K hr hlocks hS hl
  have hl : lv_has ls 2 [(0, .ref (ad 0)), (1, .int u)] := hl
  obtain ⟨hx, hb, hml, hown, hts⟩ := id K
  refine lv_aload_n hx hb dX0_bestWith_0 rfl (lv_at hl 0 rfl) ?_
  refine lv_iload_n hx hb dX0_bestWith_1 rfl (lv_at hl 1 rfl) ?_
  refine k_X0_has K hS.1 ⟨Nat.le_of_ble_eq_true rfl, Nat.le_of_ble_eq_true rfl⟩ ⟨Nat.le_of_ble_eq_true rfl, Nat.le_of_ble_eq_true rfl⟩ hl.1 (Nat.le_of_ble_eq_true rfl) dX0_bestWith_2 ?_
  refine lv_if_eq (tgt := 23) hx hb dX0_bestWith_5 (by decide) (fun c5 => ?_) (fun c5 => ?_)
  · refine lv_ldc (v := (-100000)) hx hb hown (hts _ q131) dX0_bestWith_23 ?_
    exact rt_Wi K hr hlocks (rfl) hS (⟨⟨rfl, rfl, rfl⟩, Or.inl ⟨cd_zb_eq c5, rfl⟩⟩) dX0_bestWith_25
  · have hh := cd_zb_ne c5
    obtain ⟨j, hj, rfl⟩ := cd_has_ix hh
    refine lv_aload_n hx hb dX0_bestWith_8 rfl (lv_at hl 0 rfl) ?_
    refine lv_iload_n hx hb dX0_bestWith_9 rfl (lv_at hl 1 rfl) ?_
    refine k_X0_worthWith (σ := σ) K j hj rfl hg hS ⟨Nat.le_of_ble_eq_true rfl, Nat.le_of_ble_eq_true rfl⟩ ⟨Nat.le_of_ble_eq_true rfl, Nat.le_of_ble_eq_true rfl⟩ hl.1 (Nat.le_of_ble_eq_true rfl) dX0_bestWith_10 (fun z τ H locs hpost hS => ?_)
    obtain ⟨hsd, r, fs, v, hf, hz⟩ := hpost
    have hS : wS D (dkT ca) A s.heap (dkW ad ca τ) s H locs := hS
    refine lv_aload_n hx hb dX0_bestWith_13 rfl (lv_at hl 0 rfl) ?_
    refine dg_W K hS.1 dX0_bestWith_14 ?_
    refine lv_iload_n hx hb dX0_bestWith_17 rfl (lv_at hl 1 rfl) ?_
    refine dl_W K hS.1 j (by omega) rfl dX0_bestWith_18 ?_
    refine lv_iadd hx hb dX0_bestWith_19 ?_
    refine lv_goto (tgt := 25) hx hb dX0_bestWith_20 (by decide) ?_
    exact rt_Wi K hr hlocks (rfl) hS (⟨hsd, Or.inr ⟨hh, j, hj, rfl, r, fs, v, hf, by rw [hz, hsd.2.1]⟩⟩) dX0_bestWith_25
set_option maxHeartbeats 4000000 in
set_option maxRecDepth 100000 in
theorem m_X0_bestWithout (l : Launch) (D : va_G) (ad : Nat → Nat) (ca : Nat → ClassId) (σ : cd_D) (u : Int32) (hg : cd_gd (gP σ) (gW σ) (gN σ)) : cWi l D (dkT ca) (dkW ad ca) σ yX0_bestWithout cX0_bestWithout 2 (some .int) (cd_rm 4) [.ref (ad 0), .int u] (fun z τ => cd_bwoP σ u z τ) := by
  refine en_Wi (own := RX0) (by decide) rfl (Nat.le_of_ble_eq_true rfl) ?_
  intro p e s m below meth c ls A K hr hlocks hS hl
  have hl : lv_has ls 2 [(0, .ref (ad 0)), (1, .int u)] := hl
  obtain ⟨hx, hb, hml, hown, hts⟩ := id K
  refine lv_aload_n hx hb dX0_bestWithout_0 rfl (lv_at hl 0 rfl) ?_
  refine lv_iload_n hx hb dX0_bestWithout_1 rfl (lv_at hl 1 rfl) ?_
  refine k_X0_has K hS.1 ⟨Nat.le_of_ble_eq_true rfl, Nat.le_of_ble_eq_true rfl⟩ ⟨Nat.le_of_ble_eq_true rfl, Nat.le_of_ble_eq_true rfl⟩ hl.1 (Nat.le_of_ble_eq_true rfl) dX0_bestWithout_2 ?_
  refine lv_if_eq (tgt := 16) hx hb dX0_bestWithout_5 (by decide) (fun c5 => ?_) (fun c5 => ?_)
  · refine lv_aload_n hx hb dX0_bestWithout_16 rfl (lv_at hl 0 rfl) ?_
    refine k_X0_best (σ := σ) K hg hS ⟨Nat.le_of_ble_eq_true rfl, Nat.le_of_ble_eq_true rfl⟩ ⟨Nat.le_of_ble_eq_true rfl, Nat.le_of_ble_eq_true rfl⟩ hl.1 (Nat.le_of_ble_eq_true rfl) dX0_bestWithout_17 (fun z τ H locs hpost hS => ?_)
    obtain ⟨hsd, r, fs, hf⟩ := hpost
    have hS : wS D (dkT ca) A s.heap (dkW ad ca τ) s H locs := hS
    exact rt_Wi K hr hlocks (rfl) hS (⟨hsd, Or.inl ⟨cd_zb_eq c5, r, fs, hf⟩⟩) dX0_bestWithout_20
  · have hh := cd_zb_ne c5
    obtain ⟨j, hj, rfl⟩ := cd_has_ix hh
    refine lv_aload_n hx hb dX0_bestWithout_8 rfl (lv_at hl 0 rfl) ?_
    refine lv_iload_n hx hb dX0_bestWithout_9 rfl (lv_at hl 1 rfl) ?_
    refine k_X0_worthWithout (σ := σ) K j hj rfl hg hS ⟨Nat.le_of_ble_eq_true rfl, Nat.le_of_ble_eq_true rfl⟩ ⟨Nat.le_of_ble_eq_true rfl, Nat.le_of_ble_eq_true rfl⟩ hl.1 (Nat.le_of_ble_eq_true rfl) dX0_bestWithout_10 (fun z τ H locs hpost hS => ?_)
    obtain ⟨hsd, r, fs, hf⟩ := hpost
    have hS : wS D (dkT ca) A s.heap (dkW ad ca τ) s H locs := hS
    refine lv_goto (tgt := 20) hx hb dX0_bestWithout_13 (by decide) ?_
    exact rt_Wi K hr hlocks (rfl) hS (⟨hsd, Or.inr ⟨hh, j, hj, rfl, r, fs, hf⟩⟩) dX0_bestWithout_20
set_option maxHeartbeats 4000000 in
set_option maxRecDepth 100000 in
theorem m_X0_threshold (l : Launch) (D : va_G) (ad : Nat → Nat) (ca : Nat → ClassId) (σ : cd_D) (u : Int32) (hg : cd_gd (gP σ) (gW σ) (gN σ)) : cWi l D (dkT ca) (dkW ad ca) σ yX0_threshold cX0_threshold 4 (some .int) (cd_rm 4) [.ref (ad 0), .int u] (fun z τ => cd_thrP σ u z τ) := by
  refine en_Wi (own := RX0) (by decide) rfl (Nat.le_of_ble_eq_true rfl) ?_
  intro p e s m below meth c ls A K hr hlocks hS hl
  have hl : lv_has ls 4 [(0, .ref (ad 0)), (1, .int u)] := hl
  obtain ⟨hx, hb, hml, hown, hts⟩ := id K
  refine lv_aload_n hx hb dX0_threshold_0 rfl (lv_at hl 0 rfl) ?_
  refine lv_iload_n hx hb dX0_threshold_1 rfl (lv_at hl 1 rfl) ?_
  refine k_X0_has K hS.1 ⟨Nat.le_of_ble_eq_true rfl, Nat.le_of_ble_eq_true rfl⟩ ⟨Nat.le_of_ble_eq_true rfl, Nat.le_of_ble_eq_true rfl⟩ hl.1 (Nat.le_of_ble_eq_true rfl) dX0_threshold_2 ?_
  refine lv_if_ne (tgt := 11) hx hb dX0_threshold_5 (by decide) (fun c5 => ?_) (fun c5 => ?_)
  · have hh := cd_zb_ne c5
    obtain ⟨j, hj, rfl⟩ := cd_has_ix hh
    refine lv_aload_n hx hb dX0_threshold_11 rfl (lv_at hl 0 rfl) ?_
    refine lv_iload_n hx hb dX0_threshold_12 rfl (lv_at hl 1 rfl) ?_
    refine k_X0_worthWithout (σ := σ) K j hj rfl hg hS ⟨Nat.le_of_ble_eq_true rfl, Nat.le_of_ble_eq_true rfl⟩ ⟨Nat.le_of_ble_eq_true rfl, Nat.le_of_ble_eq_true rfl⟩ hl.1 (Nat.le_of_ble_eq_true rfl) dX0_threshold_13 (fun v1 τ1 H locs hpost hS => ?_)
    obtain ⟨hsd1, r1, fs1, hf1⟩ := hpost
    have hS : wS D (dkT ca) A s.heap (dkW ad ca τ1) s H locs := hS
    refine lv_istore_n (lv' := [(2, .int v1), (0, .ref (ad 0)), (1, .int (nI j))]) hx hb dX0_threshold_16 rfl hl (by decide) rfl (fun ls hl => ?_)
    refine lv_iload_n hx hb dX0_threshold_17 rfl (lv_at hl 0 rfl) ?_
    refine lv_aload_n hx hb dX0_threshold_18 rfl (lv_at hl 1 rfl) ?_
    refine lv_iload_n hx hb dX0_threshold_19 rfl (lv_at hl 2 rfl) ?_
    refine k_X0_worthWith (σ := τ1) K j hj rfl (gd_sd hsd1 hg) hS ⟨Nat.le_of_ble_eq_true rfl, Nat.le_of_ble_eq_true rfl⟩ ⟨Nat.le_of_ble_eq_true rfl, Nat.le_of_ble_eq_true rfl⟩ hl.1 (Nat.le_of_ble_eq_true rfl) dX0_threshold_20 (fun z2 τ2 H locs hpost hS => ?_)
    obtain ⟨hsd2, r2, fs2, v2, hf2, hz2⟩ := hpost
    have hS : wS D (dkT ca) A s.heap (dkW ad ca τ2) s H locs := hS
    rw [hsd1.1, hsd1.2.1, hsd1.2.2] at hf2
    have hsd : cd_sd σ τ2 := ⟨hsd2.1.trans hsd1.1, hsd2.2.1.trans hsd1.2.1, hsd2.2.2.trans hsd1.2.2⟩
    refine lv_isub hx hb dX0_threshold_23 ?_
    refine lv_istore_n (lv' := [(3, .int (v1 - z2)), (2, .int v1), (0, .ref (ad 0)), (1, .int (nI j))]) hx hb dX0_threshold_24 rfl hl (by decide) rfl (fun ls hl => ?_)
    refine lv_iload_n hx hb dX0_threshold_25 rfl (lv_at hl 0 rfl) ?_
    refine lv_bipush (v := 50) hx hb dX0_threshold_26 (by decide) ?_
    refine lv_icmp_le (tgt := 34) hx hb dX0_threshold_28 (by decide) (fun c28 => ?_) (fun c28 => ?_)
    · refine lv_iload_n hx hb dX0_threshold_34 rfl (lv_at hl 0 rfl) ?_
      refine lv_bipush (v := (-50)) hx hb dX0_threshold_35 (by decide) ?_
      refine lv_icmp_ge (tgt := 45) hx hb dX0_threshold_37 (by decide) (fun c37 => ?_) (fun c37 => ?_)
      · refine lv_iload_n hx hb dX0_threshold_45 rfl (lv_at hl 0 rfl) ?_
        exact rt_Wi K hr hlocks (rfl) hS (⟨hsd, Or.inr ⟨hh, j, hj, rfl, r1, fs1, v1, r2, fs2, v2, hf1, hf2, by rw [← hz2]; unfold cd_clamp; rw [if_pos c28, if_pos c37]⟩⟩) dX0_threshold_46
      · refine lv_bipush (v := (-50)) hx hb dX0_threshold_40 (by decide) ?_
        refine lv_goto (tgt := 46) hx hb dX0_threshold_42 (by decide) ?_
        exact rt_Wi K hr hlocks (rfl) hS (⟨hsd, Or.inr ⟨hh, j, hj, rfl, r1, fs1, v1, r2, fs2, v2, hf1, hf2, by rw [← hz2]; unfold cd_clamp; rw [if_pos c28, if_neg c37]⟩⟩) dX0_threshold_46
    · refine lv_bipush (v := 51) hx hb dX0_threshold_31 (by decide) ?_
      exact rt_Wi K hr hlocks (rfl) hS (⟨hsd, Or.inr ⟨hh, j, hj, rfl, r1, fs1, v1, r2, fs2, v2, hf1, hf2, by rw [← hz2]; unfold cd_clamp; rw [if_neg c28]⟩⟩) dX0_threshold_33
  · refine lv_ldc (v := (-100000)) hx hb hown (hts _ q131) dX0_threshold_8 ?_
    exact rt_Wi K hr hlocks (rfl) hS (⟨⟨rfl, rfl, rfl⟩, Or.inl ⟨cd_zb_eq c5, rfl⟩⟩) dX0_threshold_10
set_option maxHeartbeats 4000000 in
set_option maxRecDepth 100000 in
theorem m_X0_burden (l : Launch) (D : va_G) (ad : Nat → Nat) (ca : Nat → ClassId) (σ : cd_D) (u : Int32) (v : Int32) (hg : cd_gd (gP σ) (gW σ) (gN σ)) : cWi l D (dkT ca) (dkW ad ca) σ yX0_burden cX0_burden 5 (some .int) (cd_rm 4) [.ref (ad 0), .int u, .int v] (fun z τ => cd_burP σ u v z τ) := by
  refine en_Wi (own := RX0) (by decide) rfl (Nat.le_of_ble_eq_true rfl) ?_
  intro p e s m below meth c ls A K hr hlocks hS hl
  have hl : lv_has ls 5 [(0, .ref (ad 0)), (1, .int u), (2, .int v)] := hl
  obtain ⟨hx, hb, hml, hown, hts⟩ := id K
  refine lv_aload_n hx hb dX0_burden_0 rfl (lv_at hl 0 rfl) ?_
  refine lv_iload_n hx hb dX0_burden_1 rfl (lv_at hl 1 rfl) ?_
  refine k_X0_has K hS.1 ⟨Nat.le_of_ble_eq_true rfl, Nat.le_of_ble_eq_true rfl⟩ ⟨Nat.le_of_ble_eq_true rfl, Nat.le_of_ble_eq_true rfl⟩ hl.1 (Nat.le_of_ble_eq_true rfl) dX0_burden_2 ?_
  refine lv_if_eq (tgt := 21) hx hb dX0_burden_5 (by decide) (fun c5 => ?_) (fun c5 => ?_)
  · refine lv_ldc (v := (-100000)) hx hb hown (hts _ q131) dX0_burden_21 ?_
    exact rt_Wi K hr hlocks (rfl) hS (⟨⟨rfl, rfl, rfl⟩, Or.inl ⟨by unfold cd_nok; rw [cd_zb_eq c5]; rfl, rfl⟩⟩) dX0_burden_23
  · refine lv_aload_n hx hb dX0_burden_8 rfl (lv_at hl 0 rfl) ?_
    refine lv_iload_n hx hb dX0_burden_9 rfl (lv_at hl 2 rfl) ?_
    refine k_X0_has K hS.1 ⟨Nat.le_of_ble_eq_true rfl, Nat.le_of_ble_eq_true rfl⟩ ⟨Nat.le_of_ble_eq_true rfl, Nat.le_of_ble_eq_true rfl⟩ hl.1 (Nat.le_of_ble_eq_true rfl) dX0_burden_10 ?_
    refine lv_if_eq (tgt := 21) hx hb dX0_burden_13 (by decide) (fun c13 => ?_) (fun c13 => ?_)
    · refine lv_ldc (v := (-100000)) hx hb hown (hts _ q131) dX0_burden_21 ?_
      exact rt_Wi K hr hlocks (rfl) hS (⟨⟨rfl, rfl, rfl⟩, Or.inl ⟨by unfold cd_nok; rw [cd_zb_eq c13, Bool.false_and, Bool.and_false], rfl⟩⟩) dX0_burden_23
    · refine lv_iload_n hx hb dX0_burden_16 rfl (lv_at hl 1 rfl) ?_
      refine lv_iload_n hx hb dX0_burden_17 rfl (lv_at hl 2 rfl) ?_
      refine lv_icmp_ne (tgt := 24) hx hb dX0_burden_18 (by decide) (fun c18 => ?_) (fun c18 => ?_)
      · have hok : cd_nok (gP σ) u v = true := by unfold cd_nok; rw [cd_zb_ne c5, cd_zb_ne c13, decide_eq_true c18]; rfl
        obtain ⟨j, hj, rfl⟩ := cd_has_ix (cd_zb_ne c5)
        obtain ⟨i, hi, rfl⟩ := cd_has_ix (cd_zb_ne c13)
        refine lv_aload_n hx hb dX0_burden_24 rfl (lv_at hl 0 rfl) ?_
        refine dg_N K hS.1 dX0_burden_25 ?_
        refine lv_iload_n hx hb dX0_burden_28 rfl (lv_at hl 1 rfl) ?_
        refine dl_N K hS.1 j (by omega) rfl dX0_burden_29 ?_
        refine lv_iload_n hx hb dX0_burden_30 rfl (lv_at hl 2 rfl) ?_
        refine k_X0_in K ⟨Nat.le_of_ble_eq_true rfl, Nat.le_of_ble_eq_true rfl⟩ ⟨Nat.le_of_ble_eq_true rfl, Nat.le_of_ble_eq_true rfl⟩ hl.1 (Nat.le_of_ble_eq_true rfl) dX0_burden_31 ?_
        refine lv_if_ne (tgt := 39) hx hb dX0_burden_34 (by decide) (fun c34 => ?_) (fun c34 => ?_)
        · have hbit : bt (gN σ j) i = true := by rw [← cb_in (by omega)]; exact cd_zb_ne c34
          refine lv_aload_n hx hb dX0_burden_39 rfl (lv_at hl 0 rfl) ?_
          refine k_X0_best (σ := σ) K hg hS ⟨Nat.le_of_ble_eq_true rfl, Nat.le_of_ble_eq_true rfl⟩ ⟨Nat.le_of_ble_eq_true rfl, Nat.le_of_ble_eq_true rfl⟩ hl.1 (Nat.le_of_ble_eq_true rfl) dX0_burden_40 (fun v1 τ1 H locs hpost hS => ?_)
          obtain ⟨hsd1, r1, fs1, hf1⟩ := hpost
          have hS : wS D (dkT ca) A s.heap (dkW ad ca τ1) s H locs := hS
          refine lv_istore_n (lv' := [(3, .int v1), (0, .ref (ad 0)), (1, .int (nI j)), (2, .int (nI i))]) hx hb dX0_burden_43 rfl hl (by decide) rfl (fun ls hl => ?_)
          refine lv_aload_n hx hb dX0_burden_44 rfl (lv_at hl 1 rfl) ?_
          refine lv_iload_n hx hb dX0_burden_45 rfl (lv_at hl 2 rfl) ?_
          refine lv_iload_n hx hb dX0_burden_46 rfl (lv_at hl 3 rfl) ?_
          refine lv_iconst (v := 0) hx hb dX0_burden_47 (by decide) ?_
          refine k_X0_need (σ := τ1) K hS ⟨Nat.le_of_ble_eq_true rfl, Nat.le_of_ble_eq_true rfl⟩ ⟨Nat.le_of_ble_eq_true rfl, Nat.le_of_ble_eq_true rfl⟩ hl.1 (Nat.le_of_ble_eq_true rfl) dX0_burden_48 (fun z3 τ2 H locs hpost hS => ?_)
          have h2 := nee_ok hpost (by rw [hsd1.1]; exact hok)
          rw [nI_clamp (by omega), hsd1.2.2] at h2
          have h2 : τ2 = sN τ1 (upd (gN σ) j (gN σ j &&& (((1 : Int32) <<< (nI i &&& 31)) ^^^ (-1)))) := by rw [h2]; show sN τ1 (upd (gN σ) j (gN σ j &&& (((1 : Int32) <<< (nI i &&& 31)) ^^^ (-1))).toInt16.toInt32) = _; rw [off_i16 (gd_hi hg hj) hi]
          subst h2
          have hg2 : cd_gd (gP (sN τ1 (upd (gN σ) j (gN σ j &&& (((1 : Int32) <<< (nI i &&& 31)) ^^^ (-1)))))) (gW (sN τ1 (upd (gN σ) j (gN σ j &&& (((1 : Int32) <<< (nI i &&& 31)) ^^^ (-1)))))) (gN (sN τ1 (upd (gN σ) j (gN σ j &&& (((1 : Int32) <<< (nI i &&& 31)) ^^^ (-1)))))) := by
            show cd_gd (gP τ1) (gW τ1) (upd (gN σ) j (gN σ j &&& (((1 : Int32) <<< (nI i &&& 31)) ^^^ (-1))))
            rw [hsd1.1, hsd1.2.1]
            exact gd_off hg hi
          refine lv_pop hx hb dX0_burden_51 rfl ?_
          refine lv_aload_n hx hb dX0_burden_52 rfl (lv_at hl 1 rfl) ?_
          refine k_X0_best (σ := (sN τ1 (upd (gN σ) j (gN σ j &&& (((1 : Int32) <<< (nI i &&& 31)) ^^^ (-1)))))) K hg2 hS ⟨Nat.le_of_ble_eq_true rfl, Nat.le_of_ble_eq_true rfl⟩ ⟨Nat.le_of_ble_eq_true rfl, Nat.le_of_ble_eq_true rfl⟩ hl.1 (Nat.le_of_ble_eq_true rfl) dX0_burden_53 (fun v2 τ3 H locs hpost hS => ?_)
          obtain ⟨hsd3, r2, fs2, hf2⟩ := hpost
          have hS : wS D (dkT ca) A s.heap (dkW ad ca τ3) s H locs := hS
          have hf2 : cd_fin (gP σ) (upd (gN σ) j (gN σ j &&& (((1 : Int32) <<< (nI i &&& 31)) ^^^ (-1)))) (gW σ) r2 fs2 v2 := by
            have hf2 : cd_fin (gP τ1) (upd (gN σ) j (gN σ j &&& (((1 : Int32) <<< (nI i &&& 31)) ^^^ (-1)))) (gW τ1) r2 fs2 v2 := hf2
            rw [hsd1.1, hsd1.2.1] at hf2
            exact hf2
          have hP3 : gP τ3 = gP σ := hsd3.1.trans hsd1.1
          have hW3 : gW τ3 = gW σ := hsd3.2.1.trans hsd1.2.1
          have hN3 : gN τ3 = upd (gN σ) j (gN σ j &&& (((1 : Int32) <<< (nI i &&& 31)) ^^^ (-1))) := hsd3.2.2
          refine lv_istore (lv' := [(4, .int v2), (3, .int v1), (0, .ref (ad 0)), (1, .int (nI j)), (2, .int (nI i))]) hx hb dX0_burden_56 hl (by decide) rfl (fun ls hl => ?_)
          refine lv_aload_n hx hb dX0_burden_58 rfl (lv_at hl 2 rfl) ?_
          refine lv_iload_n hx hb dX0_burden_59 rfl (lv_at hl 3 rfl) ?_
          refine lv_iload_n hx hb dX0_burden_60 rfl (lv_at hl 4 rfl) ?_
          refine lv_iconst (v := 1) hx hb dX0_burden_61 (by decide) ?_
          refine k_X0_need (σ := τ3) K hS ⟨Nat.le_of_ble_eq_true rfl, Nat.le_of_ble_eq_true rfl⟩ ⟨Nat.le_of_ble_eq_true rfl, Nat.le_of_ble_eq_true rfl⟩ hl.1 (Nat.le_of_ble_eq_true rfl) dX0_burden_62 (fun z5 τ4 H locs hpost hS => ?_)
          have h4 := nee_ok hpost (by rw [hP3]; exact hok)
          rw [nI_clamp (by omega), hN3, pk_us, cd_upd2] at h4
          have h4 : τ4 = sN τ3 (gN σ) := by
            rw [h4]
            show sN τ3 (upd (gN σ) j ((gN σ j &&& (((1 : Int32) <<< (nI i &&& 31)) ^^^ (-1))) ||| ((1 : Int32) <<< (nI i &&& 31))).toInt16.toInt32) = _
            rw [off_on hi hbit, sm_i16 (gd_hi hg hj), cd_upd_self]
          subst h4
          refine lv_pop hx hb dX0_burden_65 rfl ?_
          refine lv_iload hx hb dX0_burden_66 (lv_at hl 0 rfl) ?_
          refine lv_iload_n hx hb dX0_burden_68 rfl (lv_at hl 1 rfl) ?_
          refine lv_isub hx hb dX0_burden_69 ?_
          exact rt_Wi K hr hlocks (rfl) hS (⟨⟨hP3, hW3, rfl⟩, Or.inr ⟨hok, j, i, hj, hi, rfl, rfl, Or.inr ⟨r1, fs1, v1, r2, fs2, v2, hf1, hf2, rfl⟩⟩⟩) dX0_burden_70
        · refine lv_iconst (v := 0) hx hb dX0_burden_37 (by decide) ?_
          exact rt_Wi K hr hlocks (rfl) hS (⟨⟨rfl, rfl, rfl⟩, Or.inr ⟨hok, j, i, hj, hi, rfl, rfl, Or.inl ⟨by rw [← cb_in (by omega)]; exact cd_zb_eq c34, rfl⟩⟩⟩) dX0_burden_38
      · refine lv_ldc (v := (-100000)) hx hb hown (hts _ q131) dX0_burden_21 ?_
        exact rt_Wi K hr hlocks (rfl) hS (⟨⟨rfl, rfl, rfl⟩, Or.inl ⟨by unfold cd_nok; rw [decide_eq_false (fun q => q c18), Bool.and_false, Bool.and_false], rfl⟩⟩) dX0_burden_23
set_option maxHeartbeats 4000000 in
set_option maxRecDepth 100000 in
theorem m_X0_choices (l : Launch) (D : va_G) (ad : Nat → Nat) (ca : Nat → ClassId) (σ : cd_D) (Pn : Nat) (hPn : Pn < 512) (hP9 : gP σ = nI Pn) (hg : cd_gd (gP σ) (gW σ) (gN σ)) : cWi l D (dkT ca) (dkW ad ca) σ yX0_choices cX0_choices 4 (some .int) (cd_rm 3) [.ref (ad 0)] (fun z τ => cd_choP σ Pn z τ) := by
  refine en_Wi (own := RX0) (by decide) rfl (Nat.le_of_ble_eq_true rfl) ?_
  intro p e s m below meth c ls A K hr hlocks hS hl
  have hl : lv_has ls 4 [(0, .ref (ad 0))] := hl
  obtain ⟨hx, hb, hml, hown, hts⟩ := id K
  refine lv_aload_n hx hb dX0_choices_0 rfl (lv_at hl 0 rfl) ?_
  refine k_X0_askPlainly (σ := σ) K  hS ⟨Nat.le_of_ble_eq_true rfl, Nat.le_of_ble_eq_true rfl⟩ ⟨Nat.le_of_ble_eq_true rfl, Nat.le_of_ble_eq_true rfl⟩ hl.1 (Nat.le_of_ble_eq_true rfl) dX0_choices_1 (fun τ H locs hpost hS => ?_)
  obtain rfl := hpost
  have hS : wS D (dkT ca) A s.heap (dkW ad ca (sK σ (cd_it (cd_ask (gW σ)) 9 (gK σ)))) s H locs := hS
  have hok : cd_aok (gP σ) (gN σ) (cd_it (cd_ask (gW σ)) 9 (gK σ)) := aok_congr (fun u hu => (ask_eq _ _ u hu).symm) (aok_plain hg)
  refine lv_aload_n hx hb dX0_choices_4 rfl (lv_at hl 0 rfl) ?_
  refine k_X0_solve (σ := (sK σ (cd_it (cd_ask (gW σ)) 9 (gK σ)))) K hok hS ⟨Nat.le_of_ble_eq_true rfl, Nat.le_of_ble_eq_true rfl⟩ ⟨Nat.le_of_ble_eq_true rfl, Nat.le_of_ble_eq_true rfl⟩ hl.1 (Nat.le_of_ble_eq_true rfl) dX0_choices_5 (fun z τ H locs hpost hS => ?_)
  obtain ⟨r, fs, f, g, rfl, hf⟩ := hpost
  have hS : wS D (dkT ca) A s.heap (dkW ad ca (sL (sF (sS (sR (sK σ (cd_it (cd_ask (gW σ)) 9 (gK σ))) r) fs) f) g)) s H locs := hS
  have hf : cd_fin (gP σ) (gN σ) (gW σ) r fs z := fin_congr (ask_eq (gW σ) (gK σ)) hf
  refine lv_pop hx hb dX0_choices_8 rfl ?_
  refine lv_aload_n hx hb dX0_choices_9 rfl (lv_at hl 0 rfl) ?_
  refine k_X0_apart K hS.1 ⟨Nat.le_of_ble_eq_true rfl, Nat.le_of_ble_eq_true rfl⟩ ⟨Nat.le_of_ble_eq_true rfl, Nat.le_of_ble_eq_true rfl⟩ hl.1 (Nat.le_of_ble_eq_true rfl) dX0_choices_10 ?_
  refine lv_aload_n hx hb dX0_choices_13 rfl (lv_at hl 0 rfl) ?_
  refine dg_S K hS.1 dX0_choices_14 ?_
  refine lv_iconst (v := (-1)) hx hb dX0_choices_17 (by decide) ?_
  refine lv_ixor hx hb dX0_choices_18 ?_
  refine lv_iand hx hb dX0_choices_19 ?_
  obtain ⟨O, hO⟩ : ∃ O, O = cd_apart (gP σ) r &&& (fs ^^^ (-1)) := ⟨_, rfl⟩
  refine tp_eq (O) (hO.symm) ?_
  refine lv_istore_n (lv' := [(1, .int O), (0, .ref (ad 0))]) hx hb dX0_choices_20 rfl hl (by decide) rfl (fun ls hl => ?_)
  refine lv_iconst (v := 0) hx hb dX0_choices_21 (by decide) ?_
  refine lv_istore_n (lv' := [(2, .int 0), (1, .int O), (0, .ref (ad 0))]) hx hb dX0_choices_22 rfl hl (by decide) rfl (fun ls hl => ?_)
  refine lv_iconst (v := 0) hx hb dX0_choices_23 (by decide) ?_
  refine lv_istore_n (lv' := [(3, .int 0), (2, .int 0), (1, .int O), (0, .ref (ad 0))]) hx hb dX0_choices_24 rfl hl (by decide) rfl (fun ls hl => ?_)
  refine w_all (fun H1 locs1 ls1 eH eL el => ?_)
  obtain ⟨n, i, x, hi, hn, hx2, hS, hl⟩ : ∃ (n i : Nat) (x : Int32), i ≤ (Pn + 1) ∧ (Pn + 1) < i + n ∧ (x = cd_it (cd_ch1 r O) i 0) ∧ wS D (dkT ca) A s.heap (dkW ad ca (sL (sF (sS (sR (sK σ (cd_it (cd_ask (gW σ)) 9 (gK σ))) r) fs) f) g)) s H1 locs1 ∧ lv_has ls1 4 [(3, .int (nI i)), (2, .int x), (1, .int O), (0, .ref (ad 0))] := ⟨((Pn + 1) + 1), 0, 0, by omega, by omega, rfl, by rw [eH, eL]; exact hS, by rw [el]; exact hl⟩
  clear eH eL el
  induction n generalizing H1 locs1 ls1 i x with
  | zero => exact absurd hn (by omega)
  | succ n ih =>
    refine lv_iload_n hx hb dX0_choices_25 rfl (lv_at hl 0 rfl) ?_
    refine lv_aload_n hx hb dX0_choices_26 rfl (lv_at hl 3 rfl) ?_
    refine dg_P K hS.1 dX0_choices_27 ?_
    refine lv_icmp_gt (tgt := 64) hx hb dX0_choices_30 (by decide) (fun c30 => ?_) (fun c30 => ?_)
    · have hie : i = Pn + 1 := by
        have c30 : gP σ < nI i := c30
        rw [hP9] at c30
        have := (nI_ltI (by omega) (by omega)).mp c30
        omega
      subst hie
      refine lv_iload_n hx hb dX0_choices_64 rfl (lv_at hl 1 rfl) ?_
      exact rt_Wi K hr hlocks (rfl) hS (⟨⟨rfl, rfl, rfl⟩, r, fs, z, hf, by rw [hx2, hO]⟩) dX0_choices_65
    · have hlt : i < Pn + 1 := by
        rcases Nat.lt_or_ge i (Pn + 1) with h | h
        · exact h
        · refine absurd ?_ c30
          show gP σ < nI i
          rw [hP9]
          exact nI_lt (by omega) (by omega)
      refine lv_iload_n hx hb dX0_choices_33 rfl (lv_at hl 1 rfl) ?_
      refine lv_iload_n hx hb dX0_choices_34 rfl (lv_at hl 0 rfl) ?_
      refine lv_iload_n hx hb dX0_choices_35 rfl (lv_at hl 2 rfl) ?_
      refine lv_iconst (v := (-1)) hx hb dX0_choices_36 (by decide) ?_
      refine lv_ixor hx hb dX0_choices_37 ?_
      refine lv_iand hx hb dX0_choices_38 ?_
      refine lv_if_ne (tgt := 55) hx hb dX0_choices_39 (by decide) (fun c39 => ?_) (fun c39 => ?_)
      · refine lv_iconst (v := 0) hx hb dX0_choices_55 (by decide) ?_
        refine lv_iadd hx hb dX0_choices_56 ?_
        refine lv_istore_n (lv' := [(2, .int (x + 0)), (3, .int (nI i)), (1, .int O), (0, .ref (ad 0))]) hx hb dX0_choices_57 rfl hl (by decide) rfl (fun ls hl => ?_)
        refine lv_iinc (v := nI (i + 1)) (lv' := [(3, .int (nI (i + 1))), (2, .int (x + 0)), (1, .int O), (0, .ref (ad 0))]) hx hb dX0_choices_58 hl (k := 1) rfl (cd_inc i) (by decide) rfl (fun ls hl => ?_)
        refine lv_goto (tgt := 25) hx hb dX0_choices_61 (by decide) ?_
        exact ih _ _ _ (i + 1) _ (by omega) (by omega) (by rw [cd_it_s, ← hx2]; unfold cd_ch1 cd_chq; rw [decide_eq_false c39]; rfl) hS (lv_sub hl [0, 1, 2, 3] rfl)
      · refine lv_aload_n hx hb dX0_choices_42 rfl (lv_at hl 3 rfl) ?_
        refine lv_iload_n hx hb dX0_choices_43 rfl (lv_at hl 0 rfl) ?_
        refine lv_iload_n hx hb dX0_choices_44 rfl (lv_at hl 2 rfl) ?_
        refine k_X0_stays K hS.1 ⟨Nat.le_of_ble_eq_true rfl, Nat.le_of_ble_eq_true rfl⟩ ⟨Nat.le_of_ble_eq_true rfl, Nat.le_of_ble_eq_true rfl⟩ hl.1 (Nat.le_of_ble_eq_true rfl) dX0_choices_45 ?_
        refine lv_if_eq (tgt := 55) hx hb dX0_choices_48 (by decide) (fun c48 => ?_) (fun c48 => ?_)
        · have c48 : cd_stays r (nI i) O = false := cd_zb_eq c48
          refine lv_iconst (v := 0) hx hb dX0_choices_55 (by decide) ?_
          refine lv_iadd hx hb dX0_choices_56 ?_
          refine lv_istore_n (lv' := [(2, .int (x + 0)), (3, .int (nI i)), (1, .int O), (0, .ref (ad 0))]) hx hb dX0_choices_57 rfl hl (by decide) rfl (fun ls hl => ?_)
          refine lv_iinc (v := nI (i + 1)) (lv' := [(3, .int (nI (i + 1))), (2, .int (x + 0)), (1, .int O), (0, .ref (ad 0))]) hx hb dX0_choices_58 hl (k := 1) rfl (cd_inc i) (by decide) rfl (fun ls hl => ?_)
          refine lv_goto (tgt := 25) hx hb dX0_choices_61 (by decide) ?_
          exact ih _ _ _ (i + 1) _ (by omega) (by omega) (by rw [cd_it_s, ← hx2]; unfold cd_ch1 cd_chq; rw [decide_eq_true c39, c48]; rfl) hS (lv_sub hl [0, 1, 2, 3] rfl)
        · have c48 : cd_stays r (nI i) O = true := cd_zb_ne c48
          refine lv_iconst (v := 1) hx hb dX0_choices_51 (by decide) ?_
          refine lv_goto (tgt := 56) hx hb dX0_choices_52 (by decide) ?_
          refine lv_iadd hx hb dX0_choices_56 ?_
          refine lv_istore_n (lv' := [(2, .int (x + 1)), (3, .int (nI i)), (1, .int O), (0, .ref (ad 0))]) hx hb dX0_choices_57 rfl hl (by decide) rfl (fun ls hl => ?_)
          refine lv_iinc (v := nI (i + 1)) (lv' := [(3, .int (nI (i + 1))), (2, .int (x + 1)), (1, .int O), (0, .ref (ad 0))]) hx hb dX0_choices_58 hl (k := 1) rfl (cd_inc i) (by decide) rfl (fun ls hl => ?_)
          refine lv_goto (tgt := 25) hx hb dX0_choices_61 (by decide) ?_
          exact ih _ _ _ (i + 1) _ (by omega) (by omega) (by rw [cd_it_s, ← hx2]; unfold cd_ch1 cd_chq; rw [decide_eq_true c39, c48]; rfl) hS (lv_sub hl [0, 1, 2, 3] rfl)
end
section
/-! the constructors -/
def cd_s0 : cd_D := (0, 0, fun _ => 0, fun _ => 0, fun _ => 0, fun _ => 0, fun _ => 0, fun _ => 0)
def cd_m0 : cd_M := (fun _ => 0, fun _ => 0, fun _ => 0)
set_option maxHeartbeats 4000000 in
set_option maxRecDepth 100000 in
theorem m_X0_init (l : Launch) (D : va_G) (h0 sz : Nat) : Met l yX0_init (ws_ yX0_init cX0_init 1 none) ({ frames := 1, cells := 6, slots := 171, locals := 25 } : Room) (va_Pc [.ref h0] (fun U => U.heap.size = sz ∧ va_P D vwCl [(h0, .inr (0, [.int 0, .null, .null, .null, .null, .int 0, .null, .null]))] U.heap ∧ va_K D vwCl [] U ∧ va_D (fun _ => True) [(h0, .inr (0, [.int 0, .null, .null, .null, .null, .int 0, .null, .null]))])) (va_Qv (fun _ : Unit => True) (fun _ t => ∃ (ad : Nat → Nat) (ca : Nat → ClassId), ad 0 = h0 ∧ wP D (dkT ca) (dkW ad ca cd_s0) t t.heap ∧ va_D (va_A [(h0, .inr (0, [.int 0, .null, .null, .null, .null, .int 0, .null, .null]))] sz) (dkW ad ca cd_s0)) (va_A [(h0, .inr (0, [.int 0, .null, .null, .null, .null, .int 0, .null, .null]))] sz)) 6 171 (va_A [(h0, .inr (0, [.int 0, .null, .null, .null, .null, .int 0, .null, .null]))] sz) := by
  refine Met.ofW (cc := cX0_init) (maxL := 1) (ret := none) (by decide) rfl ?_
  intro p e s m args below meth c s₁ B hml hv
  obtain ⟨rfl, hsz, hP, hK, hD0⟩ := hv
  have hx := B.exec
  have hb := B.bytes
  have hr := B.returns
  have hts := atoms_spec (ws := ws_ yX0_init cX0_init 1 none) B.pre
  have hts : ∀ w ∈ lw_all, w.before _ s = true := fun w h => hts w (List.mem_cons_of_mem _ h)
  have hown : s.vm.findClass RX0 = some m.cls := findClass_of_methodNamed B.named
  have hlocks := B.notSynchronized
  have hin : meth.name = "<init>" := (name_of_methodNamed B.named B.method).1
  subst hsz
  have hD := hD0.self (sz := s.heap.size)
  generalize hAe : va_A [(h0, .inr (0, [.int 0, .null, .null, .null, .null, .int 0, .null, .null]))] s.heap.size = A at hD ⊢
  have hA : ∀ q : Nat, s.heap.size ≤ q → A q := fun q h => by rw [← hAe]; exact Or.inr h
  have hS : va_S A s.heap s.heap [] := va_S.rf
  have hl := lv_entry ([.ref h0]) (n := 1) (Nat.le_of_ble_eq_true rfl)
  rw [lg_entry_eq]
  generalize (lg_sl ([.ref h0]) ++ List.replicate (1 - (lg_sl ([.ref h0])).length) Slot.unset).toArray = ls at hl ⊢
  have hl : lv_has ls 1 [(0, .ref h0)] := hl
  refine lv_aload_n hx hb dX0_init_0 rfl (lv_at hl 0 rfl) ?_
  refine W.objInit hx hb hown (hts _ q21) (hts _ q22) (hts _ q23) rfl (by rw [hml]; exact hl.1) rfl dX0_init_1 (Nat.le_of_ble_eq_true rfl) (Nat.le_of_ble_eq_true rfl) ?_
  refine W.eq (g2 := F0 m 4 ls []) rfl ?_
  refine lv_aload_n hx hb dX0_init_4 rfl (lv_at hl 0 rfl) ?_
  refine lv_bipush (v := 9) hx hb dX0_init_5 (by decide) ?_
  refine va_newa (atype := .byte) (ty := .byte) (N' := 9) (a0 := (9, .inl (fun _ => 0))) hx hb (hts _ q49) rfl hK hP hD hS hA (fun _ => rfl) (by decide) (by decide) (Nat.le_of_ble_eq_true rfl) (Nat.le_of_ble_eq_true rfl) (Nat.le_of_ble_eq_true rfl) dX0_init_7 (fun q1_ c1_ H hK hP hD hS => ?_)
  have hP : va_P D vwCl [(h0, .inr (0, [.int 0, .null, .null, .null, .null, .int 0, .null, .null])), (q1_, .inl (c1_, 9, .inl (fun _ => 0)))] H := hP
  have hD : va_D A [(h0, .inr (0, [.int 0, .null, .null, .null, .null, .int 0, .null, .null])), (q1_, .inl (c1_, 9, .inl (fun _ => 0)))] := hD
  have hK : va_K D vwCl [(c1_, .byte)] s := hK
  refine W.widen (k := 1) (n := 9) (Nat.le_of_ble_eq_true rfl) (Nat.le_of_ble_eq_true rfl) ?_
  refine va_putF (D := D) (ci := 0) (v := .ref q1_) (ty := .array .byte) (C := RX0) (T := TX0) (N := 8) hx hb hts in_X0 tyX0 tyX0_ok nmX0 hown hK hP hD hS 0 rfl rfl 1 (by decide) (hts _ q25) (fun _ h9 => h9) rfl hin rfl (by decide +kernel) rfl rfl (Nat.le_of_ble_eq_true rfl) dX0_init_9 (fun H locs hP hD hS => ?_)
  have hP : va_P D vwCl [(h0, .inr (0, [.int 0, .ref q1_, .null, .null, .null, .int 0, .null, .null])), (q1_, .inl (c1_, 9, .inl (fun _ => 0)))] H := hP
  have hD : va_D A [(h0, .inr (0, [.int 0, .ref q1_, .null, .null, .null, .int 0, .null, .null])), (q1_, .inl (c1_, 9, .inl (fun _ => 0)))] := hD
  refine lv_aload_n hx hb dX0_init_12 rfl (lv_at hl 0 rfl) ?_
  refine lv_bipush (v := 9) hx hb dX0_init_13 (by decide) ?_
  refine va_newa (atype := .short) (ty := .short) (N' := 9) (a0 := (9, .inl (fun _ => 0))) hx hb (hts _ q50) rfl hK hP hD hS hA (fun _ => rfl) (by decide) (by decide) (Nat.le_of_ble_eq_true rfl) (Nat.le_of_ble_eq_true rfl) (Nat.le_of_ble_eq_true rfl) dX0_init_15 (fun q2_ c2_ H hK hP hD hS => ?_)
  have hP : va_P D vwCl [(h0, .inr (0, [.int 0, .ref q1_, .null, .null, .null, .int 0, .null, .null])), (q1_, .inl (c1_, 9, .inl (fun _ => 0))), (q2_, .inl (c2_, 9, .inl (fun _ => 0)))] H := hP
  have hD : va_D A [(h0, .inr (0, [.int 0, .ref q1_, .null, .null, .null, .int 0, .null, .null])), (q1_, .inl (c1_, 9, .inl (fun _ => 0))), (q2_, .inl (c2_, 9, .inl (fun _ => 0)))] := hD
  have hK : va_K D vwCl [(c1_, .byte), (c2_, .short)] s := hK
  refine W.widen (k := 2) (n := 18) (Nat.le_of_ble_eq_true rfl) (Nat.le_of_ble_eq_true rfl) ?_
  refine va_putF (D := D) (ci := 0) (v := .ref q2_) (ty := .array .short) (C := RX0) (T := TX0) (N := 8) hx hb hts in_X0 tyX0 tyX0_ok nmX0 hown hK hP hD hS 0 rfl rfl 2 (by decide) (hts _ q26) (fun _ h9 => h9) rfl hin rfl (by decide +kernel) rfl rfl (Nat.le_of_ble_eq_true rfl) dX0_init_17 (fun H locs hP hD hS => ?_)
  have hP : va_P D vwCl [(h0, .inr (0, [.int 0, .ref q1_, .ref q2_, .null, .null, .int 0, .null, .null])), (q1_, .inl (c1_, 9, .inl (fun _ => 0))), (q2_, .inl (c2_, 9, .inl (fun _ => 0)))] H := hP
  have hD : va_D A [(h0, .inr (0, [.int 0, .ref q1_, .ref q2_, .null, .null, .int 0, .null, .null])), (q1_, .inl (c1_, 9, .inl (fun _ => 0))), (q2_, .inl (c2_, 9, .inl (fun _ => 0)))] := hD
  refine lv_aload_n hx hb dX0_init_20 rfl (lv_at hl 0 rfl) ?_
  refine lv_bipush (v := 9) hx hb dX0_init_21 (by decide) ?_
  refine va_newa (atype := .int) (ty := .int) (N' := 9) (a0 := (9, .inl (fun _ => 0))) hx hb (hts _ q51) rfl hK hP hD hS hA (fun _ => rfl) (by decide) (by decide) (Nat.le_of_ble_eq_true rfl) (Nat.le_of_ble_eq_true rfl) (Nat.le_of_ble_eq_true rfl) dX0_init_23 (fun q3_ c3_ H hK hP hD hS => ?_)
  have hP : va_P D vwCl [(h0, .inr (0, [.int 0, .ref q1_, .ref q2_, .null, .null, .int 0, .null, .null])), (q1_, .inl (c1_, 9, .inl (fun _ => 0))), (q2_, .inl (c2_, 9, .inl (fun _ => 0))), (q3_, .inl (c3_, 9, .inl (fun _ => 0)))] H := hP
  have hD : va_D A [(h0, .inr (0, [.int 0, .ref q1_, .ref q2_, .null, .null, .int 0, .null, .null])), (q1_, .inl (c1_, 9, .inl (fun _ => 0))), (q2_, .inl (c2_, 9, .inl (fun _ => 0))), (q3_, .inl (c3_, 9, .inl (fun _ => 0)))] := hD
  have hK : va_K D vwCl [(c1_, .byte), (c2_, .short), (c3_, .int)] s := hK
  refine W.widen (k := 3) (n := 27) (Nat.le_of_ble_eq_true rfl) (Nat.le_of_ble_eq_true rfl) ?_
  refine va_putF (D := D) (ci := 0) (v := .ref q3_) (ty := .array .int) (C := RX0) (T := TX0) (N := 8) hx hb hts in_X0 tyX0 tyX0_ok nmX0 hown hK hP hD hS 0 rfl rfl 3 (by decide) (hts _ q27) (fun _ h9 => h9) rfl hin rfl (by decide +kernel) rfl rfl (Nat.le_of_ble_eq_true rfl) dX0_init_25 (fun H locs hP hD hS => ?_)
  have hP : va_P D vwCl [(h0, .inr (0, [.int 0, .ref q1_, .ref q2_, .ref q3_, .null, .int 0, .null, .null])), (q1_, .inl (c1_, 9, .inl (fun _ => 0))), (q2_, .inl (c2_, 9, .inl (fun _ => 0))), (q3_, .inl (c3_, 9, .inl (fun _ => 0)))] H := hP
  have hD : va_D A [(h0, .inr (0, [.int 0, .ref q1_, .ref q2_, .ref q3_, .null, .int 0, .null, .null])), (q1_, .inl (c1_, 9, .inl (fun _ => 0))), (q2_, .inl (c2_, 9, .inl (fun _ => 0))), (q3_, .inl (c3_, 9, .inl (fun _ => 0)))] := hD
  refine lv_aload_n hx hb dX0_init_28 rfl (lv_at hl 0 rfl) ?_
  refine lv_bipush (v := 121) hx hb dX0_init_29 (by decide) ?_
  refine va_newa (atype := .int) (ty := .int) (N' := 121) (a0 := (121, .inl (fun _ => 0))) hx hb (hts _ q51) rfl hK hP hD hS hA (fun _ => rfl) (by decide) (by decide) (Nat.le_of_ble_eq_true rfl) (Nat.le_of_ble_eq_true rfl) (Nat.le_of_ble_eq_true rfl) dX0_init_31 (fun q4_ c4_ H hK hP hD hS => ?_)
  have hP : va_P D vwCl [(h0, .inr (0, [.int 0, .ref q1_, .ref q2_, .ref q3_, .null, .int 0, .null, .null])), (q1_, .inl (c1_, 9, .inl (fun _ => 0))), (q2_, .inl (c2_, 9, .inl (fun _ => 0))), (q3_, .inl (c3_, 9, .inl (fun _ => 0))), (q4_, .inl (c4_, 121, .inl (fun _ => 0)))] H := hP
  have hD : va_D A [(h0, .inr (0, [.int 0, .ref q1_, .ref q2_, .ref q3_, .null, .int 0, .null, .null])), (q1_, .inl (c1_, 9, .inl (fun _ => 0))), (q2_, .inl (c2_, 9, .inl (fun _ => 0))), (q3_, .inl (c3_, 9, .inl (fun _ => 0))), (q4_, .inl (c4_, 121, .inl (fun _ => 0)))] := hD
  have hK : va_K D vwCl [(c1_, .byte), (c2_, .short), (c3_, .int), (c4_, .int)] s := hK
  refine W.widen (k := 4) (n := 148) (Nat.le_of_ble_eq_true rfl) (Nat.le_of_ble_eq_true rfl) ?_
  refine va_putF (D := D) (ci := 0) (v := .ref q4_) (ty := .array .int) (C := RX0) (T := TX0) (N := 8) hx hb hts in_X0 tyX0 tyX0_ok nmX0 hown hK hP hD hS 0 rfl rfl 4 (by decide) (hts _ q28) (fun _ h9 => h9) rfl hin rfl (by decide +kernel) rfl rfl (Nat.le_of_ble_eq_true rfl) dX0_init_33 (fun H locs hP hD hS => ?_)
  have hP : va_P D vwCl [(h0, .inr (0, [.int 0, .ref q1_, .ref q2_, .ref q3_, .ref q4_, .int 0, .null, .null])), (q1_, .inl (c1_, 9, .inl (fun _ => 0))), (q2_, .inl (c2_, 9, .inl (fun _ => 0))), (q3_, .inl (c3_, 9, .inl (fun _ => 0))), (q4_, .inl (c4_, 121, .inl (fun _ => 0)))] H := hP
  have hD : va_D A [(h0, .inr (0, [.int 0, .ref q1_, .ref q2_, .ref q3_, .ref q4_, .int 0, .null, .null])), (q1_, .inl (c1_, 9, .inl (fun _ => 0))), (q2_, .inl (c2_, 9, .inl (fun _ => 0))), (q3_, .inl (c3_, 9, .inl (fun _ => 0))), (q4_, .inl (c4_, 121, .inl (fun _ => 0)))] := hD
  refine lv_aload_n hx hb dX0_init_36 rfl (lv_at hl 0 rfl) ?_
  refine lv_bipush (v := 11) hx hb dX0_init_37 (by decide) ?_
  refine va_newa (atype := .byte) (ty := .byte) (N' := 11) (a0 := (11, .inl (fun _ => 0))) hx hb (hts _ q49) rfl hK hP hD hS hA (fun _ => rfl) (by decide) (by decide) (Nat.le_of_ble_eq_true rfl) (Nat.le_of_ble_eq_true rfl) (Nat.le_of_ble_eq_true rfl) dX0_init_39 (fun q5_ c5_ H hK hP hD hS => ?_)
  have hP : va_P D vwCl [(h0, .inr (0, [.int 0, .ref q1_, .ref q2_, .ref q3_, .ref q4_, .int 0, .null, .null])), (q1_, .inl (c1_, 9, .inl (fun _ => 0))), (q2_, .inl (c2_, 9, .inl (fun _ => 0))), (q3_, .inl (c3_, 9, .inl (fun _ => 0))), (q4_, .inl (c4_, 121, .inl (fun _ => 0))), (q5_, .inl (c5_, 11, .inl (fun _ => 0)))] H := hP
  have hD : va_D A [(h0, .inr (0, [.int 0, .ref q1_, .ref q2_, .ref q3_, .ref q4_, .int 0, .null, .null])), (q1_, .inl (c1_, 9, .inl (fun _ => 0))), (q2_, .inl (c2_, 9, .inl (fun _ => 0))), (q3_, .inl (c3_, 9, .inl (fun _ => 0))), (q4_, .inl (c4_, 121, .inl (fun _ => 0))), (q5_, .inl (c5_, 11, .inl (fun _ => 0)))] := hD
  have hK : va_K D vwCl [(c1_, .byte), (c2_, .short), (c3_, .int), (c4_, .int), (c5_, .byte)] s := hK
  refine W.widen (k := 5) (n := 159) (Nat.le_of_ble_eq_true rfl) (Nat.le_of_ble_eq_true rfl) ?_
  refine va_putF (D := D) (ci := 0) (v := .ref q5_) (ty := .array .byte) (C := RX0) (T := TX0) (N := 8) hx hb hts in_X0 tyX0 tyX0_ok nmX0 hown hK hP hD hS 0 rfl rfl 6 (by decide) (hts _ q30) (fun _ h9 => h9) rfl hin rfl (by decide +kernel) rfl rfl (Nat.le_of_ble_eq_true rfl) dX0_init_41 (fun H locs hP hD hS => ?_)
  have hP : va_P D vwCl [(h0, .inr (0, [.int 0, .ref q1_, .ref q2_, .ref q3_, .ref q4_, .int 0, .ref q5_, .null])), (q1_, .inl (c1_, 9, .inl (fun _ => 0))), (q2_, .inl (c2_, 9, .inl (fun _ => 0))), (q3_, .inl (c3_, 9, .inl (fun _ => 0))), (q4_, .inl (c4_, 121, .inl (fun _ => 0))), (q5_, .inl (c5_, 11, .inl (fun _ => 0)))] H := hP
  have hD : va_D A [(h0, .inr (0, [.int 0, .ref q1_, .ref q2_, .ref q3_, .ref q4_, .int 0, .ref q5_, .null])), (q1_, .inl (c1_, 9, .inl (fun _ => 0))), (q2_, .inl (c2_, 9, .inl (fun _ => 0))), (q3_, .inl (c3_, 9, .inl (fun _ => 0))), (q4_, .inl (c4_, 121, .inl (fun _ => 0))), (q5_, .inl (c5_, 11, .inl (fun _ => 0)))] := hD
  refine lv_aload_n hx hb dX0_init_44 rfl (lv_at hl 0 rfl) ?_
  refine lv_bipush (v := 12) hx hb dX0_init_45 (by decide) ?_
  refine va_newa (atype := .byte) (ty := .byte) (N' := 12) (a0 := (12, .inl (fun _ => 0))) hx hb (hts _ q49) rfl hK hP hD hS hA (fun _ => rfl) (by decide) (by decide) (Nat.le_of_ble_eq_true rfl) (Nat.le_of_ble_eq_true rfl) (Nat.le_of_ble_eq_true rfl) dX0_init_47 (fun q6_ c6_ H hK hP hD hS => ?_)
  have hP : va_P D vwCl [(h0, .inr (0, [.int 0, .ref q1_, .ref q2_, .ref q3_, .ref q4_, .int 0, .ref q5_, .null])), (q1_, .inl (c1_, 9, .inl (fun _ => 0))), (q2_, .inl (c2_, 9, .inl (fun _ => 0))), (q3_, .inl (c3_, 9, .inl (fun _ => 0))), (q4_, .inl (c4_, 121, .inl (fun _ => 0))), (q5_, .inl (c5_, 11, .inl (fun _ => 0))), (q6_, .inl (c6_, 12, .inl (fun _ => 0)))] H := hP
  have hD : va_D A [(h0, .inr (0, [.int 0, .ref q1_, .ref q2_, .ref q3_, .ref q4_, .int 0, .ref q5_, .null])), (q1_, .inl (c1_, 9, .inl (fun _ => 0))), (q2_, .inl (c2_, 9, .inl (fun _ => 0))), (q3_, .inl (c3_, 9, .inl (fun _ => 0))), (q4_, .inl (c4_, 121, .inl (fun _ => 0))), (q5_, .inl (c5_, 11, .inl (fun _ => 0))), (q6_, .inl (c6_, 12, .inl (fun _ => 0)))] := hD
  have hK : va_K D vwCl [(c1_, .byte), (c2_, .short), (c3_, .int), (c4_, .int), (c5_, .byte), (c6_, .byte)] s := hK
  refine W.widen (k := 6) (n := 171) (Nat.le_of_ble_eq_true rfl) (Nat.le_of_ble_eq_true rfl) ?_
  refine va_putF (D := D) (ci := 0) (v := .ref q6_) (ty := .array .byte) (C := RX0) (T := TX0) (N := 8) hx hb hts in_X0 tyX0 tyX0_ok nmX0 hown hK hP hD hS 0 rfl rfl 7 (by decide) (hts _ q31) (fun _ h9 => h9) rfl hin rfl (by decide +kernel) rfl rfl (Nat.le_of_ble_eq_true rfl) dX0_init_49 (fun H locs hP hD hS => ?_)
  have hP : va_P D vwCl [(h0, .inr (0, [.int 0, .ref q1_, .ref q2_, .ref q3_, .ref q4_, .int 0, .ref q5_, .ref q6_])), (q1_, .inl (c1_, 9, .inl (fun _ => 0))), (q2_, .inl (c2_, 9, .inl (fun _ => 0))), (q3_, .inl (c3_, 9, .inl (fun _ => 0))), (q4_, .inl (c4_, 121, .inl (fun _ => 0))), (q5_, .inl (c5_, 11, .inl (fun _ => 0))), (q6_, .inl (c6_, 12, .inl (fun _ => 0)))] H := hP
  have hD : va_D A [(h0, .inr (0, [.int 0, .ref q1_, .ref q2_, .ref q3_, .ref q4_, .int 0, .ref q5_, .ref q6_])), (q1_, .inl (c1_, 9, .inl (fun _ => 0))), (q2_, .inl (c2_, 9, .inl (fun _ => 0))), (q3_, .inl (c3_, 9, .inl (fun _ => 0))), (q4_, .inl (c4_, 121, .inl (fun _ => 0))), (q5_, .inl (c5_, 11, .inl (fun _ => 0))), (q6_, .inl (c6_, 12, .inl (fun _ => 0)))] := hD
  exact W.vret hx hb hr (fun t ht hW => ⟨⟨(), rfl, trivial, (fun k => match k with | 0 => h0 | 1 => q1_ | 2 => q2_ | 3 => q3_ | 4 => q4_ | 5 => q5_ | _ => q6_), (fun k => match k with | 0 => c1_ | 1 => c1_ | 2 => c2_ | 3 => c3_ | 4 => c4_ | 5 => c5_ | _ => c6_), rfl, ⟨va_K.moved hW.alike hK, by rw [ht]; exact hP⟩, hD⟩, hS.F ht⟩) hS.2.2 dX0_init_52
set_option maxHeartbeats 4000000 in
set_option maxRecDepth 100000 in
theorem m_X1_init (l : Launch) (D : va_G) (h0 sz : Nat) : Met l yX1_init (ws_ yX1_init cX1_init 1 none) ({ frames := 1, cells := 3, slots := 27, locals := 25 } : Room) (va_Pc [.ref h0] (fun U => U.heap.size = sz ∧ va_P D vwCl [(h0, .inr (1, [.null, .null, .null]))] U.heap ∧ va_K D vwCl [] U ∧ va_D (fun _ => True) [(h0, .inr (1, [.null, .null, .null]))])) (va_Qv (fun _ : Unit => True) (fun _ t => ∃ (ad : Nat → Nat) (ca : Nat → ClassId), ad 0 = h0 ∧ wP D (mdT ca) (mdW ad ca cd_m0) t t.heap ∧ va_D (va_A [(h0, .inr (1, [.null, .null, .null]))] sz) (mdW ad ca cd_m0)) (va_A [(h0, .inr (1, [.null, .null, .null]))] sz)) 3 27 (va_A [(h0, .inr (1, [.null, .null, .null]))] sz) := by
  refine Met.ofW (cc := cX1_init) (maxL := 1) (ret := none) (by decide) rfl ?_
  intro p e s m args below meth c s₁ B hml hv
  obtain ⟨rfl, hsz, hP, hK, hD0⟩ := hv
  have hx := B.exec
  have hb := B.bytes
  have hr := B.returns
  have hts := atoms_spec (ws := ws_ yX1_init cX1_init 1 none) B.pre
  have hts : ∀ w ∈ lw_all, w.before _ s = true := fun w h => hts w (List.mem_cons_of_mem _ h)
  have hown : s.vm.findClass RX1 = some m.cls := findClass_of_methodNamed B.named
  have hlocks := B.notSynchronized
  have hin : meth.name = "<init>" := (name_of_methodNamed B.named B.method).1
  subst hsz
  have hD := hD0.self (sz := s.heap.size)
  generalize hAe : va_A [(h0, .inr (1, [.null, .null, .null]))] s.heap.size = A at hD ⊢
  have hA : ∀ q : Nat, s.heap.size ≤ q → A q := fun q h => by rw [← hAe]; exact Or.inr h
  have hS : va_S A s.heap s.heap [] := va_S.rf
  have hl := lv_entry ([.ref h0]) (n := 1) (Nat.le_of_ble_eq_true rfl)
  rw [lg_entry_eq]
  generalize (lg_sl ([.ref h0]) ++ List.replicate (1 - (lg_sl ([.ref h0])).length) Slot.unset).toArray = ls at hl ⊢
  have hl : lv_has ls 1 [(0, .ref h0)] := hl
  refine lv_aload_n hx hb dX1_init_0 rfl (lv_at hl 0 rfl) ?_
  refine W.objInit hx hb hown (hts _ q163) (hts _ q22) (hts _ q23) rfl (by rw [hml]; exact hl.1) rfl dX1_init_1 (Nat.le_of_ble_eq_true rfl) (Nat.le_of_ble_eq_true rfl) ?_
  refine W.eq (g2 := F0 m 4 ls []) rfl ?_
  refine lv_aload_n hx hb dX1_init_4 rfl (lv_at hl 0 rfl) ?_
  refine lv_bipush (v := 9) hx hb dX1_init_5 (by decide) ?_
  refine va_newa (atype := .boolean) (ty := .boolean) (N' := 9) (a0 := (9, .inl (fun _ => 0))) hx hb (hts _ q174) rfl hK hP hD hS hA (fun _ => rfl) (by decide) (by decide) (Nat.le_of_ble_eq_true rfl) (Nat.le_of_ble_eq_true rfl) (Nat.le_of_ble_eq_true rfl) dX1_init_7 (fun q1_ c1_ H hK hP hD hS => ?_)
  have hP : va_P D vwCl [(h0, .inr (1, [.null, .null, .null])), (q1_, .inl (c1_, 9, .inl (fun _ => 0)))] H := hP
  have hD : va_D A [(h0, .inr (1, [.null, .null, .null])), (q1_, .inl (c1_, 9, .inl (fun _ => 0)))] := hD
  have hK : va_K D vwCl [(c1_, .boolean)] s := hK
  refine W.widen (k := 1) (n := 9) (Nat.le_of_ble_eq_true rfl) (Nat.le_of_ble_eq_true rfl) ?_
  refine va_put (D := D) (ci := 1) (v := .ref q1_) (ty := .array .boolean) (C := RX1) (T := TX1) (N := 3) hx hb hts in_X1 tyX1 tyX1_ok nmX1 hown hK hP hD hS 0 rfl rfl 0 (by decide) (hts _ q164) (fun _ h9 => h9) rfl (by decide +kernel) rfl rfl (Nat.le_of_ble_eq_true rfl) dX1_init_9 (fun H locs hP hD hS => ?_)
  have hP : va_P D vwCl [(h0, .inr (1, [.ref q1_, .null, .null])), (q1_, .inl (c1_, 9, .inl (fun _ => 0)))] H := hP
  have hD : va_D A [(h0, .inr (1, [.ref q1_, .null, .null])), (q1_, .inl (c1_, 9, .inl (fun _ => 0)))] := hD
  refine lv_aload_n hx hb dX1_init_12 rfl (lv_at hl 0 rfl) ?_
  refine lv_bipush (v := 9) hx hb dX1_init_13 (by decide) ?_
  refine va_newa (atype := .int) (ty := .int) (N' := 9) (a0 := (9, .inl (fun _ => 0))) hx hb (hts _ q51) rfl hK hP hD hS hA (fun _ => rfl) (by decide) (by decide) (Nat.le_of_ble_eq_true rfl) (Nat.le_of_ble_eq_true rfl) (Nat.le_of_ble_eq_true rfl) dX1_init_15 (fun q2_ c2_ H hK hP hD hS => ?_)
  have hP : va_P D vwCl [(h0, .inr (1, [.ref q1_, .null, .null])), (q1_, .inl (c1_, 9, .inl (fun _ => 0))), (q2_, .inl (c2_, 9, .inl (fun _ => 0)))] H := hP
  have hD : va_D A [(h0, .inr (1, [.ref q1_, .null, .null])), (q1_, .inl (c1_, 9, .inl (fun _ => 0))), (q2_, .inl (c2_, 9, .inl (fun _ => 0)))] := hD
  have hK : va_K D vwCl [(c1_, .boolean), (c2_, .int)] s := hK
  refine W.widen (k := 2) (n := 18) (Nat.le_of_ble_eq_true rfl) (Nat.le_of_ble_eq_true rfl) ?_
  refine va_put (D := D) (ci := 1) (v := .ref q2_) (ty := .array .int) (C := RX1) (T := TX1) (N := 3) hx hb hts in_X1 tyX1 tyX1_ok nmX1 hown hK hP hD hS 0 rfl rfl 1 (by decide) (hts _ q165) (fun _ h9 => h9) rfl (by decide +kernel) rfl rfl (Nat.le_of_ble_eq_true rfl) dX1_init_17 (fun H locs hP hD hS => ?_)
  have hP : va_P D vwCl [(h0, .inr (1, [.ref q1_, .ref q2_, .null])), (q1_, .inl (c1_, 9, .inl (fun _ => 0))), (q2_, .inl (c2_, 9, .inl (fun _ => 0)))] H := hP
  have hD : va_D A [(h0, .inr (1, [.ref q1_, .ref q2_, .null])), (q1_, .inl (c1_, 9, .inl (fun _ => 0))), (q2_, .inl (c2_, 9, .inl (fun _ => 0)))] := hD
  refine lv_aload_n hx hb dX1_init_20 rfl (lv_at hl 0 rfl) ?_
  refine lv_bipush (v := 9) hx hb dX1_init_21 (by decide) ?_
  refine va_newa (atype := .int) (ty := .int) (N' := 9) (a0 := (9, .inl (fun _ => 0))) hx hb (hts _ q51) rfl hK hP hD hS hA (fun _ => rfl) (by decide) (by decide) (Nat.le_of_ble_eq_true rfl) (Nat.le_of_ble_eq_true rfl) (Nat.le_of_ble_eq_true rfl) dX1_init_23 (fun q3_ c3_ H hK hP hD hS => ?_)
  have hP : va_P D vwCl [(h0, .inr (1, [.ref q1_, .ref q2_, .null])), (q1_, .inl (c1_, 9, .inl (fun _ => 0))), (q2_, .inl (c2_, 9, .inl (fun _ => 0))), (q3_, .inl (c3_, 9, .inl (fun _ => 0)))] H := hP
  have hD : va_D A [(h0, .inr (1, [.ref q1_, .ref q2_, .null])), (q1_, .inl (c1_, 9, .inl (fun _ => 0))), (q2_, .inl (c2_, 9, .inl (fun _ => 0))), (q3_, .inl (c3_, 9, .inl (fun _ => 0)))] := hD
  have hK : va_K D vwCl [(c1_, .boolean), (c2_, .int), (c3_, .int)] s := hK
  refine W.widen (k := 3) (n := 27) (Nat.le_of_ble_eq_true rfl) (Nat.le_of_ble_eq_true rfl) ?_
  refine va_put (D := D) (ci := 1) (v := .ref q3_) (ty := .array .int) (C := RX1) (T := TX1) (N := 3) hx hb hts in_X1 tyX1 tyX1_ok nmX1 hown hK hP hD hS 0 rfl rfl 2 (by decide) (hts _ q166) (fun _ h9 => h9) rfl (by decide +kernel) rfl rfl (Nat.le_of_ble_eq_true rfl) dX1_init_25 (fun H locs hP hD hS => ?_)
  have hP : va_P D vwCl [(h0, .inr (1, [.ref q1_, .ref q2_, .ref q3_])), (q1_, .inl (c1_, 9, .inl (fun _ => 0))), (q2_, .inl (c2_, 9, .inl (fun _ => 0))), (q3_, .inl (c3_, 9, .inl (fun _ => 0)))] H := hP
  have hD : va_D A [(h0, .inr (1, [.ref q1_, .ref q2_, .ref q3_])), (q1_, .inl (c1_, 9, .inl (fun _ => 0))), (q2_, .inl (c2_, 9, .inl (fun _ => 0))), (q3_, .inl (c3_, 9, .inl (fun _ => 0)))] := hD
  exact W.vret hx hb hr (fun t ht hW => ⟨⟨(), rfl, trivial, (fun k => match k with | 0 => h0 | 1 => q1_ | 2 => q2_ | _ => q3_), (fun k => match k with | 0 => c1_ | 1 => c1_ | 2 => c2_ | _ => c3_), rfl, ⟨va_K.moved hW.alike hK, by rw [ht]; exact hP⟩, hD⟩, hS.F ht⟩) hS.2.2 dX1_init_28
end
section
/-! sets of undertakings as numbers: closed, worth, best -/
def cd_st (x : Int32) : Nat → Bool := fun u => if u < 9 then bt x u else decide (u = 9)
theorem st_at (x : Int32) {u : Nat} (h : u < 9) : cd_st x u = bt x u := if_pos h
theorem st_9 (x : Int32) : cd_st x 9 = true := rfl
theorem st_10 (x : Int32) : cd_st x 10 = false := rfl
def cd_in9 (P x : Int32) : Prop := ∀ i, i < 32 → bt x i = true → bt P i = true
def cd_ncl (n : Nat → Int32) (x : Int32) : Prop := ∀ u, u < 9 → bt x u = true → ∀ b, b < 32 → bt (n u) b = true → bt x b = true
theorem closed_iff {P : Int32} {n : Nat → Int32} {x : Int32} : cd_closed P n x = true ↔ cd_in9 P x ∧ cd_ncl n x := by
  unfold cd_closed
  rw [Bool.and_eq_true, decide_eq_true_eq, cb_sub, cd_all_iff]
  constructor
  · rintro ⟨h1, h2⟩
    refine ⟨h1, fun u hu hx b hb hn => ?_⟩
    have := h2 u hu
    unfold cd_clq at this
    rw [cb_in (by omega), hx, Bool.not_true, Bool.false_or, decide_eq_true_eq, cb_sub] at this
    exact this b hb hn
  · rintro ⟨h1, h2⟩
    refine ⟨h1, fun u hu => ?_⟩
    unfold cd_clq
    rw [cb_in (by omega)]
    cases hx : bt x u with
    | false => rfl
    | true =>
      rw [Bool.not_true, Bool.false_or, decide_eq_true_eq, cb_sub]
      exact h2 u hu hx
theorem st_cs {P x : Int32} (h : cd_in9 P x) : cd_cs P (cd_st x) := ⟨rfl, rfl, fun u hu hx => by rw [st_at x hu] at hx; exact h u (by omega) hx⟩
theorem vio_0 {n : Nat → Int32} {x : Int32} (h : cd_ncl n x) : cd_vio n (cd_st x) = 0 := by
  refine sm_eq0 (fun a ha => sm_eq0 (fun b hb => ?_))
  try dsimp only
  rw [st_at x ha, st_at x hb]
  cases hx : bt x a with
  | false => rfl
  | true =>
    cases hn : bt (n a) b with
    | false => simp
    | true => rw [h a ha hx b (by omega) hn]; rfl
theorem vio_t (n : Nat → Int32) (S : Nat → Bool) (a b : Nat) : (0 : Int) ≤ (if S a && !S b then (if bt (n a) b then 1048576 else 0) else 0) := by
  split
  · split <;> omega
  · omega
/-- a set that isn't closed loses more than all worths together -/
theorem vio_ge {n : Nat → Int32} {x : Int32} {a b : Nat} (ha : a < 9) (hb : b < 9) (h1 : bt x a = true) (h2 : bt (n a) b = true) (h3 : bt x b = false) : 1048576 ≤ cd_vio n (cd_st x) := by
  have t1 := sm_term (n := 9) (f := fun b => if cd_st x a && !cd_st x b then (if bt (n a) b then (1048576 : Int) else 0) else 0) (fun b _ => vio_t n (cd_st x) a b) hb
  have t2 := sm_term (n := 9) (f := fun a => cd_sm 9 (fun b => if cd_st x a && !cd_st x b then (if bt (n a) b then (1048576 : Int) else 0) else 0)) (fun a _ => sm_nonneg (fun b _ => vio_t n (cd_st x) a b)) ha
  have e : (fun b => if cd_st x a && !cd_st x b then (if bt (n a) b then (1048576 : Int) else 0) else 0) b = 1048576 := by
    show (if cd_st x a && !cd_st x b then (if bt (n a) b then (1048576 : Int) else 0) else 0) = 1048576
    rw [st_at x ha, st_at x hb, h1, h2, h3]
    rfl
  exact Int.le_trans (Int.le_trans (Int.le_of_eq e.symm) t1) t2
theorem vio_nn (n : Nat → Int32) (S : Nat → Bool) : 0 ≤ cd_vio n S := sm_nonneg (fun a _ => sm_nonneg (fun b _ => vio_t n S a b))
theorem wor_b {k : Nat → Int32} {c : Int} (hc : 0 ≤ c) (h : ∀ u, u < 9 → -c ≤ (k u).toInt ∧ (k u).toInt ≤ c) (S : Nat → Bool) : -(9 * c) ≤ cd_wor k S ∧ cd_wor k S ≤ 9 * c := by
  have h1 : cd_wor k S ≤ cd_sm 9 (fun _ => c) := sm_le (fun u hu => by
    have := h u hu
    show (if S u then (k u).toInt else 0) ≤ c
    split <;> omega)
  have h2 : cd_sm 9 (fun _ => -c) ≤ cd_wor k S := sm_le (fun u hu => by
    have := h u hu
    show -c ≤ (if S u then (k u).toInt else 0)
    split <;> omega)
  rw [sm_const] at h1 h2
  omega
theorem cut0_iff {r : Nat → Int32} (hr : cd_ri r) {S : Nat → Bool} : cd_cut r S = 0 ↔ ∀ a b, a < 11 → b < 11 → S a = true → S b = false → (r (a * 11 + b)).toInt = 0 := by
  have nn : ∀ a b, a < 11 → b < 11 → (0 : Int) ≤ (if S a && !S b then (r (a * 11 + b)).toInt else 0) := fun a b ha hb => by
    split
    · exact (hr a b ha hb).1
    · exact Int.le_refl 0
  constructor
  · intro h a b ha hb h1 h2
    have t1 := sm_term (n := 11) (f := fun b => if S a && !S b then (r (a * 11 + b)).toInt else 0) (fun b hb => nn a b ha hb) hb
    have t2 := sm_term (n := 11) (f := fun a => cd_sm 11 (fun b => if S a && !S b then (r (a * 11 + b)).toInt else 0)) (fun a ha => sm_nonneg (fun b hb => nn a b ha hb)) ha
    have e : (fun b => if S a && !S b then (r (a * 11 + b)).toInt else 0) b = (r (a * 11 + b)).toInt := by
      show (if S a && !S b then (r (a * 11 + b)).toInt else 0) = _
      rw [h1, h2]
      rfl
    have t3 : (r (a * 11 + b)).toInt ≤ cd_cut r S := Int.le_trans (Int.le_trans (Int.le_of_eq e.symm) t1) t2
    have := (hr a b ha hb).1
    omega
  · intro h
    refine sm_eq0 (fun a ha => sm_eq0 (fun b hb => ?_))
    try dsimp only
    cases h1 : S a with
    | false => rfl
    | true =>
      cases h2 : S b with
      | true => rfl
      | false => exact h a b ha hb h1 h2
/-! what a greatest flow says -/
section FIN
variable {P : Int32} {w n k r : Nat → Int32} {fs z : Int32}
theorem fin_here (hf : cd_fin P n k r fs z) {u : Nat} (hu : u < 9) (h : bt fs u = true) : bt P u = true := by
  obtain ⟨⟨h1, h2, h3⟩, f, g, en, L, q, hsp, hcl, h10⟩ := hf
  obtain ⟨i, hi, e⟩ := (hsp.2.2.2.2.1 u (by omega)).mp h
  have hi0 : 0 < i := by
    rcases Nat.eq_zero_or_pos i with g | g
    · rw [g, hsp.2.1] at e; omega
    · exact g
  obtain ⟨g1, g2, g3⟩ := hsp.2.2.2.2.2.2 i hi0 hi
  cases hp : bt P u with
  | true => rfl
  | false =>
    have hLq := (hsp.2.2.2.1 (q i) (by omega)).1
    have := h2 u (L (q i)) hu hLq hp
    have m1 := (h1 u (L (q i)) (by omega) hLq).1
    rw [e] at g3
    omega
theorem fin_F (hf : cd_fin P n k r fs z) {u : Nat} (hu : u < 9) : bt (fs &&& P) u = bt fs u := by
  rw [b_and]
  cases h : bt fs u with
  | false => rfl
  | true => rw [fin_here hf hu h]; rfl
theorem fin_cutF (hf : cd_fin P n k r fs z) : cd_cut r (cd_st (fs &&& P)) = 0 := by
  have hf0 := hf
  obtain ⟨⟨h1, h2, h3⟩, f, g, en, L, q, hsp, hcl, h10⟩ := hf
  rw [cut0_iff h1]
  intro a b ha hb sa sb
  have ta : bt fs a = true := by
    by_cases c : a < 9
    · rw [st_at _ c, fin_F hf0 c] at sa
      exact sa
    · have c2 : a = 9 := by
        unfold cd_st at sa
        rw [if_neg c] at sa
        exact of_decide_eq_true sa
      rw [c2]
      exact (hsp.2.2.2.2.1 9 (by omega)).mpr ⟨0, hsp.1, hsp.2.1⟩
  have tb : bt fs b = false := by
    by_cases c : b < 9
    · rw [st_at _ c, fin_F hf0 c] at sb
      exact sb
    · have c2 : b ≠ 9 := fun e => by rw [e, st_9] at sb; cases sb
      have c3 : b = 10 := by omega
      rw [c3]; exact h10
  have := (h1 a b ha hb).1
  rcases Int.lt_or_le 0 (r (a * 11 + b)).toInt with c | c
  · rw [hcl a b ha hb ta c] at tb; cases tb
  · omega
theorem fin_iff (g : cd_gd P w n) (hb : ∀ u, u < 9 → -1000 ≤ (k u).toInt ∧ (k u).toInt ≤ 1000) (hf : cd_fin P n k r fs z) {x : Int32} (hx : cd_in9 P x) : (cd_ncl n x ∧ cd_wor k (cd_st x) = z.toInt) ↔ cd_cut r (cd_st x) = 0 := by
  have hz := soI_nn hf.1
  have h3 := hf.1.2.2 (cd_st x) (st_cs hx)
  constructor
  · rintro ⟨h1, h2⟩
    rw [h3, vio_0 h1]
    omega
  · intro h
    have hw := (wor_b (c := 1000) (by omega) hb (cd_st x)).2
    have hncl : cd_ncl n x := by
      intro u hu hxu b hb2 hn
      cases hxb : bt x b with
      | true => rfl
      | false =>
        have hb9 : b < 9 := by
          rcases Nat.lt_or_ge b 9 with c | c
          · exact c
          · rw [gd_hi g hu b c hb2] at hn; cases hn
        have := vio_ge (n := n) hu hb9 hxu hn hxb
        omega
    refine ⟨hncl, ?_⟩
    rw [vio_0 hncl] at h3
    omega
theorem fin_le (hf : cd_fin P n k r fs z) {x : Int32} (hx : cd_in9 P x) (hn : cd_ncl n x) : cd_wor k (cd_st x) ≤ z.toInt := soI_low hf.1 (st_cs hx) (vio_0 hn)
theorem F_in (P fs : Int32) : cd_in9 P (fs &&& P) := fun i hi h => by rw [b_and, Bool.and_eq_true] at h; exact h.2
theorem in9_num (g : cd_gd P w n) {x : Int32} (hx : cd_in9 P x) : ∃ c, c < 512 ∧ x = nI c :=
  cb_small (x := x) (k := 9) (by omega) (fun i hi hi2 => by
    cases h : bt x i with
    | false => rfl
    | true =>
      have := hx i hi2 h
      rw [g.1 i hi hi2] at this
      cases this)
end FIN
/-! the greatest number of a kind -/
def cd_mx (ok : Nat → Bool) (f : Nat → Int) (v : Int) : Prop := (∃ x, x < 512 ∧ ok x = true ∧ f x = v) ∧ ∀ x, x < 512 → ok x = true → f x ≤ v
theorem mx_uniq {ok ok' : Nat → Bool} {f f' : Nat → Int} {v v' : Int} (ho : ∀ x, x < 512 → ok x = ok' x) (hf : ∀ x, x < 512 → ok x = true → f x = f' x) (h : cd_mx ok f v) (h' : cd_mx ok' f' v') : v = v' := by
  obtain ⟨⟨x, a1, a2, a3⟩, a4⟩ := h
  obtain ⟨⟨y, b1, b2, b3⟩, b4⟩ := h'
  have e1 := b4 x a1 (by rw [← ho x a1]; exact a2)
  have b2' : ok y = true := by rw [ho y b1]; exact b2
  have e2 := a4 y b1 b2'
  rw [hf y b1 b2'] at e2
  rw [← hf x a1 a2] at e1
  omega
def cd_wx (w : Nat → Int32) (m : Nat) : Int := cd_wor w (cd_st (nI m))
theorem mx_fin {P : Int32} {w n k r : Nat → Int32} {fs z : Int32} (g : cd_gd P w n) (hb : ∀ u, u < 9 → -1000 ≤ (k u).toInt ∧ (k u).toInt ≤ 1000) (hf : cd_fin P n k r fs z) : cd_mx (fun m => cd_closed P n (nI m)) (cd_wx k) z.toInt := by
  constructor
  · obtain ⟨c, hc, e⟩ := in9_num g (F_in P fs)
    have := (fin_iff g hb hf (F_in P fs)).mpr (fin_cutF hf)
    refine ⟨c, hc, ?_, ?_⟩
    · show cd_closed P n (nI c) = true
      rw [← e]
      exact closed_iff.mpr ⟨F_in P fs, this.1⟩
    · show cd_wor k (cd_st (nI c)) = _
      rw [← e]
      exact this.2
  · intro x _ hx
    obtain ⟨h1, h2⟩ := closed_iff.mp hx
    exact fin_le hf h1 h2
theorem it_inv {α : Type} {f : Nat → α → α} (Q : Nat → α → Prop) (N : Nat) (hs : ∀ i x, i < N → Q i x → Q (i + 1) (f i x)) {a : α} (h0 : Q 0 a) : ∀ n, n ≤ N → Q n (cd_it f n a) := by
  intro n
  induction n with
  | zero => intro _; exact h0
  | succ n ih => intro h; exact hs n _ (by omega) (ih (by omega))
theorem sum_I {w : Nat → Int32} (hb : ∀ u, u < 9 → -1000 ≤ (w u).toInt ∧ (w u).toInt ≤ 1000) (x : Int32) : (cd_sum w x).toInt = cd_wor w (cd_st x) := by
  have := it_inv (f := cd_su1 w x) (fun m s => s.toInt = cd_sm m (fun u => if cd_st x u then (w u).toInt else 0) ∧ -(1000 * (m : Int)) ≤ s.toInt ∧ s.toInt ≤ 1000 * m) 9 (fun i s hi hq => by
    obtain ⟨h1, h2, h3⟩ := hq
    have hw := hb i hi
    have hst := st_at x hi
    have e : cd_sm (i + 1) (fun u => if cd_st x u then (w u).toInt else 0) = cd_sm i (fun u => if cd_st x u then (w u).toInt else 0) + (if cd_st x i then (w i).toInt else 0) := rfl
    unfold cd_su1
    rw [e, hst]
    cases hx : bt x i with
    | true =>
      rw [if_pos ((cb_eq1 (by omega)).mpr hx), cd_addI (by omega) (by omega)]
      simp only [if_true]
      omega
    | false =>
      rw [if_neg (fun q => by rw [(cb_eq1 (by omega)).mp q] at hx; cases hx)]
      simp only [Bool.false_eq_true, if_false]
      omega) (a := 0) ⟨rfl, by decide, by decide⟩ 9 (by omega)
  exact this.1
theorem gr_spec {U : Int32} {w n : Nat → Int32} {must never : Int32} (hb : ∀ u, u < 9 → -1000 ≤ (w u).toInt ∧ (w u).toInt ≤ 1000) (hex : ∃ x, x < 512 ∧ cd_gq U n must never x = true) : cd_mx (cd_gq U n must never) (cd_wx w) (cd_greatest U w n must never).toInt := by
  have hI := it_inv (f := cd_gr1 U w n must never) (fun m s => (∀ x, x < m → cd_gq U n must never x = true → cd_wx w x ≤ s.toInt) ∧ (s = -100000 ∨ ∃ x, x < m ∧ cd_gq U n must never x = true ∧ cd_wx w x = s.toInt)) 512 (fun i s hi hq => by
    obtain ⟨h1, h2⟩ := hq
    have hs := sum_I hb (nI i)
    unfold cd_gr1
    cases hg : cd_gq U n must never i with
    | false =>
      simp only [Bool.false_eq_true, if_false]
      refine ⟨fun x hx hgx => ?_, ?_⟩
      · have : x ≠ i := fun e => by rw [e, hg] at hgx; cases hgx
        exact h1 x (by omega) hgx
      · rcases h2 with h2 | ⟨x, e1, e2, e3⟩
        · exact Or.inl h2
        · exact Or.inr ⟨x, by omega, e2, e3⟩
    | true =>
      simp only [if_true]
      by_cases c : cd_sum w (nI i) ≤ s
      · rw [if_pos c]
        have c' := cd_leI.mp c
        refine ⟨fun x hx hgx => ?_, ?_⟩
        · by_cases e : x = i
          · rw [e]; show cd_wor w (cd_st (nI i)) ≤ _; omega
          · exact h1 x (by omega) hgx
        · rcases h2 with h2 | ⟨x, e1, e2, e3⟩
          · exact Or.inl h2
          · exact Or.inr ⟨x, by omega, e2, e3⟩
      · rw [if_neg c]
        have c' : ¬ (cd_sum w (nI i)).toInt ≤ s.toInt := fun q => c (cd_leI.mpr q)
        refine ⟨fun x hx hgx => ?_, Or.inr ⟨i, by omega, hg, hs.symm⟩⟩
        by_cases e : x = i
        · rw [e]; exact Int.le_of_eq hs.symm
        · have := h1 x (by omega) hgx
          omega) (a := -100000) ⟨fun x hx => absurd hx (Nat.not_lt_zero x), Or.inl rfl⟩ 512 (Nat.le_refl _)
  change (∀ x, x < 512 → cd_gq U n must never x = true → cd_wx w x ≤ (cd_greatest U w n must never).toInt) ∧ (cd_greatest U w n must never = -100000 ∨ ∃ x, x < 512 ∧ cd_gq U n must never x = true ∧ cd_wx w x = (cd_greatest U w n must never).toInt) at hI
  obtain ⟨h1, h2⟩ := hI
  refine ⟨?_, h1⟩
  rcases h2 with h2 | h2
  · obtain ⟨x, e1, e2⟩ := hex
    have h3 := h1 x e1 e2
    have h4 := (wor_b (c := 1000) (by omega) hb (cd_st (nI x))).1
    rw [h2] at h3
    have e : (-100000 : Int32).toInt = -100000 := rfl
    rw [e] at h3
    unfold cd_wx at h3
    omega
  · exact h2
end
section
/-! the desk's answers are the model's: best, the least best set, the greatest -/
theorem gd_b {P : Int32} {w n : Nat → Int32} (g : cd_gd P w n) : ∀ u, u < 9 → -1000 ≤ (w u).toInt ∧ (w u).toInt ≤ 1000 := fun u hu => by
  have := g.2.1 u hu
  omega
theorem and0 (x : Int32) : (0 : Int32) &&& x = 0 := cb_zero.mpr (fun i _ => by rw [b_and, b_0]; rfl)
theorem gq00 (P : Int32) (n : Nat → Int32) (m : Nat) : cd_gq P n 0 0 m = cd_closed P n (nI m) := by
  unfold cd_gq
  rw [decide_eq_true (and0 _), decide_eq_true (and0 _)]
  rfl
theorem closed_0 (P : Int32) (n : Nat → Int32) : cd_closed P n (nI 0) = true :=
  closed_iff.mpr ⟨fun i _ h => (by rw [show nI 0 = 0 from rfl, b_0] at h; cases h), fun u _ h => (by rw [show nI 0 = 0 from rfl, b_0] at h; cases h)⟩
theorem best_mx {P : Int32} {w n : Nat → Int32} (g : cd_gd P w n) : cd_mx (fun m => cd_closed P n (nI m)) (cd_wx w) (cd_best P w n).toInt := by
  have := gr_spec (U := P) (w := w) (n := n) (must := 0) (never := 0) (gd_b g) ⟨0, by omega, by rw [gq00]; exact closed_0 P n⟩
  have e : cd_gq P n 0 0 = fun m => cd_closed P n (nI m) := funext (gq00 P n)
  rw [e] at this
  exact this
theorem best_eq {P : Int32} {w n r : Nat → Int32} {fs z : Int32} (g : cd_gd P w n) (hf : cd_fin P n w r fs z) : z = cd_best P w n :=
  cd_inj (mx_uniq (fun _ _ => rfl) (fun _ _ _ => rfl) (mx_fin g (gd_b g) hf) (best_mx g))
section ANS
variable {P : Int32} {w n r : Nat → Int32} {fs z : Int32}
theorem isb_iff (g : cd_gd P w n) (hf : cd_fin P n w r fs z) {m : Nat} : cd_isb P w n z m = true ↔ cd_in9 P (nI m) ∧ cd_cut r (cd_st (nI m)) = 0 := by
  unfold cd_isb
  rw [Bool.and_eq_true, decide_eq_true_eq, closed_iff]
  have hs := sum_I (gd_b g) (nI m)
  constructor
  · rintro ⟨⟨h1, h2⟩, h3⟩
    exact ⟨h1, (fin_iff g (gd_b g) hf h1).mp ⟨h2, by rw [← hs, h3]⟩⟩
  · rintro ⟨h1, h2⟩
    obtain ⟨h3, h4⟩ := (fin_iff g (gd_b g) hf h1).mpr h2
    exact ⟨⟨h1, h3⟩, cd_inj (by rw [hs, h4])⟩
/-- what is found from the source is in every best set -/
theorem best_has (g : cd_gd P w n) (hf : cd_fin P n w r fs z) {x : Int32} (hc : cd_cut r (cd_st x) = 0) {a : Nat} (ha : a < 11) (h : bt fs a = true) : cd_st x a = true := by
  obtain ⟨⟨h1, h2, h3⟩, f, g2, en, L, q, hsp, hcl, h10⟩ := hf
  have hc := (cut0_iff h1).mp hc
  have key : ∀ N t, t < N → t < en → cd_st x (L t) = true := by
    intro N
    induction N with
    | zero => intro t ht; omega
    | succ N ih =>
      intro t ht hten
      rcases Nat.eq_zero_or_pos t with e | e
      · rw [e, hsp.2.1]; rfl
      · obtain ⟨p1, p2, p3⟩ := hsp.2.2.2.2.2.2 t e hten
        have i1 := ih (q t) (by omega) (by omega)
        cases hs : cd_st x (L t) with
        | true => rfl
        | false =>
          have := hc (L (q t)) (L t) (hsp.2.2.2.1 (q t) (by omega)).1 (hsp.2.2.2.1 t hten).1 i1 hs
          omega
  obtain ⟨i, hi, e⟩ := (hsp.2.2.2.2.1 a (by omega)).mp h
  rw [← e]
  exact key (i + 1) i (by omega) hi
theorem F_best (g : cd_gd P w n) (hf : cd_fin P n w r fs z) : ∃ c, c < 512 ∧ fs &&& P = nI c ∧ cd_isb P w n z c = true := by
  obtain ⟨c, hc, e⟩ := in9_num g (F_in P fs)
  refine ⟨c, hc, e, (isb_iff g hf).mpr ?_⟩
  rw [← e]
  exact ⟨F_in P fs, fin_cutF hf⟩
theorem least_eq (g : cd_gd P w n) (hf : cd_fin P n w r fs z) : fs &&& P = cd_it (cd_lb1 P w n z) 512 P := by
  have hI := it_inv (f := cd_lb1 P w n z) (fun k x => ∀ i, i < 32 → (bt x i = true ↔ bt P i = true ∧ ∀ m, m < k → cd_isb P w n z m = true → bt (nI m) i = true)) 512 (fun k x hk hq i hi => by
    have h := hq i hi
    unfold cd_lb1
    cases hb : cd_isb P w n z k with
    | false =>
      simp only [Bool.false_eq_true, if_false]
      rw [h]
      constructor
      · rintro ⟨a1, a2⟩
        refine ⟨a1, fun m hm hbm => ?_⟩
        have : m ≠ k := fun e => by rw [e, hb] at hbm; cases hbm
        exact a2 m (by omega) hbm
      · rintro ⟨a1, a2⟩
        exact ⟨a1, fun m hm => a2 m (by omega)⟩
    | true =>
      simp only [if_true]
      rw [b_and, Bool.and_eq_true, h]
      constructor
      · rintro ⟨⟨a1, a2⟩, a3⟩
        refine ⟨a1, fun m hm hbm => ?_⟩
        by_cases e : m = k
        · rw [e]; exact a3
        · exact a2 m (by omega) hbm
      · rintro ⟨a1, a2⟩
        exact ⟨⟨a1, fun m hm => a2 m (by omega)⟩, a2 k (by omega) hb⟩) (a := P) (fun i hi => ⟨fun h => ⟨h, fun m hm => absurd hm (Nat.not_lt_zero m)⟩, fun h => h.1⟩) 512 (Nat.le_refl _)
  refine b_ext (fun i hi => ?_)
  rw [Bool.eq_iff_iff, hI i hi]
  constructor
  · intro h
    have h' := h
    rw [b_and, Bool.and_eq_true] at h'
    refine ⟨h'.2, fun m hm hbm => ?_⟩
    have i9 : i < 9 := by
      rcases Nat.lt_or_ge i 9 with c | c
      · exact c
      · rw [g.1 i c hi] at h'; cases h'.2
    have := best_has g hf ((isb_iff g hf).mp hbm).2 (a := i) (by omega) h'.1
    rwa [st_at _ i9] at this
  · rintro ⟨h1, h2⟩
    obtain ⟨c, hc, e, hb⟩ := F_best g hf
    rw [e]
    exact h2 c hc hb
end ANS
/-! what leads to the sink -/
def cd_sub (x y : Int32) : Prop := ∀ i, i < 32 → bt x i = true → bt y i = true
theorem sub_rf (x : Int32) : cd_sub x x := fun _ _ h => h
theorem sub_tr {x y v : Int32} (h1 : cd_sub x y) (h2 : cd_sub y v) : cd_sub x v := fun i hi h => h2 i hi (h1 i hi h)
theorem sub_as {x y : Int32} (h1 : cd_sub x y) (h2 : cd_sub y x) : x = y := b_ext (fun i hi => by rw [Bool.eq_iff_iff]; exact ⟨h1 i hi, h2 i hi⟩)
theorem it_sub {f : Nat → Int32 → Int32} (h : ∀ i x, cd_sub x (f i x)) (x : Int32) : ∀ n k, k ≤ n → cd_sub (cd_it f k x) (cd_it f n x) := by
  intro n
  induction n with
  | zero =>
    intro k hk
    have : k = 0 := by omega
    rw [this]; exact sub_rf _
  | succ n ih =>
    intro k hk
    by_cases e : k = n + 1
    · rw [e]; exact sub_rf _
    · exact sub_tr (ih k (by omega)) (h n _)
theorem cnt_mono {n : Nat} {a b : Nat → Bool} (h : ∀ i, i < n → a i = true → b i = true) : cd_cnt n a ≤ cd_cnt n b := sm_le (fun i hi => by
  show (if a i then (1 : Int) else 0) ≤ if b i then 1 else 0
  cases ha : a i with
  | false => simp only [Bool.false_eq_true, if_false]; split <;> omega
  | true => rw [h i hi ha]; exact Int.le_refl _)
/-- growing sets of N bits stand still after N rounds -/
theorem fix_it {f : Nat → Int32 → Int32} {N : Nat} (hN : N ≤ 32) (hc : ∀ i j x, f i x = f j x) (hi : ∀ i x, cd_sub x (f i x)) (hb : ∀ i x, (∀ b, N ≤ b → b < 32 → bt x b = false) → ∀ b, N ≤ b → b < 32 → bt (f i x) b = false) {x : Int32} (hx : ∀ b, N ≤ b → b < 32 → bt x b = false) : f 0 (cd_it f N x) = cd_it f N x := by
  have bits : ∀ k, ∀ b, N ≤ b → b < 32 → bt (cd_it f k x) b = false := by
    intro k
    induction k with
    | zero => exact hx
    | succ k ih => exact hb k _ ih
  have step : ∀ k, f 0 (cd_it f k x) = cd_it f k x ∨ cd_cnt N (bt (cd_it f k x)) + 1 ≤ cd_cnt N (bt (f 0 (cd_it f k x))) := by
    intro k
    have hB := bits k
    have hB' := hb 0 _ hB
    have hS := hi 0 (cd_it f k x)
    generalize cd_it f k x = y at hB hB' hS ⊢
    by_cases e : f 0 y = y
    · exact Or.inl e
    · refine Or.inr ?_
      by_cases c : ∃ i, i < N ∧ bt y i = false ∧ bt (f 0 y) i = true
      · obtain ⟨i, h1, h2, h3⟩ := c
        rw [cnt_off h1 h3]
        refine Int.add_le_add_right (cnt_mono (fun j hj hyj => ?_)) 1
        have hne : j ≠ i := fun q => by rw [q, h2] at hyj; cases hyj
        show (bt (f 0 y) j && decide (j ≠ i)) = true
        rw [hS j (by omega) hyj, decide_eq_true hne]
        rfl
      · refine absurd (sub_as (fun i hi2 h => ?_) hS) e
        cases hy : bt y i with
        | true => rfl
        | false =>
          rcases Nat.lt_or_ge i N with q | q
          · exact absurd ⟨i, q, hy, h⟩ c
          · rw [hB' i q hi2] at h; cases h
  have grow : ∀ k, f 0 (cd_it f k x) = cd_it f k x ∨ (k : Int) ≤ cd_cnt N (bt (cd_it f k x)) := by
    intro k
    induction k with
    | zero => exact Or.inr (sm_nonneg (fun i _ => by show (0 : Int) ≤ if bt x i then 1 else 0; split <;> omega))
    | succ k ih =>
      have e : cd_it f (k + 1) x = f 0 (cd_it f k x) := hc k 0 _
      rcases ih with h | h
      · refine Or.inl ?_
        rw [e, h, h]
      · rcases step k with s | s
        · refine Or.inl ?_
          rw [e, s, s]
        · refine Or.inr ?_
          rw [e]
          omega
  rcases grow N with h | h
  · exact h
  · rcases step N with s | s
    · exact s
    · have := cnt_le N (bt (f 0 (cd_it f N x)))
      omega
theorem ap1_bit (r : Nat → Int32) {a b i : Nat} (ha : a < 11) (hb : b < 11) (hi : i < 32) (x : Int32) : bt (cd_ap1 r a b x) i = (bt x i || (bt x b && decide (0 < (r (a * 11 + b)).toInt) && decide (i = a))) := by
  unfold cd_ap1
  rw [cb_in (by omega), b_or]
  have e : decide (¬ r (a * 11 + b) ≤ 0) = decide (0 < (r (a * 11 + b)).toInt) := by
    by_cases h : r (a * 11 + b) ≤ 0
    · rw [decide_eq_false (fun q => q h), decide_eq_false (by have := cd_le0.mp h; omega)]
    · rw [decide_eq_true h, decide_eq_true (by have : ¬ (r (a * 11 + b)).toInt ≤ 0 := fun q => h (cd_le0.mpr q); omega)]
  rw [e]
  cases bt x b && decide (0 < (r (a * 11 + b)).toInt) with
  | false => simp only [Bool.false_eq_true, if_false, b_0, Bool.false_and]
  | true => simp only [if_true, Bool.true_and, cb_one (show a < 32 by omega) hi]
theorem ap1_sub (r : Nat → Int32) (a b : Nat) (x : Int32) : cd_sub x (cd_ap1 r a b x) := fun i _ h => by
  unfold cd_ap1
  rw [b_or, h]
  rfl
theorem ap2_sub (r : Nat → Int32) (a : Nat) (x : Int32) : cd_sub x (cd_ap2 r a x) := it_sub (ap1_sub r a) x 11 0 (by omega)
theorem ap3_sub (r : Nat → Int32) (k : Nat) (x : Int32) : cd_sub x (cd_ap3 r k x) := it_sub (ap2_sub r) x 11 0 (by omega)
/-- what holds of a set and goes on along rooms, holds of what leads to the sink -/
theorem ap3_inv (r : Nat → Int32) (Q : Int32 → Prop) (h : ∀ a b x, a < 11 → b < 11 → Q x → Q (cd_ap1 r a b x)) (k : Nat) (x : Int32) (hx : Q x) : Q (cd_ap3 r k x) := by
  refine it_inv (f := cd_ap2 r) (fun _ y => Q y) 11 (fun a y ha hy => ?_) hx 11 (Nat.le_refl _)
  exact it_inv (f := cd_ap1 r a) (fun _ v => Q v) 11 (fun b v hb hv => h a b v ha hb hv) hy 11 (Nat.le_refl _)
theorem ap1_hi (r : Nat → Int32) {a b : Nat} (ha : a < 11) (hb : b < 11) {x : Int32} (h : ∀ i, 11 ≤ i → i < 32 → bt x i = false) : ∀ i, 11 ≤ i → i < 32 → bt (cd_ap1 r a b x) i = false := fun i h1 h2 => by
  rw [ap1_bit r ha hb h2, h i h1 h2, decide_eq_false (p := i = a) (by omega), Bool.and_false]
  rfl
theorem cb_1024 : ∀ b, b < 32 → bt 1024 b = decide (b = 10) := by decide +kernel
theorem near_10 (r : Nat → Int32) : bt (cd_near r) 10 = true := it_sub (ap3_sub r) 1024 11 0 (by omega) 10 (by omega) (show bt 1024 10 = true by decide)
theorem near_def (r : Nat → Int32) : cd_near r = cd_it (cd_ap3 r) 11 1024 := rfl
theorem ap3_def (r : Nat → Int32) (k : Nat) (x : Int32) : cd_ap3 r k x = cd_it (cd_ap2 r) 11 x := rfl
theorem ap2_def (r : Nat → Int32) (a : Nat) (x : Int32) : cd_ap2 r a x = cd_it (cd_ap1 r a) 11 x := rfl
theorem ap3_hi (r : Nat → Int32) (k : Nat) (x : Int32) (hx : ∀ b, 11 ≤ b → b < 32 → bt x b = false) : ∀ b, 11 ≤ b → b < 32 → bt (cd_ap3 r k x) b = false := ap3_inv r (fun y => ∀ b, 11 ≤ b → b < 32 → bt y b = false) (fun a b y ha hb hy => ap1_hi r ha hb hy) k x hx
theorem ap3_same (r : Nat → Int32) (i j : Nat) (x : Int32) : cd_ap3 r i x = cd_ap3 r j x := by rw [ap3_def, ap3_def]
theorem cb_1024h (b : Nat) (h1 : 11 ≤ b) (h2 : b < 32) : bt 1024 b = false := by rw [cb_1024 b h2]; exact decide_eq_false (by omega)
theorem near_fix (r : Nat → Int32) : cd_ap3 r 0 (cd_near r) = cd_near r := by
  rw [near_def]
  exact fix_it (f := cd_ap3 r) (N := 11) (by omega) (ap3_same r) (ap3_sub r) (ap3_hi r) cb_1024h
theorem ap3_closed (r : Nat → Int32) {x : Int32} (fx : cd_ap3 r 0 x = x) {a b : Nat} (ha : a < 11) (hb : b < 11) (h1 : bt x b = true) (h2 : 0 < (r (a * 11 + b)).toInt) : bt x a = true := by
  have s1 : cd_sub x (cd_it (cd_ap2 r) a x) := it_sub (ap2_sub r) x a 0 (by omega)
  have s2 := it_sub (ap2_sub r) x 11 (a + 1) (by omega)
  rw [← ap3_def r 0 x, fx, cd_it_s, ap2_def] at s2
  generalize cd_it (cd_ap2 r) a x = y at s1 s2
  have s3 : cd_sub y (cd_it (cd_ap1 r a) b y) := it_sub (ap1_sub r a) y b 0 (by omega)
  have s4 := it_sub (ap1_sub r a) y 11 (b + 1) (by omega)
  rw [cd_it_s] at s4
  generalize cd_it (cd_ap1 r a) b y = v at s3 s4
  refine s2 a (by omega) (s4 a (by omega) ?_)
  rw [ap1_bit r ha hb (by omega), s3 b (by omega) (s1 b (by omega) h1), decide_eq_true h2, decide_eq_true rfl]
  simp
theorem near_closed (r : Nat → Int32) {a b : Nat} (ha : a < 11) (hb : b < 11) (h1 : bt (cd_near r) b = true) (h2 : 0 < (r (a * 11 + b)).toInt) : bt (cd_near r) a = true := ap3_closed r (near_fix r) ha hb h1 h2
theorem near_out {r : Nat → Int32} {S : Nat → Bool} (h10 : S 10 = false) (hc : ∀ a b, a < 11 → b < 11 → S a = true → S b = false → (r (a * 11 + b)).toInt = 0) {a : Nat} (ha : a < 11) (h : bt (cd_near r) a = true) : S a = false := by
  have := it_inv (f := cd_ap3 r) (fun _ x => ∀ a, a < 11 → bt x a = true → S a = false) 11 (fun k x hk hx => ap3_inv r (fun x => ∀ a, a < 11 → bt x a = true → S a = false) (fun a b x ha hb hx c hc2 h => by
    rw [ap1_bit r ha hb (by omega), Bool.or_eq_true] at h
    rcases h with h | h
    · exact hx c hc2 h
    · rw [Bool.and_eq_true, Bool.and_eq_true, decide_eq_true_eq, decide_eq_true_eq] at h
      obtain ⟨⟨h1, h2⟩, h3⟩ := h
      rw [h3]
      cases hs : S a with
      | false => rfl
      | true =>
        have := hc a b ha hb hs (hx b hb h1)
        omega) k x hx) (a := 1024) (fun a ha h => by
    rw [cb_1024 a (by omega), decide_eq_true_eq] at h
    rw [h]; exact h10) 11 (Nat.le_refl _)
  exact this a ha h
section GRE
variable {P : Int32} {w n r : Nat → Int32} {fs z : Int32}
theorem near_9 (hf : cd_fin P n w r fs z) : bt (cd_near r) 9 = false := by
  cases h : bt (cd_near r) 9 with
  | false => rfl
  | true =>
    have := near_out (S := cd_st (fs &&& P)) (st_10 _) ((cut0_iff hf.1.1).mp (fin_cutF hf)) (a := 9) (by omega) h
    rw [st_9] at this
    cases this
theorem G_bit (i : Nat) (hi : i < 32) : bt (cd_apart P r) i = (bt P i && !bt (cd_near r) i) := by
  unfold cd_apart
  rw [b_and, cb_not _ hi]
theorem G_in : cd_in9 P (cd_apart P r) := fun i hi h => by rw [G_bit i hi, Bool.and_eq_true] at h; exact h.1
theorem G_cut (hf : cd_fin P n w r fs z) : cd_cut r (cd_st (cd_apart P r)) = 0 := by
  rw [cut0_iff hf.1.1]
  intro a b ha hb sa sb
  have hna : bt (cd_near r) a = false := by
    by_cases c : a < 9
    · rw [st_at _ c, G_bit a (by omega), Bool.and_eq_true] at sa
      simpa using sa.2
    · have c2 : a = 9 := by
        unfold cd_st at sa
        rw [if_neg c] at sa
        exact of_decide_eq_true sa
      rw [c2]; exact near_9 hf
  have nn := (hf.1.1 a b ha hb).1
  rcases Int.lt_or_le 0 (r (a * 11 + b)).toInt with c | c
  · have hnb : bt (cd_near r) b = false := by
      cases h : bt (cd_near r) b with
      | false => rfl
      | true => rw [near_closed r ha hb h c] at hna; cases hna
    have hb9 : b ≠ 9 := fun e => by rw [e, st_9] at sb; cases sb
    have hb10 : b ≠ 10 := fun e => by rw [e, near_10] at hnb; cases hnb
    have hbl : b < 9 := by omega
    rw [st_at _ hbl, G_bit b (by omega), hnb, Bool.not_false, Bool.and_true] at sb
    have m1 := hf.1.2.1 b a hbl ha sb
    have m2 := (hf.1.1 b a hb ha).1
    omega
  · omega
theorem in_G (hf : cd_fin P n w r fs z) {x : Int32} (hx : cd_in9 P x) (hc : cd_cut r (cd_st x) = 0) (g : cd_gd P w n) : cd_in9 (cd_apart P r) x := fun i hi h => by
  have hp := hx i hi h
  have i9 : i < 9 := by
    rcases Nat.lt_or_ge i 9 with c | c
    · exact c
    · rw [g.1 i c hi] at hp; cases hp
  rw [G_bit i hi, hp]
  cases hn : bt (cd_near r) i with
  | false => rfl
  | true =>
    have := near_out (S := cd_st x) (st_10 _) ((cut0_iff hf.1.1).mp hc) (a := i) (by omega) hn
    rw [st_at _ i9, h] at this
    cases this
theorem great_eq (g : cd_gd P w n) (hf : cd_fin P n w r fs z) : cd_apart P r = cd_it (cd_gb1 P w n z) 512 0 := by
  have hI := it_inv (f := cd_gb1 P w n z) (fun k x => ∀ i, i < 32 → (bt x i = true ↔ ∃ m, m < k ∧ cd_isb P w n z m = true ∧ bt (nI m) i = true)) 512 (fun k x hk hq i hi => by
    have h := hq i hi
    unfold cd_gb1
    cases hb : cd_isb P w n z k with
    | false =>
      simp only [Bool.false_eq_true, if_false]
      rw [h]
      constructor
      · rintro ⟨m, a1, a2, a3⟩
        exact ⟨m, by omega, a2, a3⟩
      · rintro ⟨m, a1, a2, a3⟩
        have : m ≠ k := fun e => by rw [e, hb] at a2; cases a2
        exact ⟨m, by omega, a2, a3⟩
    | true =>
      simp only [if_true]
      rw [b_or, Bool.or_eq_true, h]
      constructor
      · rintro (⟨m, a1, a2, a3⟩ | a)
        · exact ⟨m, by omega, a2, a3⟩
        · exact ⟨k, by omega, hb, a⟩
      · rintro ⟨m, a1, a2, a3⟩
        by_cases e : m = k
        · rw [e] at a3; exact Or.inr a3
        · exact Or.inl ⟨m, by omega, a2, a3⟩) (a := 0) (fun i hi => ⟨fun h => (by rw [b_0] at h; cases h), fun ⟨m, hm, _⟩ => absurd hm (Nat.not_lt_zero m)⟩) 512 (Nat.le_refl _)
  refine b_ext (fun i hi => ?_)
  rw [Bool.eq_iff_iff, hI i hi]
  constructor
  · intro h
    obtain ⟨c, hc, e⟩ := in9_num g (G_in (P := P) (r := r))
    refine ⟨c, hc, (isb_iff g hf).mpr ?_, by rw [← e]; exact h⟩
    rw [← e]
    exact ⟨G_in, G_cut hf⟩
  · rintro ⟨m, hm, hb, hbi⟩
    obtain ⟨h1, h2⟩ := (isb_iff g hf).mp hb
    exact in_G hf h1 h2 g i hi hbi
end GRE
end
section
/-! counting the best sets -/
def cd_num (x : Int32) : Nat := x.toBitVec.toNat
theorem num_nI (x : Int32) : nI (cd_num x) = x := by
  apply Int32.toBitVec_inj.mp
  show BitVec.ofNat 32 x.toBitVec.toNat = x.toBitVec
  exact BitVec.ofNat_toNat _ _ |>.trans (by simp)
theorem nI_num {m : Nat} (h : m < 2 ^ 32) : cd_num (nI m) = m := pk_tn h
theorem num_lt {P : Int32} {w n : Nat → Int32} (g : cd_gd P w n) {x : Int32} (hx : cd_in9 P x) : cd_num x < 512 := by
  obtain ⟨c, hc, e⟩ := in9_num g hx
  rw [e, nI_num (by omega)]
  exact hc
theorem num_le {Pn : Nat} (hP : Pn < 512) {x : Int32} (hx : cd_in9 (nI Pn) x) : cd_num x ≤ Pn := by
  have e : cd_num x &&& Pn = cd_num x := by
    apply Nat.eq_of_testBit_eq
    intro i
    rw [Nat.testBit_and]
    rcases Nat.lt_or_ge i 32 with h | h
    · have h1 := cb_nI (n := cd_num x) h
      rw [num_nI] at h1
      rw [← h1, ← cb_nI h]
      cases hb : bt x i with
      | false => rfl
      | true => rw [hx i h hb]; rfl
    · have : cd_num x < 2 ^ i := Nat.lt_of_lt_of_le (x.toBitVec.isLt) (Nat.pow_le_pow_right (by omega) h)
      rw [Nat.testBit_lt_two_pow this]
      rfl
  rw [← e]
  exact Nat.and_le_right
theorem stays_iff {r : Nat → Int32} {y O : Int32} : cd_stays r y O = true ↔ ∀ a b, a < 9 → b < 9 → bt y a = true → bt O b = true → bt y b = false → (r (a * 11 + b)).toInt ≤ 0 := by
  unfold cd_stays
  rw [cd_all_iff]
  have key : ∀ a b, a < 9 → b < 9 → (cd_stq r y O a b = true ↔ (bt y a = true → bt O b = true → bt y b = false → (r (a * 11 + b)).toInt ≤ 0)) := by
    intro a b ha hb
    unfold cd_stq
    rw [cb_in (by omega), cb_in (by omega), b_and, cb_not _ (by omega)]
    by_cases h : r (a * 11 + b) ≤ 0
    · rw [decide_eq_false (fun q => q h)]
      have := cd_le0.mp h
      simp [this]
    · have h' : ¬ (r (a * 11 + b)).toInt ≤ 0 := fun q => h (cd_le0.mpr q)
      rw [decide_eq_true h]
      cases bt y a <;> cases bt O b <;> cases bt y b <;> simp [h']
  constructor
  · intro h a b ha hb
    have h1 := h a ha
    unfold cd_str at h1
    exact (key a b ha hb).mp (cd_all_iff.mp h1 b hb)
  · intro h a ha
    unfold cd_str
    exact cd_all_iff.mpr (fun b hb => (key a b ha hb).mpr (h a b ha hb))
theorem chq_iff {r : Nat → Int32} {O : Int32} {S : Nat} : cd_chq r O S = true ↔ cd_sub (nI S) O ∧ ∀ a b, a < 9 → b < 9 → bt (nI S) a = true → bt O b = true → bt (nI S) b = false → (r (a * 11 + b)).toInt ≤ 0 := by
  unfold cd_chq
  rw [Bool.and_eq_true, decide_eq_true_eq, cb_sub, stays_iff]
  exact Iff.rfl
theorem cnt_s (n : Nat) (q : Nat → Bool) : cd_cnt (n + 1) q = cd_cnt n q + (if q n then 1 else 0) := rfl
theorem cnt_nn (n : Nat) (q : Nat → Bool) : 0 ≤ cd_cnt n q := sm_nonneg (fun i _ => by show (0 : Int) ≤ if q i then 1 else 0; split <;> omega)
theorem ch_cnt (r : Nat → Int32) (O : Int32) : ∀ N, N ≤ 512 → (cd_it (cd_ch1 r O) N 0).toInt = cd_cnt N (cd_chq r O) :=
  it_inv (f := cd_ch1 r O) (fun i x => x.toInt = cd_cnt i (cd_chq r O)) 512 (fun i x hi hx => by
    have h1 := cnt_le i (cd_chq r O)
    have h2 := cnt_nn i (cd_chq r O)
    have e1 : (1 : Int32).toInt = 1 := rfl
    have e0 : (0 : Int32).toInt = 0 := rfl
    unfold cd_ch1
    rw [cnt_s]
    cases cd_chq r O i with
    | true =>
      simp only [if_true]
      rw [cd_addI (by omega) (by omega)]
      omega
    | false =>
      simp only [Bool.false_eq_true, if_false]
      rw [cd_addI (by omega) (by omega)]
      omega) (a := 0) rfl
theorem co_cnt (P : Int32) (w n : Nat → Int32) (z : Int32) : ∀ N, N ≤ 512 → (cd_it (cd_co1 P w n z) N 0).toInt = cd_cnt N (cd_isb P w n z) :=
  it_inv (f := cd_co1 P w n z) (fun i x => x.toInt = cd_cnt i (cd_isb P w n z)) 512 (fun i x hi hx => by
    have h1 := cnt_le i (cd_isb P w n z)
    have h2 := cnt_nn i (cd_isb P w n z)
    have e1 : (1 : Int32).toInt = 1 := rfl
    unfold cd_co1
    rw [cnt_s]
    cases cd_isb P w n z i with
    | true =>
      simp only [if_true]
      rw [cd_addI (by omega) (by omega)]
      omega
    | false =>
      simp only [Bool.false_eq_true, if_false]
      omega) (a := 0) rfl
section CHO
variable {P : Int32} {w n r : Nat → Int32} {fs z : Int32}
theorem in9_lt (g : cd_gd P w n) {x : Int32} (hx : cd_in9 P x) {i : Nat} (hi : i < 32) (h : bt x i = true) : i < 9 := by
  rcases Nat.lt_or_ge i 9 with c | c
  · exact c
  · have := hx i hi h
    rw [g.1 i c hi] at this
    cases this
theorem O_bit (hf : cd_fin P n w r fs z) {i : Nat} (hi : i < 32) : bt (cd_apart P r &&& (fs ^^^ (-1))) i = (bt (cd_apart P r) i && !bt fs i) := by rw [b_and, cb_not _ hi]
theorem cho1 (g : cd_gd P w n) (hf : cd_fin P n w r fs z) {Pn : Nat} (hPn : Pn < 512) (hP : P = nI Pn) : cd_cnt 512 (cd_isb P w n z) ≤ cd_cnt (Pn + 1) (cd_chq r (cd_apart P r &&& (fs ^^^ (-1)))) := by
  have hy : ∀ m, bt (nI m &&& ((fs &&& P) ^^^ (-1))) = fun i => bt (nI m &&& ((fs &&& P) ^^^ (-1))) i := fun _ => rfl
  have yb : ∀ m i, i < 32 → bt (nI m &&& ((fs &&& P) ^^^ (-1))) i = (bt (nI m) i && !bt (fs &&& P) i) := fun m i hi => by rw [b_and, cb_not _ hi]
  refine cnt_inj (fun m => cd_num (nI m &&& ((fs &&& P) ^^^ (-1)))) 512 _ _ (fun m hm hb => ?_) (fun m1 m2 h1 h2 b1 b2 e => ?_)
  · obtain ⟨hin, hcut⟩ := (isb_iff g hf).mp hb
    have hc0 := (cut0_iff hf.1.1).mp hcut
    have hyin : cd_in9 P (nI m &&& ((fs &&& P) ^^^ (-1))) := fun i hi h => by
      rw [yb m i hi, Bool.and_eq_true] at h
      exact hin i hi h.1
    refine ⟨?_, chq_iff.mpr ?_⟩
    · have := num_le hPn (x := nI m &&& ((fs &&& P) ^^^ (-1))) (by rw [← hP]; exact hyin)
      show cd_num _ < Pn + 1
      omega
    · rw [num_nI]
      refine ⟨fun i hi h => ?_, fun a b ha hb2 h1 h2 h3 => ?_⟩
      · have i9 := in9_lt g hyin hi h
        rw [yb m i hi, Bool.and_eq_true, fin_F hf i9] at h
        rw [O_bit hf hi, in_G hf hin hcut g i hi h.1, h.2]
        rfl
      · rw [yb m a (by omega), Bool.and_eq_true] at h1
        rw [O_bit hf (by omega), Bool.and_eq_true] at h2
        rw [yb m b (by omega), fin_F hf hb2, h2.2, Bool.and_true] at h3
        have := hc0 a b (by omega) (by omega) (by rw [st_at _ ha]; exact h1.1) (by rw [st_at _ hb2]; exact h3)
        omega
  · obtain ⟨hin1, hcut1⟩ := (isb_iff g hf).mp b1
    obtain ⟨hin2, hcut2⟩ := (isb_iff g hf).mp b2
    have e2 : nI m1 &&& ((fs &&& P) ^^^ (-1)) = nI m2 &&& ((fs &&& P) ^^^ (-1)) := by
      have e' : cd_num (nI m1 &&& ((fs &&& P) ^^^ (-1))) = cd_num (nI m2 &&& ((fs &&& P) ^^^ (-1))) := e
      rw [← num_nI (nI m1 &&& ((fs &&& P) ^^^ (-1))), e', num_nI]
    have e3 : nI m1 = nI m2 := b_ext (fun i hi => by
      cases hF : bt (fs &&& P) i with
      | true =>
        have i9 := in9_lt g (F_in P fs) hi hF
        rw [fin_F hf i9] at hF
        have q1 := best_has g hf hcut1 (a := i) (by omega) hF
        have q2 := best_has g hf hcut2 (a := i) (by omega) hF
        rw [st_at _ i9] at q1 q2
        rw [q1, q2]
      | false =>
        have q1 := yb m1 i hi
        have q2 := yb m2 i hi
        rw [hF, Bool.not_false, Bool.and_true] at q1 q2
        rw [← q1, ← q2, e2])
    exact (nI_eq (by omega) (by omega)).mp e3
theorem cho2 (g : cd_gd P w n) (hf : cd_fin P n w r fs z) {Pn : Nat} (hPn : Pn < 512) : cd_cnt (Pn + 1) (cd_chq r (cd_apart P r &&& (fs ^^^ (-1)))) ≤ cd_cnt 512 (cd_isb P w n z) := by
  have hG := (cut0_iff hf.1.1).mp (G_cut hf)
  refine cnt_inj (fun m => cd_num (nI m ||| (fs &&& P))) (Pn + 1) _ _ (fun m hm hb => ?_) (fun m1 m2 h1 h2 b1 b2 e => ?_)
  · obtain ⟨hs, hst⟩ := chq_iff.mp hb
    have hO : ∀ i, i < 32 → bt (nI m) i = true → bt (cd_apart P r) i = true ∧ bt fs i = false := fun i hi h => by
      have := hs i hi h
      rw [O_bit hf hi, Bool.and_eq_true] at this
      exact ⟨this.1, by simpa using this.2⟩
    have hxin : cd_in9 P (nI m ||| (fs &&& P)) := fun i hi h => by
      rw [b_or, Bool.or_eq_true] at h
      rcases h with h | h
      · exact G_in i hi (hO i hi h).1
      · exact F_in P fs i hi h
    refine ⟨num_lt g hxin, (isb_iff g hf).mpr ?_⟩
    rw [num_nI]
    refine ⟨hxin, (cut0_iff hf.1.1).mpr (fun a b ha hb2 sa sb => ?_)⟩
    have nn := (hf.1.1 a b ha hb2).1
    rcases Int.lt_or_le 0 (r (a * 11 + b)).toInt with c | c
    · have hb9 : b ≠ 9 := fun q => by rw [q, st_9] at sb; cases sb
      have fb : bt fs b = false := by
        by_cases q : b < 9
        · rw [st_at _ q, b_or, Bool.or_eq_false_iff, fin_F hf q] at sb
          exact sb.2
        · have : b = 10 := by omega
          rw [this]
          obtain ⟨_, _, _, _, _, _, _, _, h10⟩ := hf
          exact h10
      have fa : bt fs a = false := by
        cases hq : bt fs a with
        | false => rfl
        | true =>
          obtain ⟨_, _, _, _, _, _, _, hcl, _⟩ := hf
          rw [hcl a b ha hb2 hq c] at fb
          cases fb
      have a9 : a < 9 := by
        rcases Nat.lt_or_ge a 9 with q | q
        · exact q
        · unfold cd_st at sa
          rw [if_neg (by omega)] at sa
          have e9 : a = 9 := of_decide_eq_true sa
          obtain ⟨_, _, _, _, _, _, hsp, _, _⟩ := hf
          rw [e9, (hsp.2.2.2.2.1 9 (by omega)).mpr ⟨0, hsp.1, hsp.2.1⟩] at fa
          cases fa
      rw [st_at _ a9, b_or, fin_F hf a9, fa, Bool.or_false] at sa
      have gb : cd_st (cd_apart P r) b = true := by
        cases hq : cd_st (cd_apart P r) b with
        | true => rfl
        | false =>
          have := hG a b ha hb2 (by rw [st_at _ a9]; exact (hO a (by omega) sa).1) hq
          omega
      have b9 : b < 9 := by
        rcases Nat.lt_or_ge b 9 with q | q
        · exact q
        · unfold cd_st at gb
          rw [if_neg (by omega)] at gb
          exact absurd (of_decide_eq_true gb) hb9
      rw [st_at _ b9] at gb sb
      rw [b_or, Bool.or_eq_false_iff] at sb
      have := hst a b a9 b9 sa (by rw [O_bit hf (by omega), gb, fb]; rfl) sb.1
      omega
    · omega
  · obtain ⟨hs1, -⟩ := chq_iff.mp b1
    obtain ⟨hs2, -⟩ := chq_iff.mp b2
    have e2 : nI m1 ||| (fs &&& P) = nI m2 ||| (fs &&& P) := by
      have e' : cd_num (nI m1 ||| (fs &&& P)) = cd_num (nI m2 ||| (fs &&& P)) := e
      rw [← num_nI (nI m1 ||| (fs &&& P)), e', num_nI]
    have e3 : nI m1 = nI m2 := b_ext (fun i hi => by
      cases hF : bt (fs &&& P) i with
      | true =>
        have hfs : bt fs i = true := by rw [b_and, Bool.and_eq_true] at hF; exact hF.1
        have z : ∀ m, cd_sub (nI m) (cd_apart P r &&& (fs ^^^ (-1))) → bt (nI m) i = false := fun m hs => by
          cases hq : bt (nI m) i with
          | false => rfl
          | true =>
            have := hs i hi hq
            rw [O_bit hf hi, hfs, Bool.not_true, Bool.and_false] at this
            cases this
        rw [z m1 hs1, z m2 hs2]
      | false =>
        have q1 := b_or (nI m1) (fs &&& P) i
        have q2 := b_or (nI m2) (fs &&& P) i
        rw [hF, Bool.or_false] at q1 q2
        rw [← q1, ← q2, e2])
    exact (nI_eq (by omega) (by omega)).mp e3
theorem choices_eq (g : cd_gd P w n) (hf : cd_fin P n w r fs z) {Pn : Nat} (hPn : Pn < 512) (hP : P = nI Pn) : cd_it (cd_ch1 r (cd_apart P r &&& (fs ^^^ (-1)))) (Pn + 1) 0 = cd_it (cd_co1 P w n z) 512 0 := by
  apply cd_inj
  rw [ch_cnt r _ (Pn + 1) (by omega), co_cnt P w n z 512 (Nat.le_refl _)]
  exact Int.le_antisymm (cho2 g hf hPn) (cho1 g hf hPn hP)
end CHO
/-! the closure of a set -/
theorem cl1_bit (n : Nat → Int32) {u i : Nat} (hu : u < 9) (x : Int32) : bt (cd_cl1 n u x) i = (bt x i || (bt x u && bt (n u) i)) := by
  unfold cd_cl1
  rw [cb_in (by omega), b_or]
  cases bt x u with
  | true => simp
  | false => simp [b_0]
theorem cl1_sub (n : Nat → Int32) (u : Nat) (x : Int32) : cd_sub x (cd_cl1 n u x) := fun i _ h => by
  unfold cd_cl1
  rw [b_or, h]
  rfl
theorem clR_def (n : Nat → Int32) (k : Nat) (x : Int32) : cd_clR n k x = cd_it (cd_cl1 n) 9 x := rfl
theorem clR_sub (n : Nat → Int32) (k : Nat) (x : Int32) : cd_sub x (cd_clR n k x) := by
  rw [clR_def]
  exact it_sub (cl1_sub n) x 9 0 (by omega)
theorem clR_inv (n : Nat → Int32) (Q : Int32 → Prop) (h : ∀ u x, u < 9 → Q x → Q (cd_cl1 n u x)) (k : Nat) (x : Int32) (hx : Q x) : Q (cd_clR n k x) := by
  rw [clR_def]
  exact it_inv (f := cd_cl1 n) (fun _ y => Q y) 9 (fun u y hu hy => h u y hu hy) hx 9 (Nat.le_refl _)
theorem clR_closed (n : Nat → Int32) {x : Int32} (fx : cd_clR n 0 x = x) : cd_ncl n x := by
  intro u hu h1 b hb h2
  have s1 : cd_sub x (cd_it (cd_cl1 n) u x) := it_sub (cl1_sub n) x u 0 (by omega)
  have s2 := it_sub (cl1_sub n) x 9 (u + 1) (by omega)
  rw [← clR_def n 0 x, fx, cd_it_s] at s2
  generalize cd_it (cd_cl1 n) u x = y at s1 s2
  refine s2 b hb ?_
  rw [cl1_bit n hu, s1 u (by omega) h1, h2]
  simp
theorem clR_same (n : Nat → Int32) (i j : Nat) (x : Int32) : cd_clR n i x = cd_clR n j x := by rw [clR_def, clR_def]
section CLO
variable {P : Int32} {w n : Nat → Int32}
theorem cl_hi (g : cd_gd P w n) (k : Nat) (x : Int32) (hx : ∀ b, 9 ≤ b → b < 32 → bt x b = false) : ∀ b, 9 ≤ b → b < 32 → bt (cd_clR n k x) b = false :=
  clR_inv n (fun y => ∀ b, 9 ≤ b → b < 32 → bt y b = false) (fun u y hu hy b h1 h2 => by rw [cl1_bit n hu, hy b h1 h2, gd_hi g hu b h1 h2, Bool.and_false]; rfl) k x hx
theorem clo_def (P : Int32) (n : Nat → Int32) (S : Int32) : cd_closure P n S = cd_it (cd_clR n) 9 (S &&& P) := rfl
theorem A_in (P S : Int32) : cd_in9 P (S &&& P) := fun i hi h => by rw [b_and, Bool.and_eq_true] at h; exact h.2
theorem clo_fix (g : cd_gd P w n) (S : Int32) : cd_clR n 0 (cd_closure P n S) = cd_closure P n S := by
  rw [clo_def]
  refine fix_it (f := cd_clR n) (N := 9) (by omega) (clR_same n) (clR_sub n) (cl_hi g) (fun b h1 h2 => ?_)
  cases h : bt (S &&& P) b with
  | false => rfl
  | true =>
    have := A_in P S b h2 h
    rw [g.1 b h1 h2] at this
    cases this
theorem clo_sub (P : Int32) (n : Nat → Int32) (S : Int32) : cd_sub (S &&& P) (cd_closure P n S) := by
  rw [clo_def]
  exact it_sub (clR_sub n) (S &&& P) 9 0 (by omega)
theorem clo_min (S : Int32) {x : Int32} (h1 : cd_sub (S &&& P) x) (h2 : cd_ncl n x) : cd_sub (cd_closure P n S) x := by
  rw [clo_def]
  exact it_inv (f := cd_clR n) (fun _ y => cd_sub y x) 9 (fun k y hk hy => clR_inv n (fun v => cd_sub v x) (fun u v hu hv i hi h => by
    rw [cl1_bit n hu, Bool.or_eq_true, Bool.and_eq_true] at h
    rcases h with h | h
    · exact hv i hi h
    · exact h2 u hu (hv u (by omega) h.1) i hi h.2) k y hy) h1 9 (Nat.le_refl _)
theorem dn_nI {i : Nat} (h : i ≤ 511) : cd_dn 511 i = nI (511 - i) := by
  apply cd_inj
  rw [cd_dn_t (by omega) (by omega), nI_toInt (by omega)]
  omega
theorem closure_eq (g : cd_gd P w n) (S : Int32) : cd_closure P n S = cd_mclosure P n S := by
  have hn := clR_closed n (clo_fix g S)
  have hA := clo_sub P n S
  have hin : cd_in9 P (cd_closure P n S) := clo_min S (A_in P S) (fun u hu _ b hb h => g.2.2.1 u b hu hb h)
  obtain ⟨c, hc, e⟩ := in9_num g hin
  have ok : ∀ o, o < 512 → (cd_closed P n (nI o) && decide ((S &&& P) &&& (nI o ^^^ (-1)) = 0)) = true → c ≤ o := by
    intro o ho h
    rw [Bool.and_eq_true, decide_eq_true_eq, closed_iff, cb_sub] at h
    have h1 := clo_min S h.2 h.1.2
    rw [e] at h1
    have := num_le ho h1
    rw [nI_num (by omega)] at this
    exact this
  have okc : (cd_closed P n (nI c) && decide ((S &&& P) &&& (nI c ^^^ (-1)) = 0)) = true := by
    rw [Bool.and_eq_true, decide_eq_true_eq, closed_iff, cb_sub, ← e]
    exact ⟨⟨hin, hn⟩, hA⟩
  have hI := it_inv (f := cd_mc1 P n (S &&& P)) (fun i x => 512 ≤ c + i → x = nI c) 512 (fun i x hi hx h => by
    unfold cd_mc1
    rw [dn_nI (by omega)]
    by_cases q : 511 - i = c
    · rw [q, if_pos okc]
    · rw [if_neg (fun z => by have := ok (511 - i) (by omega) z; omega)]
      exact hx (by omega)) (a := 0) (fun h => by omega) 512 (Nat.le_refl _)
  rw [e]
  exact (hI (by omega)).symm
end CLO
end
section
/-! an undertaking forced in or out -/
theorem wx_upd (w : Nat → Int32) {j : Nat} (hj : j < 9) (c : Int32) (m : Nat) : cd_wx (upd w j c) m = cd_wx w m + (if bt (nI m) j then c.toInt - (w j).toInt else 0) := by
  unfold cd_wx cd_wor
  rw [sm_point (f := fun u => if cd_st (nI m) u then (w u).toInt else 0) (k := j) hj]
  · try dsimp only
    rw [pk_us, st_at _ hj]
    cases bt (nI m) j <;> simp
  · intro i hi hne
    try dsimp only
    rw [pk_un hne]
theorem wx_b {P : Int32} {w n : Nat → Int32} (g : cd_gd P w n) (m : Nat) : -450 ≤ cd_wx w m ∧ cd_wx w m ≤ 450 := by
  have := wor_b (c := 50) (by omega) (fun u hu => ⟨by have := g.2.1 u hu; omega, by have := g.2.1 u hu; omega⟩) (cd_st (nI m)) (k := w)
  unfold cd_wx
  omega
theorem closed_P {P : Int32} {w n : Nat → Int32} (g : cd_gd P w n) : cd_closed P n P = true := closed_iff.mpr ⟨fun _ _ h => h, fun u hu _ b hb h => g.2.2.1 u b hu hb h⟩
section FOR
variable {P : Int32} {w n r : Nat → Int32} {fs v : Int32} {j : Nat}
theorem mx_with (g : cd_gd P w n) (hj : j < 9) (hp : bt P j = true) (hf : cd_fin P n (upd w j 1000) r fs v) (c : Int32) : cd_mx (fun m => bt (nI m) j && cd_closed P n (nI m)) (cd_wx (upd w j c)) (v.toInt - 1000 + c.toInt) := by
  obtain ⟨⟨x0, a1, a2, a3⟩, a4⟩ := mx_fin g (aok_with g hj).1 hf
  have e : (1000 : Int32).toInt = 1000 := rfl
  have hwj := g.2.1 j hj
  obtain ⟨Pn, hPn, eP⟩ := in9_num g (x := P) (fun _ _ h => h)
  have hfull := a4 Pn hPn (show cd_closed P n (nI Pn) = true by rw [← eP]; exact closed_P g)
  rw [wx_upd w hj, ← eP, hp, if_pos rfl, e] at hfull
  have b1 := wx_b g Pn
  have hx0 : bt (nI x0) j = true := by
    cases hb : bt (nI x0) j with
    | true => rfl
    | false =>
      rw [wx_upd w hj, hb] at a3
      simp only [Bool.false_eq_true, if_false] at a3
      have := wx_b g x0
      omega
  have conv : ∀ m, bt (nI m) j = true → cd_wx (upd w j c) m = cd_wx (upd w j 1000) m - 1000 + c.toInt := fun m h => by
    rw [wx_upd w hj, wx_upd w hj, h, if_pos rfl, if_pos rfl, e]
    omega
  refine ⟨⟨x0, a1, ?_, ?_⟩, fun x hx h => ?_⟩
  · show (bt (nI x0) j && cd_closed P n (nI x0)) = true
    rw [hx0]; exact a2
  · rw [conv x0 hx0, a3]
  · rw [Bool.and_eq_true] at h
    rw [conv x h.1]
    have := a4 x hx h.2
    omega
theorem with_b (g : cd_gd P w n) (hj : j < 9) (hf : cd_fin P n (upd w j 1000) r fs v) : 0 ≤ v.toInt ∧ v.toInt ≤ 9000 := by
  obtain ⟨⟨x0, a1, a2, a3⟩, a4⟩ := mx_fin g (aok_with g hj).1 hf
  have := wor_b (c := 1000) (by omega) (aok_with g hj).1 (cd_st (nI x0))
  have h0 := soI_nn hf.1
  unfold cd_wx at a3
  omega
theorem without_b (g : cd_gd P w n) (hj : j < 9) (hf : cd_fin P n (upd w j (-1000)) r fs v) : 0 ≤ v.toInt ∧ v.toInt ≤ 9000 := by
  obtain ⟨⟨x0, a1, a2, a3⟩, a4⟩ := mx_fin g (aok_without g hj).1 hf
  have := wor_b (c := 1000) (by omega) (aok_without g hj).1 (cd_st (nI x0))
  have h0 := soI_nn hf.1
  unfold cd_wx at a3
  omega
theorem mx_wout (g : cd_gd P w n) (hj : j < 9) (hf : cd_fin P n (upd w j (-1000)) r fs v) (c : Int32) : cd_mx (fun m => !bt (nI m) j && cd_closed P n (nI m)) (cd_wx (upd w j c)) v.toInt := by
  obtain ⟨⟨x0, a1, a2, a3⟩, a4⟩ := mx_fin g (aok_without g hj).1 hf
  have e : (-1000 : Int32).toInt = -1000 := rfl
  have hwj := g.2.1 j hj
  have h0 := soI_nn hf.1
  have hx0 : bt (nI x0) j = false := by
    cases hb : bt (nI x0) j with
    | false => rfl
    | true =>
      rw [wx_upd w hj, hb, if_pos rfl, e] at a3
      have := wx_b g x0
      omega
  have conv : ∀ m, bt (nI m) j = false → cd_wx (upd w j c) m = cd_wx (upd w j (-1000)) m := fun m h => by
    rw [wx_upd w hj, wx_upd w hj, h]
    rfl
  refine ⟨⟨x0, a1, ?_, ?_⟩, fun x hx h => ?_⟩
  · show (!bt (nI x0) j && cd_closed P n (nI x0)) = true
    rw [hx0]; exact a2
  · rw [conv x0 hx0, a3]
  · rw [Bool.and_eq_true, Bool.not_eq_true'] at h
    rw [conv x h.1]
    exact a4 x hx h.2
theorem gq_must (P : Int32) (n : Nat → Int32) (hj : j < 9) (m : Nat) : cd_gq P n ((1 : Int32) <<< (nI j &&& 31)) 0 m = (bt (nI m) j && cd_closed P n (nI m)) := by
  unfold cd_gq
  rw [decide_eq_true (and0 _), Bool.true_and]
  congr 1
  cases hb : bt (nI m) j with
  | true =>
    refine decide_eq_true (cb_sub.mpr (fun i hi h => ?_))
    rw [cb_one (by omega) hi, decide_eq_true_eq] at h
    rw [h]; exact hb
  | false =>
    refine decide_eq_false (fun h => ?_)
    have := cb_sub.mp h j (by omega) (by rw [cb_one (by omega) (by omega)]; exact decide_eq_true rfl)
    rw [hb] at this
    cases this
theorem gq_never (P : Int32) (n : Nat → Int32) (hj : j < 9) (m : Nat) : cd_gq P n 0 ((1 : Int32) <<< (nI j &&& 31)) m = (!bt (nI m) j && cd_closed P n (nI m)) := by
  unfold cd_gq
  rw [decide_eq_true (and0 _), Bool.true_and]
  congr 1
  cases hb : bt (nI m) j with
  | true =>
    refine decide_eq_false (fun h => ?_)
    have := cb_zero.mp h j (by omega)
    rw [b_and, hb, cb_one (by omega) (by omega), decide_eq_true rfl] at this
    cases this
  | false =>
    refine decide_eq_true (cb_zero.mpr (fun i hi => ?_))
    rw [b_and, cb_one (by omega) hi]
    by_cases h : i = j
    · rw [h, hb, Bool.and_false]
    · rw [decide_eq_false h]; rfl
theorem gd_w (g : cd_gd P w n) {c : Int32} (hc : -50 ≤ c.toInt ∧ c.toInt ≤ 50) : cd_gd P (upd w j c) n :=
  ⟨g.1, fun u hu => by
    by_cases h : u = j
    · rw [h, pk_us]; exact hc
    · rw [pk_un h]; exact g.2.1 u hu, g.2.2⟩
theorem great_with (g : cd_gd P w n) (hj : j < 9) (hp : bt P j = true) (hf : cd_fin P n (upd w j 1000) r fs v) {c : Int32} (hc : -50 ≤ c.toInt ∧ c.toInt ≤ 50) : (cd_greatest P (upd w j c) n ((1 : Int32) <<< (nI j &&& 31)) 0).toInt = v.toInt - 1000 + c.toInt := by
  have hm := mx_with g hj hp hf c
  obtain ⟨⟨x0, a1, a2, a3⟩, a4⟩ := hm
  exact (mx_uniq (fun x _ => (gq_must P n hj x).symm) (fun _ _ _ => rfl) (mx_with g hj hp hf c) (gr_spec (gd_b (gd_w g hc)) ⟨x0, a1, by rw [gq_must P n hj]; exact a2⟩)).symm
theorem great_wout (g : cd_gd P w n) (hj : j < 9) (hf : cd_fin P n (upd w j (-1000)) r fs v) : v = cd_greatest P w n 0 ((1 : Int32) <<< (nI j &&& 31)) := by
  have hm := mx_wout g hj hf (w j)
  rw [cd_upd_self] at hm
  obtain ⟨⟨x0, a1, a2, a3⟩, a4⟩ := id hm
  exact cd_inj (mx_uniq (fun x _ => (gq_never P n hj x).symm) (fun _ _ _ => rfl) hm (gr_spec (gd_b g) ⟨x0, a1, by rw [gq_never P n hj]; exact a2⟩))
/-- bestWith -/
theorem with_eq (g : cd_gd P w n) (hj : j < 9) (hp : bt P j = true) (hf : cd_fin P n (upd w j 1000) r fs v) : (v - 1000) + w j = cd_greatest P w n ((1 : Int32) <<< (nI j &&& 31)) 0 := by
  have h := great_with g hj hp hf (c := w j) (g.2.1 j hj)
  rw [cd_upd_self] at h
  have hb := with_b g hj hf
  have hw := g.2.1 j hj
  have e : (1000 : Int32).toInt = 1000 := rfl
  have e1 : (v - 1000).toInt = v.toInt - 1000 := by rw [cd_subI (by omega) (by omega)]; omega
  apply cd_inj
  rw [h, cd_addI (by omega) (by omega), e1]
/-- bestWithout, of what isn't there -/
theorem none_eq {z : Int32} (g : cd_gd P w n) (hj : j < 9) (hp : bt P j = false) (hf : cd_fin P n w r fs z) : z = cd_greatest P w n 0 ((1 : Int32) <<< (nI j &&& 31)) := by
  have hm := mx_fin g (gd_b g) hf
  have ho : ∀ x, x < 512 → cd_closed P n (nI x) = cd_gq P n 0 ((1 : Int32) <<< (nI j &&& 31)) x := fun x _ => by
    rw [gq_never P n hj]
    cases hc : cd_closed P n (nI x) with
    | false => rw [Bool.and_false]
    | true =>
      have : bt (nI x) j = false := by
        cases hb : bt (nI x) j with
        | false => rfl
        | true =>
          have := (closed_iff.mp hc).1 j (by omega) hb
          rw [hp] at this
          cases this
      rw [this]; rfl
  exact cd_inj (mx_uniq ho (fun _ _ _ => rfl) hm (gr_spec (gd_b g) ⟨0, by omega, by rw [← ho 0 (by omega)]; exact closed_0 P n⟩))
variable {r2 : Nat → Int32} {fs2 v2 : Int32}
/-- with a worth of c the undertaking is in a best set just when c makes up what it costs -/
theorem best_when (g : cd_gd P w n) (hj : j < 9) (hp : bt P j = true) (hf1 : cd_fin P n (upd w j (-1000)) r fs v) (hf2 : cd_fin P n (upd w j 1000) r2 fs2 v2) {c : Int32} (hc : -50 ≤ c.toInt ∧ c.toInt ≤ 50) : (cd_greatest P (upd w j c) n ((1 : Int32) <<< (nI j &&& 31)) 0 = cd_best P (upd w j c) n) ↔ v.toInt ≤ v2.toInt - 1000 + c.toInt := by
  have hg := great_with g hj hp hf2 hc
  have hb := best_mx (gd_w (j := j) g hc)
  obtain ⟨⟨x1, a1, a2, a3⟩, a4⟩ := mx_with g hj hp hf2 c
  obtain ⟨⟨x0, b1, b2, b3⟩, b4⟩ := mx_wout g hj hf1 c
  rw [Bool.and_eq_true] at a2 b2
  have up : ∀ x, x < 512 → cd_closed P n (nI x) = true → cd_wx (upd w j c) x ≤ v2.toInt - 1000 + c.toInt ∨ cd_wx (upd w j c) x ≤ v.toInt := fun x hx h => by
    cases hq : bt (nI x) j with
    | true => exact Or.inl (a4 x hx (by show (bt (nI x) j && cd_closed P n (nI x)) = true; rw [hq, h]; rfl))
    | false => exact Or.inr (b4 x hx (by show (!bt (nI x) j && cd_closed P n (nI x)) = true; rw [hq, h]; rfl))
  constructor
  · intro h
    rw [← hg, h, ← b3]
    exact hb.2 x0 b1 b2.2
  · intro h
    apply cd_inj
    rw [hg]
    refine mx_uniq (ok := fun m => cd_closed P n (nI m)) (f := cd_wx (upd w j c)) (fun _ _ => rfl) (fun _ _ _ => rfl) ⟨⟨x1, a1, a2.2, a3⟩, fun x hx hcx => ?_⟩ hb
    rcases up x hx hcx with q | q
    · exact q
    · omega
theorem clamp_I {x : Int32} : (cd_clamp x).toInt = if 50 < x.toInt then 51 else if x.toInt ≤ -50 then -50 else x.toInt := by
  have e50 : (50 : Int32).toInt = 50 := rfl
  have em : (-50 : Int32).toInt = -50 := rfl
  unfold cd_clamp
  by_cases h : x ≤ 50
  · have h' := cd_leI.mp h
    rw [if_pos h, if_neg (c := 50 < x.toInt) (by omega)]
    by_cases k : -50 ≤ x
    · have k' := cd_leI.mp k
      rw [if_pos k]
      split <;> omega
    · have k' : ¬ (-50 : Int32).toInt ≤ x.toInt := fun q => k (cd_leI.mpr q)
      rw [if_neg k, if_pos (by omega)]
      rfl
  · have h' : ¬ x.toInt ≤ (50 : Int32).toInt := fun q => h (cd_leI.mpr q)
    rw [if_neg h, if_pos (by omega)]
    rfl
theorem thr_eq (g : cd_gd P w n) (hj : j < 9) (hp : bt P j = true) (hf1 : cd_fin P n (upd w j (-1000)) r fs v) (hf2 : cd_fin P n (upd w j 1000) r2 fs2 v2) {f : Nat → Int32 → Int32} (hf : ∀ i x, i < 101 → f i x = if cd_greatest P (upd w j (cd_dn 50 i)) n ((1 : Int32) <<< (nI j &&& 31)) 0 = cd_best P (upd w j (cd_dn 50 i)) n then cd_dn 50 i else x) : cd_clamp (v - (v2 - 1000)) = cd_it f 101 51 := by
  have hb1 := without_b g hj hf1
  have hb2 := with_b g hj hf2
  have e : (1000 : Int32).toInt = 1000 := rfl
  have e1 : (v2 - 1000).toInt = v2.toInt - 1000 := by rw [cd_subI (by omega) (by omega)]; omega
  have eD : (v - (v2 - 1000)).toInt = v.toInt - (v2.toInt - 1000) := by rw [cd_subI (by omega) (by omega), e1]
  apply cd_inj
  rw [clamp_I, eD]
  generalize hD : v.toInt - (v2.toInt - 1000) = D
  have hI := it_inv (f := f) (fun i x => x.toInt = if i = 0 then 51 else if 50 < D then 51 else if D ≤ 51 - (i : Int) then 51 - (i : Int) else D) 101 (fun i x hi hx => by
    rw [hf i x hi]
    have ht := cd_dn_t (a := 50) (i := i) (by omega) (by omega)
    have hw := best_when g hj hp hf1 hf2 (c := cd_dn 50 i) (by rw [ht]; omega)
    rw [ht] at hw
    by_cases q : D ≤ 50 - (i : Int)
    · rw [if_pos (hw.mpr (by omega)), ht, if_neg (c := i + 1 = 0) (by omega), if_neg (c := 50 < D) (by omega), if_pos (by omega)]
      omega
    · rw [if_neg (fun z => by have := hw.mp z; omega), hx, if_neg (c := i + 1 = 0) (by omega)]
      by_cases p : 50 < D
      · rw [if_pos p, if_pos p]
        split <;> rfl
      · have i0 : i ≠ 0 := by omega
        rw [if_neg p, if_neg p, if_neg i0, if_neg (c := D ≤ 51 - ((i + 1 : Nat) : Int)) (by omega)]
        split <;> omega) (a := 51) rfl 101 (Nat.le_refl _)
  have e101 : (51 : Int) - ((101 : Nat) : Int) = -50 := by omega
  rw [hI, if_neg (c := (101 : Nat) = 0) (by omega), e101]
end FOR
end
section
/-! desk and model side by side -/
def cd_rel (σ : cd_D) (μ : cd_M) : Prop := cd_gd (gP σ) (gW σ) (gN σ) ∧ (∀ u, u < 9 → mT μ u = cd_zb (bt (gP σ) u)) ∧ (∀ u, u < 9 → mW μ u = gW σ u) ∧ ∀ u, u < 9 → mN μ u = gN σ u
theorem rel_0 : cd_rel cd_s0 cd_m0 := by
  have z : (0 : Int32).toInt = 0 := rfl
  refine ⟨⟨fun i _ _ => b_0 i, fun u _ => ?_, fun a b _ _ h => ?_, fun a _ => b_0 a⟩, fun u _ => ?_, fun u _ => rfl, fun u _ => rfl⟩
  · show -50 ≤ (0 : Int32).toInt ∧ (0 : Int32).toInt ≤ 50
    omega
  · have h : bt 0 b = true := h
    rw [b_0] at h
    cases h
  · show (0 : Int32) = cd_zb (bt 0 u)
    rw [b_0]
    rfl
theorem rel_sd {σ τ : cd_D} {μ : cd_M} (h : cd_sd σ τ) (r : cd_rel σ μ) : cd_rel τ μ := by
  unfold cd_rel
  rw [h.1, h.2.1, h.2.2]
  exact r
theorem zb_ne (b : Bool) : decide (¬ cd_zb b = 0) = b := by cases b <;> decide
theorem is_eq {σ : cd_D} {μ : cd_M} (r : cd_rel σ μ) (u : Int32) : cd_is (mT μ) u = cd_has (gP σ) u := by
  by_cases h1 : u < 0
  · rw [cd_is_lt h1, cd_has_lt h1]
  · by_cases h2 : 9 ≤ u
    · rw [cd_is_ge h2, cd_has_ge h2]
    · obtain ⟨j, hj, rfl⟩ := cd_ix h1 h2
      rw [cd_is_n hj, cd_has_n hj, cb_in (by omega), r.2.1 j hj, zb_ne]
theorem has_bt {P : Int32} {j : Nat} (hj : j < 9) : cd_has P (nI j) = bt P j := by rw [cd_has_n hj, cb_in (by omega)]
theorem under_eq {σ : cd_D} {μ : cd_M} (r : cd_rel σ μ) : cd_under (mT μ) = gP σ := by
  have hI := it_inv (f := cd_un1 (mT μ)) (fun k x => ∀ i, i < 32 → bt x i = (bt (gP σ) i && decide (i < k))) 9 (fun k x hk hx i hi => by
    have h := hx i hi
    unfold cd_un1
    rw [r.2.1 k hk]
    cases hp : bt (gP σ) k with
    | true =>
      rw [if_neg (by decide), b_or, h, cb_one (by omega) hi]
      by_cases e : i = k
      · rw [e, hp, decide_eq_true rfl, decide_eq_true (show k < k + 1 by omega), Bool.or_true]; rfl
      · rw [decide_eq_false e, Bool.or_false]
        by_cases c : i < k
        · rw [decide_eq_true c, decide_eq_true (show i < k + 1 by omega)]
        · rw [decide_eq_false c, decide_eq_false (show ¬ i < k + 1 by omega)]
    | false =>
      rw [if_pos (show cd_zb false = 0 from rfl), h]
      by_cases e : i = k
      · rw [e, hp]; rfl
      · by_cases c : i < k
        · rw [decide_eq_true c, decide_eq_true (show i < k + 1 by omega)]
        · rw [decide_eq_false c, decide_eq_false (show ¬ i < k + 1 by omega)]) (a := 0) (fun i hi => by rw [b_0, decide_eq_false (Nat.not_lt_zero i), Bool.and_false]) 9 (Nat.le_refl _)
  refine b_ext (fun i hi => ?_)
  have h := hI i hi
  change bt (cd_under (mT μ)) i = _ at h
  rw [h]
  by_cases c : i < 9
  · rw [decide_eq_true c, Bool.and_true]
  · rw [r.1.1 i (by omega) hi]; rfl
theorem it_congr {α : Type} {f g : Nat → α → α} {N : Nat} (h : ∀ i x, i < N → f i x = g i x) (a : α) : ∀ n, n ≤ N → cd_it f n a = cd_it g n a := by
  intro n
  induction n with
  | zero => intro _; rfl
  | succ n ih => intro hn; rw [cd_it_s, cd_it_s, ih (by omega), h n _ (by omega)]
section CON
variable {U : Int32} {w w' n n' : Nat → Int32}
theorem closed_congr (hn : ∀ u, u < 9 → n u = n' u) (x : Int32) : cd_closed U n x = cd_closed U n' x := by
  rw [Bool.eq_iff_iff, closed_iff, closed_iff]
  constructor
  · rintro ⟨h1, h2⟩
    exact ⟨h1, fun u hu hx b hb h => h2 u hu hx b hb (by rw [hn u hu]; exact h)⟩
  · rintro ⟨h1, h2⟩
    exact ⟨h1, fun u hu hx b hb h => h2 u hu hx b hb (by rw [← hn u hu]; exact h)⟩
theorem sum_congr (hw : ∀ u, u < 9 → w u = w' u) (x : Int32) : cd_sum w x = cd_sum w' x :=
  it_congr (N := 9) (fun i s hi => by unfold cd_su1; rw [hw i hi]) 0 9 (Nat.le_refl _)
theorem gq_congr (hn : ∀ u, u < 9 → n u = n' u) (must never : Int32) (m : Nat) : cd_gq U n must never m = cd_gq U n' must never m := by
  unfold cd_gq
  rw [closed_congr hn]
theorem great_congr (hw : ∀ u, u < 9 → w u = w' u) (hn : ∀ u, u < 9 → n u = n' u) (must never : Int32) : cd_greatest U w n must never = cd_greatest U w' n' must never :=
  it_congr (N := 512) (fun i s _ => by unfold cd_gr1; rw [gq_congr hn, sum_congr hw]) (-100000) 512 (Nat.le_refl _)
theorem best_congr (hw : ∀ u, u < 9 → w u = w' u) (hn : ∀ u, u < 9 → n u = n' u) : cd_best U w n = cd_best U w' n' := great_congr hw hn 0 0
theorem isb_congr (hw : ∀ u, u < 9 → w u = w' u) (hn : ∀ u, u < 9 → n u = n' u) (b : Int32) (m : Nat) : cd_isb U w n b m = cd_isb U w' n' b m := by
  unfold cd_isb
  rw [closed_congr hn, sum_congr hw]
theorem mclosure_congr (hn : ∀ u, u < 9 → n u = n' u) (S : Int32) : cd_mclosure U n S = cd_mclosure U n' S :=
  it_congr (N := 512) (fun i s _ => by unfold cd_mc1; rw [closed_congr hn]) 0 512 (Nat.le_refl _)
theorem upd_congr (hw : ∀ u, u < 9 → w u = w' u) (j : Nat) (c : Int32) : ∀ u, u < 9 → upd w j c u = upd w' j c u := fun u hu => by
  by_cases h : u = j
  · rw [h, pk_us, pk_us]
  · rw [pk_un h, pk_un h, hw u hu]
end CON
/-! answer by answer -/
section OPS
variable {σ τ : cd_D} {μ ν : cd_M} {z y : Int32}
theorem op_closed (r : cd_rel σ μ) (S : Int32) : cd_closed (gP σ) (gN σ) S = cd_closed (cd_under (mT μ)) (mN μ) S := by
  rw [under_eq r]
  exact (closed_congr r.2.2.2 S).symm
theorem op_closure (r : cd_rel σ μ) (S : Int32) : cd_closure (gP σ) (gN σ) S = cd_mclosure (cd_under (mT μ)) (mN μ) S := by
  rw [under_eq r, mclosure_congr r.2.2.2]
  exact closure_eq r.1 S
theorem op_best (r : cd_rel σ μ) (h : cd_besP σ z τ) : z = cd_best (cd_under (mT μ)) (mW μ) (mN μ) ∧ cd_rel τ μ := by
  obtain ⟨hs, q, fs, hf⟩ := h
  refine ⟨?_, rel_sd hs r⟩
  rw [under_eq r, best_congr r.2.2.1 r.2.2.2]
  exact best_eq r.1 hf
theorem op_least (r : cd_rel σ μ) (h : cd_leaP σ z τ) : z = cd_it (cd_lb1 (cd_under (mT μ)) (mW μ) (mN μ) (cd_best (cd_under (mT μ)) (mW μ) (mN μ))) 512 (cd_under (mT μ)) ∧ cd_rel τ μ := by
  obtain ⟨hs, q, fs, v, hf, e⟩ := h
  refine ⟨?_, rel_sd hs r⟩
  rw [under_eq r, best_congr r.2.2.1 r.2.2.2, ← best_eq r.1 hf, e, least_eq r.1 hf]
  exact it_congr (N := 512) (fun i s _ => by unfold cd_lb1; rw [isb_congr (fun u hu => (r.2.2.1 u hu).symm) (fun u hu => (r.2.2.2 u hu).symm)]) _ 512 (Nat.le_refl _)
theorem op_great (r : cd_rel σ μ) (h : cd_greP σ z τ) : z = cd_it (cd_gb1 (cd_under (mT μ)) (mW μ) (mN μ) (cd_best (cd_under (mT μ)) (mW μ) (mN μ))) 512 0 ∧ cd_rel τ μ := by
  obtain ⟨hs, q, fs, v, hf, e⟩ := h
  refine ⟨?_, rel_sd hs r⟩
  rw [under_eq r, best_congr r.2.2.1 r.2.2.2, ← best_eq r.1 hf, e, great_eq r.1 hf]
  exact it_congr (N := 512) (fun i s _ => by unfold cd_gb1; rw [isb_congr (fun u hu => (r.2.2.1 u hu).symm) (fun u hu => (r.2.2.2 u hu).symm)]) _ 512 (Nat.le_refl _)
theorem op_choices (r : cd_rel σ μ) {Pn : Nat} (hPn : Pn < 512) (hP : gP σ = nI Pn) (h : cd_choP σ Pn z τ) : z = cd_it (cd_co1 (cd_under (mT μ)) (mW μ) (mN μ) (cd_best (cd_under (mT μ)) (mW μ) (mN μ))) 512 0 ∧ cd_rel τ μ := by
  obtain ⟨hs, q, fs, v, hf, e⟩ := h
  refine ⟨?_, rel_sd hs r⟩
  rw [under_eq r, best_congr r.2.2.1 r.2.2.2, ← best_eq r.1 hf, e, choices_eq r.1 hf hPn hP]
  exact it_congr (N := 512) (fun i s _ => by unfold cd_co1; rw [isb_congr (fun u hu => (r.2.2.1 u hu).symm) (fun u hu => (r.2.2.2 u hu).symm)]) _ 512 (Nat.le_refl _)
theorem op_with (r : cd_rel σ μ) {u : Int32} (h : cd_bwiP σ u z τ) : z = cd_mwith (mT μ) (mW μ) (mN μ) u ∧ cd_rel τ μ := by
  obtain ⟨hs, h⟩ := h
  refine ⟨?_, rel_sd hs r⟩
  unfold cd_mwith
  rw [is_eq r]
  rcases h with ⟨h1, h2⟩ | ⟨h1, j, hj, rfl, q, fs, v, hf, e⟩
  · rw [h1, h2]; rfl
  · rw [h1, e, under_eq r, if_pos rfl, great_congr r.2.2.1 r.2.2.2]
    rw [has_bt hj] at h1
    exact with_eq r.1 hj h1 hf
theorem op_without (r : cd_rel σ μ) {u : Int32} (h : cd_bwoP σ u z τ) : z = cd_mwithout (mT μ) (mW μ) (mN μ) u ∧ cd_rel τ μ := by
  obtain ⟨hs, h⟩ := h
  refine ⟨?_, rel_sd hs r⟩
  unfold cd_mwithout
  rw [under_eq r, great_congr r.2.2.1 r.2.2.2]
  rcases h with ⟨h1, q, fs, hf⟩ | ⟨h1, j, hj, rfl, q, fs, hf⟩
  · by_cases c1 : u < 0
    · rw [decide_eq_false (p := ¬ u < 0) (fun n => n c1)]
      exact best_eq r.1 hf
    · by_cases c2 : 9 ≤ u
      · rw [decide_eq_false (p := ¬ 9 ≤ u) (fun n => n c2), Bool.and_false]
        exact best_eq r.1 hf
      · obtain ⟨j, hj, rfl⟩ := cd_ix c1 c2
        rw [decide_eq_true c1, decide_eq_true c2, if_pos (show (true && true) = true from rfl)]
        rw [has_bt hj] at h1
        exact none_eq r.1 hj h1 hf
  · have c1 : ¬ nI j < 0 := nI_pos (by omega)
    have c2 : ¬ 9 ≤ nI j := nI_ge (b := 9) hj (by omega)
    rw [decide_eq_true c1, decide_eq_true c2, if_pos (show (true && true) = true from rfl)]
    exact great_wout r.1 hj hf
theorem op_thr (r : cd_rel σ μ) {u : Int32} (h : cd_thrP σ u z τ) : z = (if cd_is (mT μ) u then cd_it (cd_th1 (mT μ) (mW μ) (mN μ) u) 101 51 else -100000) ∧ cd_rel τ μ := by
  obtain ⟨hs, h⟩ := h
  refine ⟨?_, rel_sd hs r⟩
  rcases h with ⟨h1, h2⟩ | ⟨h1, j, hj, rfl, r1, fs1, v1, r2, fs2, v2, hf1, hf2, e⟩
  · rw [is_eq r, h1, h2]; rfl
  · have hi : cd_is (mT μ) (nI j) = true := by rw [is_eq r]; exact h1
    rw [if_pos hi, e]
    rw [has_bt hj] at h1
    refine thr_eq r.1 hj h1 hf1 hf2 (fun i x hi2 => ?_)
    unfold cd_th1 cd_mwith
    rw [if_pos hi, nI_clamp (by omega), under_eq r, great_congr (upd_congr r.2.2.1 j _) r.2.2.2, best_congr (upd_congr r.2.2.1 j _) r.2.2.2]
theorem nok_eq (r : cd_rel σ μ) (u v : Int32) : cd_mnok (mT μ) u v = cd_nok (gP σ) u v := by
  unfold cd_mnok cd_nok
  rw [is_eq r, is_eq r]
  cases cd_has (gP σ) u <;> cases cd_has (gP σ) v <;> cases decide (¬ u = v) <;> rfl
theorem off_id {x : Int32} {i : Nat} (hi : i < 9) (h : bt x i = false) : x &&& (((1 : Int32) <<< (nI i &&& 31)) ^^^ (-1)) = x := by
  refine b_ext (fun b hb => ?_)
  rw [bt_off x (by omega) hb]
  by_cases e : b = i
  · rw [e, h]; rfl
  · rw [decide_eq_true e, Bool.and_true]
theorem op_bur (r : cd_rel σ μ) {u v : Int32} (h : cd_burP σ u v z τ) : z = (if cd_mnok (mT μ) u v then cd_best (cd_under (mT μ)) (mW μ) (upd (mN μ) u.toNatClampNeg (mN μ u.toNatClampNeg &&& (((1 : Int32) <<< (v &&& 31)) ^^^ (-1)))) - cd_best (cd_under (mT μ)) (mW μ) (mN μ) else -100000) ∧ cd_rel τ μ := by
  obtain ⟨hs, h⟩ := h
  refine ⟨?_, rel_sd hs r⟩
  rw [nok_eq r]
  rcases h with ⟨h1, h2⟩ | ⟨h1, j, i, hj, hi, rfl, rfl, h⟩
  · rw [h1, h2]; rfl
  · rw [h1, if_pos rfl, nI_clamp (by omega), under_eq r, r.2.2.2 j hj, best_congr r.2.2.1 (upd_congr r.2.2.2 j _), best_congr r.2.2.1 r.2.2.2]
    rcases h with ⟨h2, h3⟩ | ⟨r1, fs1, v1, r2, fs2, v2, hf1, hf2, e⟩
    · rw [off_id hi h2, cd_upd_self, h3, Int32.sub_self]
    · rw [e, best_eq r.1 hf1, best_eq (gd_off r.1 hi) hf2]
/-! the writers -/
theorem wok_b {w : Int32} (h : cd_wok w = true) : -50 ≤ w.toInt ∧ w.toInt ≤ 50 := by
  unfold cd_wok at h
  rw [Bool.and_eq_true, decide_eq_true_eq, decide_eq_true_eq] at h
  have e1 : (-50 : Int32).toInt = -50 := rfl
  have e2 : (50 : Int32).toInt = 50 := rfl
  have h1 : ¬ w.toInt < (-50 : Int32).toInt := fun q => h.1 (cd_ltI.mpr q)
  have h2 : ¬ (50 : Int32).toInt < w.toInt := fun q => h.2 (cd_ltI.mpr q)
  omega
theorem wok_8 {w : Int32} (h : cd_wok w = true) : w.toInt8.toInt32 = w := by
  have := wok_b h
  exact cd_i8 (by omega) (by omega)
theorem op_add (r : cd_rel σ μ) {w : Int32} (h : cd_addP σ w z τ) (h' : cd_maddP μ w y ν) : z = y ∧ cd_rel τ ν := by
  have hb : ∀ v, v < 9 → (cd_has (gP σ) (nI v) = true ↔ ¬ mT μ v = 0) := fun v hv => by
    rw [has_bt hv, r.2.1 v hv]
    cases bt (gP σ) v <;> decide
  rcases h with ⟨a1, a2, a3⟩ | ⟨a1, u, a2, a3, a4, a5, a6⟩ | ⟨a1, a2, a3, a4⟩ <;> rcases h' with ⟨b1, b2, b3⟩ | ⟨b1, u', b2, b3, b4, b5, b6⟩ | ⟨b1, b2, b3, b4⟩
  · rw [a2, b2, a3, b3]; exact ⟨rfl, r⟩
  · rw [a1] at b1; cases b1
  · rw [a1] at b1; cases b1
  · rw [a1] at b1; cases b1
  · have e : u = u' := by
      rcases Nat.lt_trichotomy u u' with c | c | c
      · have := (hb u a2).mpr (b3 u c)
        rw [a4] at this
        cases this
      · exact c
      · exact absurd b4 ((hb u' b2).mp (a3 u' c))
    subst e
    refine ⟨by rw [a5, b5], ?_⟩
    rw [a6, b6, wok_8 a1]
    obtain ⟨g, t1, t2, t3⟩ := r
    have gp : ∀ i, i < 32 → bt (gP σ ||| ((1 : Int32) <<< (nI u &&& 31))) i = (bt (gP σ) i || decide (i = u)) := fun i hi => bt_on _ (by omega) hi
    refine ⟨⟨fun i h1 h2 => ?_, fun v hv => ?_, fun a b ha hb2 hn => ?_, fun a ha => ?_⟩, fun v hv => ?_, fun v hv => ?_, fun v hv => ?_⟩
    · show bt (gP σ ||| _) i = false
      rw [gp i h2, g.1 i h1 h2, decide_eq_false (by omega)]; rfl
    · show -50 ≤ (upd (gW σ) u w v).toInt ∧ (upd (gW σ) u w v).toInt ≤ 50
      by_cases c : v = u
      · rw [c, pk_us]; exact wok_b a1
      · rw [pk_un c]; exact g.2.1 v hv
    · show bt (gP σ ||| _) b = true
      have hn : bt (upd (gN σ) u 0 a) b = true := hn
      by_cases c : a = u
      · rw [c, pk_us, b_0] at hn; cases hn
      · rw [pk_un c] at hn
        rw [gp b hb2, g.2.2.1 a b ha hb2 hn]; rfl
    · show bt (upd (gN σ) u 0 a) a = false
      by_cases c : a = u
      · rw [c, pk_us, b_0]
      · rw [pk_un c]; exact g.2.2.2 a ha
    · show upd (mT μ) u 1 v = cd_zb (bt (gP σ ||| _) v)
      rw [gp v (by omega)]
      by_cases c : v = u
      · rw [c, pk_us, decide_eq_true rfl, Bool.or_true]; rfl
      · rw [pk_un c, decide_eq_false c, Bool.or_false]; exact t1 v hv
    · show upd (mW μ) u w v = upd (gW σ) u w v
      by_cases c : v = u
      · rw [c, pk_us, pk_us]
      · rw [pk_un c, pk_un c]; exact t2 v hv
    · show upd (mN μ) u 0 v = upd (gN σ) u 0 v
      by_cases c : v = u
      · rw [c, pk_us, pk_us]
      · rw [pk_un c, pk_un c]; exact t3 v hv
  · have := (hb u a2).mpr (b2 u a2)
    rw [a4] at this
    cases this
  · rw [a1] at b1; cases b1
  · exact absurd b4 ((hb u' b2).mp (a2 u' b2))
  · rw [a3, b3, a4, b4]; exact ⟨rfl, r⟩
theorem it_off (j : Nat) (x : Nat → Int32) : ∀ m v, cd_it (cd_off (nI j)) m x v = if v < m then (x v &&& (((1 : Int32) <<< (nI j &&& 31)) ^^^ (-1))).toInt16.toInt32 else x v := by
  intro m
  induction m with
  | zero => intro v; rw [if_neg (by omega)]; rfl
  | succ m ih =>
    intro v
    rw [cd_it_s]
    show upd (cd_it (cd_off (nI j)) m x) m (cd_it (cd_off (nI j)) m x m &&& (((1 : Int32) <<< (nI j &&& 31)) ^^^ (-1))).toInt16.toInt32 v = _
    by_cases h : v = m
    · rw [h, pk_us, ih m, if_neg (by omega), if_pos (by omega)]
    · rw [pk_un h, ih v]
      by_cases c : v < m
      · rw [if_pos c, if_pos (by omega)]
      · rw [if_neg c, if_neg (by omega)]
theorem it_moff (j : Nat) (x : Nat → Int32) : ∀ m v, cd_it (cd_moff (nI j)) m x v = if v < m then x v &&& (((1 : Int32) <<< (nI j &&& 31)) ^^^ (-1)) else x v := by
  intro m
  induction m with
  | zero => intro v; rw [if_neg (by omega)]; rfl
  | succ m ih =>
    intro v
    rw [cd_it_s]
    show upd (cd_it (cd_moff (nI j)) m x) m (cd_it (cd_moff (nI j)) m x m &&& (((1 : Int32) <<< (nI j &&& 31)) ^^^ (-1))) v = _
    by_cases h : v = m
    · rw [h, pk_us, ih m, if_neg (by omega), if_pos (by omega)]
    · rw [pk_un h, ih v]
      by_cases c : v < m
      · rw [if_pos c, if_pos (by omega)]
      · rw [if_neg c, if_neg (by omega)]
theorem op_rem (r : cd_rel σ μ) {u : Int32} (h : cd_remP σ u z τ) (h' : cd_mremP μ u y ν) : z = y ∧ cd_rel τ ν := by
  unfold cd_mremP at h'
  rw [is_eq r] at h'
  rcases h with ⟨a1, a2, a3⟩ | ⟨a1, a2, a3⟩ <;> rcases h' with ⟨b1, b2, b3⟩ | ⟨b1, b2, b3⟩
  · rw [a2, b2, a3, b3]; exact ⟨rfl, r⟩
  · rw [a1] at b1; cases b1
  · rw [a1] at b1; cases b1
  · obtain ⟨j, hj, rfl⟩ := cd_has_ix a1
    refine ⟨by rw [a2, b2], ?_⟩
    rw [nI_clamp (by omega)] at b3
    rw [a3, b3]
    obtain ⟨g, t1, t2, t3⟩ := r
    have hN : ∀ v, v < 9 → cd_it (cd_off (nI j)) 9 (gN σ) v = gN σ v &&& (((1 : Int32) <<< (nI j &&& 31)) ^^^ (-1)) := fun v hv => by
      rw [it_off, if_pos hv, off_i16 (gd_hi g hv) hj]
    refine ⟨⟨fun i h1 h2 => ?_, fun v hv => g.2.1 v hv, fun a b ha hb2 hn => ?_, fun a ha => ?_⟩, fun v hv => ?_, fun v hv => t2 v hv, fun v hv => ?_⟩
    · show bt (gP σ &&& _) i = false
      rw [bt_off _ (by omega) h2, g.1 i h1 h2]; rfl
    · show bt (gP σ &&& _) b = true
      have hn : bt (cd_it (cd_off (nI j)) 9 (gN σ) a) b = true := hn
      rw [hN a ha, bt_off _ (by omega) hb2, Bool.and_eq_true] at hn
      rw [bt_off _ (by omega) hb2, g.2.2.1 a b ha hb2 hn.1, hn.2]; rfl
    · show bt (cd_it (cd_off (nI j)) 9 (gN σ) a) a = false
      rw [hN a ha, bt_off _ (by omega) (by omega), g.2.2.2 a ha]; rfl
    · show upd (mT μ) j 0 v = cd_zb (bt (gP σ &&& _) v)
      rw [bt_off _ (by omega) (by omega)]
      by_cases c : v = j
      · rw [c, pk_us, decide_eq_false (fun q => q rfl), Bool.and_false]; rfl
      · rw [pk_un c, decide_eq_true c, Bool.and_true]; exact t1 v hv
    · show cd_it (cd_moff (nI j)) 9 (mN μ) v = cd_it (cd_off (nI j)) 9 (gN σ) v
      rw [hN v hv, it_moff, if_pos hv, t3 v hv]
theorem op_rate (r : cd_rel σ μ) {u w : Int32} (h : cd_ratP σ u w z τ) (h' : cd_mratP μ u w y ν) : z = y ∧ cd_rel τ ν := by
  unfold cd_mratP at h'
  rw [is_eq r] at h'
  rcases h with ⟨a1, a2, a3⟩ | ⟨a1, a2, a3⟩ <;> rcases h' with ⟨b1, b2, b3⟩ | ⟨b1, b2, b3⟩
  · rw [a2, b2, a3, b3]; exact ⟨rfl, r⟩
  · rw [a1] at b1; cases b1
  · rw [a1] at b1; cases b1
  · rw [Bool.and_eq_true] at a1
    obtain ⟨j, hj, rfl⟩ := cd_has_ix a1.1
    refine ⟨by rw [a2, b2], ?_⟩
    rw [nI_clamp (by omega)] at a3 b3
    rw [wok_8 a1.2] at a3
    rw [a3, b3]
    obtain ⟨g, t1, t2, t3⟩ := r
    exact ⟨gd_w g (wok_b a1.2), t1, upd_congr t2 j w, t3⟩
theorem op_need (r : cd_rel σ μ) {u v o : Int32} (h : cd_neeP σ u v o z τ) (h' : cd_mneeP μ u v o y ν) : z = y ∧ cd_rel τ ν := by
  unfold cd_mneeP at h'
  rw [nok_eq r] at h'
  rcases h with ⟨a1, a2, a3⟩ | ⟨a1, a2, a3⟩ <;> rcases h' with ⟨b1, b2, b3⟩ | ⟨b1, b2, b3⟩
  · rw [a2, b2, a3, b3]; exact ⟨rfl, r⟩
  · rw [a1] at b1; cases b1
  · rw [a1] at b1; cases b1
  · unfold cd_nok at a1
    rw [Bool.and_eq_true, Bool.and_eq_true, decide_eq_true_eq] at a1
    obtain ⟨c1, c2, c3⟩ := a1
    obtain ⟨j, hj, rfl⟩ := cd_has_ix c1
    obtain ⟨i, hi, rfl⟩ := cd_has_ix c2
    have hne : i ≠ j := fun q => c3 (by rw [q])
    rw [has_bt hi] at c2
    refine ⟨by rw [a2, b2], ?_⟩
    rw [nI_clamp (by omega)] at a3 b3
    obtain ⟨g, t1, t2, t3⟩ := r
    rw [t3 j hj] at b3
    by_cases ho : o = 0
    · have e : cd_nv (gN σ j) (nI i) o = gN σ j &&& (((1 : Int32) <<< (nI i &&& 31)) ^^^ (-1)) := if_pos ho
      rw [e, off_i16 (gd_hi g hj) hi] at a3
      rw [e] at b3
      rw [a3, b3]
      exact ⟨gd_off g hi, t1, t2, upd_congr t3 j _⟩
    · have e : cd_nv (gN σ j) (nI i) o = gN σ j ||| ((1 : Int32) <<< (nI i &&& 31)) := if_neg ho
      rw [e, on_i16 (gd_hi g hj) hi] at a3
      rw [e] at b3
      rw [a3, b3]
      refine ⟨⟨g.1, g.2.1, fun a b ha hb2 hn => ?_, fun a ha => ?_⟩, t1, t2, upd_congr t3 j _⟩
      · have hn : bt (upd (gN σ) j (gN σ j ||| ((1 : Int32) <<< (nI i &&& 31))) a) b = true := hn
        by_cases c : a = j
        · rw [c, pk_us, bt_on _ (by omega) hb2, Bool.or_eq_true, decide_eq_true_eq] at hn
          rcases hn with hn | hn
          · exact g.2.2.1 j b hj hb2 hn
          · rw [hn]; exact c2
        · rw [pk_un c] at hn
          exact g.2.2.1 a b ha hb2 hn
      · show bt (upd (gN σ) j (gN σ j ||| ((1 : Int32) <<< (nI i &&& 31))) a) a = false
        by_cases c : a = j
        · rw [c, pk_us, bt_on _ (by omega) (by omega), g.2.2.2 j hj, decide_eq_false (fun q => hne q.symm)]; rfl
        · rw [pk_un c]; exact g.2.2.2 a ha
end OPS
end
section
/-! desk, model and script together; calls out of the law (printed by gen40.py) -/
def lS (D : va_G) (ad : Nat → Nat) (ca : Nat → ClassId) (bd : Nat → Nat) (cb : Nat → ClassId) (A : Nat → Prop) (H0 : Heap) (σ : cd_D) (μ : cd_M) (s : State) (H : Heap) (locs : List Loc) : Prop := wS D (dkT ca ++ mdT cb) A H0 (dkW ad ca σ ++ mdW bd cb μ) s H locs
section LC
variable {p : Program} {l : Launch} {e : Env} {R : Room} {s : State} {m : MethodId} {args : Array Value} {below : List Frame} {meth : Method} {c : Code} {H : Heap} {locs : List Loc} {cells slots : Nat} {Q : State → Prop} {cc : ByteArray} {nL pc : Nat} {ls : Array Slot} {rest : List Value}
variable {D : va_G} {A : Nat → Prop} {H0 : Heap} {ad : Nat → Nat} {ca : Nat → ClassId} {bd : Nat → Nat} {cb : Nat → ClassId} {σ : cd_D} {μ : cd_M} {Ts : List Cond} {own C : String} {y : MethodName} {bytes : ByteArray} {maxL n index : Nat} {ret : Option FieldType} {rm : Room} {As st0 : List Value}
theorem lS_d (h : lS D ad ca bd cb A H0 σ μ s H locs) : wP D (dkT ca) (dkW ad ca σ) s H := ⟨h.1.1.sub [0, 1, 2, 3, 4, 5] rfl, h.1.2.sub [0, 1, 2, 3, 4, 5, 6] rfl⟩
theorem lS_m (h : lS D ad ca bd cb A H0 σ μ s H locs) : wP D (mdT cb) (mdW bd cb μ) s H := ⟨h.1.1.sub [6, 7, 8] rfl, h.1.2.sub [7, 8, 9, 10] rfl⟩
theorem lc_D {post : Int32 → cd_D → Prop} (K : CallFix p m c cc nL s args Ts own) (hM : cWi l D (dkT ca) (dkW ad ca) σ y bytes maxL ret rm (.ref (ad 0) :: As) post) (cw : CallW R s args own C index y bytes maxL ret (ws_ y bytes maxL ret) rm 0 0 n) (h : lS D ad ca bd cb A H0 σ μ s H locs) (hrv : ∃ cellB : Cell, H[ad 0]? = some cellB ∧ cellB.vm.isStatics = false ∧ s.vm.findClass C = some cellB.cls) (hn : As.length = n) (hls : ls.size = nL) (hst : st0 = As.reverse ++ .ref (ad 0) :: rest) (hrm : (rest.map fun v => v.category).sum ≤ 8) (hf : cells + 0 ≤ R.cells ∧ slots + 0 ≤ R.slots) (hdg : decode cc pc = .ok (.invokevirtual index, 3))
    (kk : ∀ (r : Int32) (u : cd_D) (H1 : Heap) (locs1 : List Loc), post r u → lS D ad ca bd cb A H0 u μ s H1 locs1 → W p l e R s m args below meth c H1 locs1 cells slots Q (F0 m (pc + 3) ls (.int r :: rest))) : W p l e R s m args below meth c H locs cells slots Q (F0 m pc ls st0) := by
  have hPd := lS_d h
  obtain ⟨⟨hK, hP⟩, hD, hS, hA⟩ := h
  have hDd : va_D A (dkW ad ca σ) := hD.sub [0, 1, 2, 3, 4, 5, 6] (by decide) rfl
  have hFc := va_free (wc := dkW ad ca σ) hD hS hA [0, 1, 2, 3, 4, 5, 6] rfl
  refine va_calli (va_runV K (hM H.size) cw ⟨fun a U g mk q => ?_, hrv, fun U hU hW => ?_⟩ rfl hn hls hst (lv_room hrm) hdg hf) hS (fun q _ h => hFc q h) hFc (fun r u t H1 locs1 ht hvm hp hB hz hk hS1 => ?_)
  · obtain ⟨q0, q1, ⟨qK, qP⟩, qD⟩ := q
    exact ⟨q0, q1, ⟨va_K.moved (u := U) (U := U.calling g mk a) (Vm.Alike.refl U.vm) qK, qP⟩, qD⟩
  · exact ⟨rfl, by rw [hU], ⟨va_K.moved hW.alike hPd.1, by rw [hU]; exact hPd.2⟩, hDd.weaken (fun _ _ _ _ => trivial)⟩
  · obtain ⟨⟨hK1, hP1⟩, hD1⟩ := hB
    subst ht
    obtain ⟨jP, jD⟩ := va_join (wr := mdW bd cb μ) (w1 := dkW ad ca u) hP hD [0, 1, 2, 3, 4, 5, 6] [7, 8, 9, 10] rfl rfl (by decide) (by decide) hk hFc hP1 hD1
    exact kk r u t.heap locs1 hp ⟨⟨hK, jP.sub [4, 5, 6, 7, 8, 9, 10, 0, 1, 2, 3] rfl⟩, jD.sub [4, 5, 6, 7, 8, 9, 10, 0, 1, 2, 3] (by decide) rfl, hS1, hA⟩
theorem lc_M {post : Int32 → cd_M → Prop} (K : CallFix p m c cc nL s args Ts own) (hM : cWi l D (mdT cb) (mdW bd cb) μ y bytes maxL ret rm (.ref (bd 0) :: As) post) (cw : CallW R s args own C index y bytes maxL ret (ws_ y bytes maxL ret) rm 0 0 n) (h : lS D ad ca bd cb A H0 σ μ s H locs) (hrv : ∃ cellB : Cell, H[bd 0]? = some cellB ∧ cellB.vm.isStatics = false ∧ s.vm.findClass C = some cellB.cls) (hn : As.length = n) (hls : ls.size = nL) (hst : st0 = As.reverse ++ .ref (bd 0) :: rest) (hrm : (rest.map fun v => v.category).sum ≤ 8) (hf : cells + 0 ≤ R.cells ∧ slots + 0 ≤ R.slots) (hdg : decode cc pc = .ok (.invokevirtual index, 3))
    (kk : ∀ (r : Int32) (u : cd_M) (H1 : Heap) (locs1 : List Loc), post r u → lS D ad ca bd cb A H0 σ u s H1 locs1 → W p l e R s m args below meth c H1 locs1 cells slots Q (F0 m (pc + 3) ls (.int r :: rest))) : W p l e R s m args below meth c H locs cells slots Q (F0 m pc ls st0) := by
  have hPd := lS_m h
  obtain ⟨⟨hK, hP⟩, hD, hS, hA⟩ := h
  have hDd : va_D A (mdW bd cb μ) := hD.sub [7, 8, 9, 10] (by decide) rfl
  have hFc := va_free (wc := mdW bd cb μ) hD hS hA [7, 8, 9, 10] rfl
  refine va_calli (va_runV K (hM H.size) cw ⟨fun a U g mk q => ?_, hrv, fun U hU hW => ?_⟩ rfl hn hls hst (lv_room hrm) hdg hf) hS (fun q _ h => hFc q h) hFc (fun r u t H1 locs1 ht hvm hp hB hz hk hS1 => ?_)
  · obtain ⟨q0, q1, ⟨qK, qP⟩, qD⟩ := q
    exact ⟨q0, q1, ⟨va_K.moved (u := U) (U := U.calling g mk a) (Vm.Alike.refl U.vm) qK, qP⟩, qD⟩
  · exact ⟨rfl, by rw [hU], ⟨va_K.moved hW.alike hPd.1, by rw [hU]; exact hPd.2⟩, hDd.weaken (fun _ _ _ _ => trivial)⟩
  · obtain ⟨⟨hK1, hP1⟩, hD1⟩ := hB
    subst ht
    obtain ⟨jP, jD⟩ := va_join (wr := dkW ad ca σ) (w1 := mdW bd cb u) hP hD [7, 8, 9, 10] [0, 1, 2, 3, 4, 5, 6] rfl rfl (by decide) (by decide) hk hFc hP1 hD1
    exact kk r u t.heap locs1 hp ⟨⟨hK, jP.sub [0, 1, 2, 3, 4, 5, 6, 7, 8, 9, 10] rfl⟩, jD.sub [0, 1, 2, 3, 4, 5, 6, 7, 8, 9, 10] (by decide) rfl, hS1, hA⟩
end LC
theorem kl_X0_add {p : Program} {l : Launch} {e : Env} {R : Room} {s : State} {m : MethodId} {args : Array Value} {below : List Frame} {meth : Method} {c : Code} {H : Heap} {locs : List Loc} {cells slots : Nat} {Q : State → Prop} {cc : ByteArray} {nL pc : Nat} {ls : Array Slot} {rest : List Value} {D : va_G} {A : Nat → Prop} {H0 : Heap} {ad : Nat → Nat} {ca : Nat → ClassId} {bd : Nat → Nat} {cb : Nat → ClassId} {σ : cd_D} {μ : cd_M} {w : Int32} (K : CallFix p m c cc nL s args lw_all "ClosureDeskLaw")  (hS : lS D ad ca bd cb A H0 σ μ s H locs) (hR : (cd_rm 1).frames + 1 ≤ R.frames ∧ 8 + (3 + 11) + (cd_rm 1).locals ≤ R.locals) (hf : cells + 0 ≤ R.cells ∧ slots + 0 ≤ R.slots) (hls : ls.size = nL) (hrm : (rest.map fun v => v.category).sum ≤ 8) (hdg : decode cc pc = .ok (.invokevirtual 13, 3)) (kk : ∀ (rr : Int32) (zz : cd_D) (H1 : Heap) (locs1 : List Loc), (fun r τ => cd_addP σ w r τ) rr zz → lS D ad ca bd cb A H0 zz μ s H1 locs1 → W p l e R s m args below meth c H1 locs1 cells slots Q (F0 m (pc + 3) ls (.int rr :: rest))) : W p l e R s m args below meth c H locs cells slots Q (F0 m pc ls (.int w :: .ref (ad 0) :: rest)) :=
  lc_D K (m_X0_add l D ad ca σ w) (cwV 1 K.2.2.2.2 (lw_V q52 q53 q54 q14 q55) rfl rfl rfl (by decide +kernel) hR) hS (va_recv (lS_d hS).1 (lS_d hS).2 (ci := 0) (q0 := 0) rfl rfl) rfl hls rfl hrm hf hdg kk
theorem kl_X1_add {p : Program} {l : Launch} {e : Env} {R : Room} {s : State} {m : MethodId} {args : Array Value} {below : List Frame} {meth : Method} {c : Code} {H : Heap} {locs : List Loc} {cells slots : Nat} {Q : State → Prop} {cc : ByteArray} {nL pc : Nat} {ls : Array Slot} {rest : List Value} {D : va_G} {A : Nat → Prop} {H0 : Heap} {ad : Nat → Nat} {ca : Nat → ClassId} {bd : Nat → Nat} {cb : Nat → ClassId} {σ : cd_D} {μ : cd_M} {w : Int32} (K : CallFix p m c cc nL s args lw_all "ClosureDeskLaw")  (hS : lS D ad ca bd cb A H0 σ μ s H locs) (hR : (cd_rm 1).frames + 1 ≤ R.frames ∧ 8 + (3 + 11) + (cd_rm 1).locals ≤ R.locals) (hf : cells + 0 ≤ R.cells ∧ slots + 0 ≤ R.slots) (hls : ls.size = nL) (hrm : (rest.map fun v => v.category).sum ≤ 8) (hdg : decode cc pc = .ok (.invokevirtual 17, 3)) (kk : ∀ (rr : Int32) (zz : cd_M) (H1 : Heap) (locs1 : List Loc), (fun r τ => cd_maddP μ w r τ) rr zz → lS D ad ca bd cb A H0 σ zz s H1 locs1 → W p l e R s m args below meth c H1 locs1 cells slots Q (F0 m (pc + 3) ls (.int rr :: rest))) : W p l e R s m args below meth c H locs cells slots Q (F0 m pc ls (.int w :: .ref (bd 0) :: rest)) :=
  lc_M K (m_X1_add l D bd cb μ w) (cwV 1 K.2.2.2.2 (lw_V q175 q176 q177 q15 q178) rfl rfl rfl (by decide +kernel) hR) hS (va_recv (lS_m hS).1 (lS_m hS).2 (ci := 1) (q0 := 0) rfl rfl) rfl hls rfl hrm hf hdg kk
theorem kl_X0_remove {p : Program} {l : Launch} {e : Env} {R : Room} {s : State} {m : MethodId} {args : Array Value} {below : List Frame} {meth : Method} {c : Code} {H : Heap} {locs : List Loc} {cells slots : Nat} {Q : State → Prop} {cc : ByteArray} {nL pc : Nat} {ls : Array Slot} {rest : List Value} {D : va_G} {A : Nat → Prop} {H0 : Heap} {ad : Nat → Nat} {ca : Nat → ClassId} {bd : Nat → Nat} {cb : Nat → ClassId} {σ : cd_D} {μ : cd_M} {u : Int32} (K : CallFix p m c cc nL s args lw_all "ClosureDeskLaw")  (hS : lS D ad ca bd cb A H0 σ μ s H locs) (hR : (cd_rm 1).frames + 1 ≤ R.frames ∧ 8 + (3 + 11) + (cd_rm 1).locals ≤ R.locals) (hf : cells + 0 ≤ R.cells ∧ slots + 0 ≤ R.slots) (hls : ls.size = nL) (hrm : (rest.map fun v => v.category).sum ≤ 8) (hdg : decode cc pc = .ok (.invokevirtual 18, 3)) (kk : ∀ (rr : Int32) (zz : cd_D) (H1 : Heap) (locs1 : List Loc), (fun r τ => cd_remP σ u r τ) rr zz → lS D ad ca bd cb A H0 zz μ s H1 locs1 → W p l e R s m args below meth c H1 locs1 cells slots Q (F0 m (pc + 3) ls (.int rr :: rest))) : W p l e R s m args below meth c H locs cells slots Q (F0 m pc ls (.int u :: .ref (ad 0) :: rest)) :=
  lc_D K (m_X0_remove l D ad ca σ u) (cwV 1 K.2.2.2.2 (lw_V q63 q64 q65 q14 q66) rfl rfl rfl (by decide +kernel) hR) hS (va_recv (lS_d hS).1 (lS_d hS).2 (ci := 0) (q0 := 0) rfl rfl) rfl hls rfl hrm hf hdg kk
theorem kl_X1_remove {p : Program} {l : Launch} {e : Env} {R : Room} {s : State} {m : MethodId} {args : Array Value} {below : List Frame} {meth : Method} {c : Code} {H : Heap} {locs : List Loc} {cells slots : Nat} {Q : State → Prop} {cc : ByteArray} {nL pc : Nat} {ls : Array Slot} {rest : List Value} {D : va_G} {A : Nat → Prop} {H0 : Heap} {ad : Nat → Nat} {ca : Nat → ClassId} {bd : Nat → Nat} {cb : Nat → ClassId} {σ : cd_D} {μ : cd_M} {u : Int32} (K : CallFix p m c cc nL s args lw_all "ClosureDeskLaw")  (hS : lS D ad ca bd cb A H0 σ μ s H locs) (hR : (cd_rm 1).frames + 1 ≤ R.frames ∧ 8 + (3 + 11) + (cd_rm 1).locals ≤ R.locals) (hf : cells + 0 ≤ R.cells ∧ slots + 0 ≤ R.slots) (hls : ls.size = nL) (hrm : (rest.map fun v => v.category).sum ≤ 8) (hdg : decode cc pc = .ok (.invokevirtual 22, 3)) (kk : ∀ (rr : Int32) (zz : cd_M) (H1 : Heap) (locs1 : List Loc), (fun r τ => cd_mremP μ u r τ) rr zz → lS D ad ca bd cb A H0 σ zz s H1 locs1 → W p l e R s m args below meth c H1 locs1 cells slots Q (F0 m (pc + 3) ls (.int rr :: rest))) : W p l e R s m args below meth c H locs cells slots Q (F0 m pc ls (.int u :: .ref (bd 0) :: rest)) :=
  lc_M K (m_X1_remove l D bd cb μ u) (cwV 1 K.2.2.2.2 (lw_V q183 q184 q185 q15 q186) rfl rfl rfl (by decide +kernel) hR) hS (va_recv (lS_m hS).1 (lS_m hS).2 (ci := 1) (q0 := 0) rfl rfl) rfl hls rfl hrm hf hdg kk
theorem kl_X0_rate {p : Program} {l : Launch} {e : Env} {R : Room} {s : State} {m : MethodId} {args : Array Value} {below : List Frame} {meth : Method} {c : Code} {H : Heap} {locs : List Loc} {cells slots : Nat} {Q : State → Prop} {cc : ByteArray} {nL pc : Nat} {ls : Array Slot} {rest : List Value} {D : va_G} {A : Nat → Prop} {H0 : Heap} {ad : Nat → Nat} {ca : Nat → ClassId} {bd : Nat → Nat} {cb : Nat → ClassId} {σ : cd_D} {μ : cd_M} {u w : Int32} (K : CallFix p m c cc nL s args lw_all "ClosureDeskLaw")  (hS : lS D ad ca bd cb A H0 σ μ s H locs) (hR : (cd_rm 1).frames + 1 ≤ R.frames ∧ 8 + (3 + 11) + (cd_rm 1).locals ≤ R.locals) (hf : cells + 0 ≤ R.cells ∧ slots + 0 ≤ R.slots) (hls : ls.size = nL) (hrm : (rest.map fun v => v.category).sum ≤ 8) (hdg : decode cc pc = .ok (.invokevirtual 23, 3)) (kk : ∀ (rr : Int32) (zz : cd_D) (H1 : Heap) (locs1 : List Loc), (fun r τ => cd_ratP σ u w r τ) rr zz → lS D ad ca bd cb A H0 zz μ s H1 locs1 → W p l e R s m args below meth c H1 locs1 cells slots Q (F0 m (pc + 3) ls (.int rr :: rest))) : W p l e R s m args below meth c H locs cells slots Q (F0 m pc ls (.int w :: .int u :: .ref (ad 0) :: rest)) :=
  lc_D K (m_X0_rate l D ad ca σ u w) (cwV 2 K.2.2.2.2 (lw_V q67 q68 q69 q14 q70) rfl rfl rfl (by decide +kernel) hR) hS (va_recv (lS_d hS).1 (lS_d hS).2 (ci := 0) (q0 := 0) rfl rfl) rfl hls rfl hrm hf hdg kk
theorem kl_X1_rate {p : Program} {l : Launch} {e : Env} {R : Room} {s : State} {m : MethodId} {args : Array Value} {below : List Frame} {meth : Method} {c : Code} {H : Heap} {locs : List Loc} {cells slots : Nat} {Q : State → Prop} {cc : ByteArray} {nL pc : Nat} {ls : Array Slot} {rest : List Value} {D : va_G} {A : Nat → Prop} {H0 : Heap} {ad : Nat → Nat} {ca : Nat → ClassId} {bd : Nat → Nat} {cb : Nat → ClassId} {σ : cd_D} {μ : cd_M} {u w : Int32} (K : CallFix p m c cc nL s args lw_all "ClosureDeskLaw")  (hS : lS D ad ca bd cb A H0 σ μ s H locs) (hR : (cd_rm 1).frames + 1 ≤ R.frames ∧ 8 + (3 + 11) + (cd_rm 1).locals ≤ R.locals) (hf : cells + 0 ≤ R.cells ∧ slots + 0 ≤ R.slots) (hls : ls.size = nL) (hrm : (rest.map fun v => v.category).sum ≤ 8) (hdg : decode cc pc = .ok (.invokevirtual 27, 3)) (kk : ∀ (rr : Int32) (zz : cd_M) (H1 : Heap) (locs1 : List Loc), (fun r τ => cd_mratP μ u w r τ) rr zz → lS D ad ca bd cb A H0 σ zz s H1 locs1 → W p l e R s m args below meth c H1 locs1 cells slots Q (F0 m (pc + 3) ls (.int rr :: rest))) : W p l e R s m args below meth c H locs cells slots Q (F0 m pc ls (.int w :: .int u :: .ref (bd 0) :: rest)) :=
  lc_M K (m_X1_rate l D bd cb μ u w) (cwV 2 K.2.2.2.2 (lw_V q191 q192 q193 q15 q194) rfl rfl rfl (by decide +kernel) hR) hS (va_recv (lS_m hS).1 (lS_m hS).2 (ci := 1) (q0 := 0) rfl rfl) rfl hls rfl hrm hf hdg kk
theorem kl_X0_need {p : Program} {l : Launch} {e : Env} {R : Room} {s : State} {m : MethodId} {args : Array Value} {below : List Frame} {meth : Method} {c : Code} {H : Heap} {locs : List Loc} {cells slots : Nat} {Q : State → Prop} {cc : ByteArray} {nL pc : Nat} {ls : Array Slot} {rest : List Value} {D : va_G} {A : Nat → Prop} {H0 : Heap} {ad : Nat → Nat} {ca : Nat → ClassId} {bd : Nat → Nat} {cb : Nat → ClassId} {σ : cd_D} {μ : cd_M} {u v o : Int32} (K : CallFix p m c cc nL s args lw_all "ClosureDeskLaw")  (hS : lS D ad ca bd cb A H0 σ μ s H locs) (hR : (cd_rm 1).frames + 1 ≤ R.frames ∧ 8 + (4 + 11) + (cd_rm 1).locals ≤ R.locals) (hf : cells + 0 ≤ R.cells ∧ slots + 0 ≤ R.slots) (hls : ls.size = nL) (hrm : (rest.map fun v => v.category).sum ≤ 8) (hdg : decode cc pc = .ok (.invokevirtual 28, 3)) (kk : ∀ (rr : Int32) (zz : cd_D) (H1 : Heap) (locs1 : List Loc), (fun r τ => cd_neeP σ u v o r τ) rr zz → lS D ad ca bd cb A H0 zz μ s H1 locs1 → W p l e R s m args below meth c H1 locs1 cells slots Q (F0 m (pc + 3) ls (.int rr :: rest))) : W p l e R s m args below meth c H locs cells slots Q (F0 m pc ls (.int o :: .int v :: .int u :: .ref (ad 0) :: rest)) :=
  lc_D K (m_X0_need l D ad ca σ u v o) (cwV 3 K.2.2.2.2 (lw_V q71 q72 q73 q14 q74) rfl rfl rfl (by decide +kernel) hR) hS (va_recv (lS_d hS).1 (lS_d hS).2 (ci := 0) (q0 := 0) rfl rfl) rfl hls rfl hrm hf hdg kk
theorem kl_X1_need {p : Program} {l : Launch} {e : Env} {R : Room} {s : State} {m : MethodId} {args : Array Value} {below : List Frame} {meth : Method} {c : Code} {H : Heap} {locs : List Loc} {cells slots : Nat} {Q : State → Prop} {cc : ByteArray} {nL pc : Nat} {ls : Array Slot} {rest : List Value} {D : va_G} {A : Nat → Prop} {H0 : Heap} {ad : Nat → Nat} {ca : Nat → ClassId} {bd : Nat → Nat} {cb : Nat → ClassId} {σ : cd_D} {μ : cd_M} {u v o : Int32} (K : CallFix p m c cc nL s args lw_all "ClosureDeskLaw")  (hS : lS D ad ca bd cb A H0 σ μ s H locs) (hR : (cd_rm 1).frames + 1 ≤ R.frames ∧ 8 + (4 + 11) + (cd_rm 1).locals ≤ R.locals) (hf : cells + 0 ≤ R.cells ∧ slots + 0 ≤ R.slots) (hls : ls.size = nL) (hrm : (rest.map fun v => v.category).sum ≤ 8) (hdg : decode cc pc = .ok (.invokevirtual 32, 3)) (kk : ∀ (rr : Int32) (zz : cd_M) (H1 : Heap) (locs1 : List Loc), (fun r τ => cd_mneeP μ u v o r τ) rr zz → lS D ad ca bd cb A H0 σ zz s H1 locs1 → W p l e R s m args below meth c H1 locs1 cells slots Q (F0 m (pc + 3) ls (.int rr :: rest))) : W p l e R s m args below meth c H locs cells slots Q (F0 m pc ls (.int o :: .int v :: .int u :: .ref (bd 0) :: rest)) :=
  lc_M K (m_X1_need l D bd cb μ u v o) (cwV 3 K.2.2.2.2 (lw_V q195 q196 q197 q15 q198) rfl rfl rfl (by decide +kernel) hR) hS (va_recv (lS_m hS).1 (lS_m hS).2 (ci := 1) (q0 := 0) rfl rfl) rfl hls rfl hrm hf hdg kk
theorem kl_X0_undertakings {p : Program} {l : Launch} {e : Env} {R : Room} {s : State} {m : MethodId} {args : Array Value} {below : List Frame} {meth : Method} {c : Code} {H : Heap} {locs : List Loc} {cells slots : Nat} {Q : State → Prop} {cc : ByteArray} {nL pc : Nat} {ls : Array Slot} {rest : List Value} {D : va_G} {A : Nat → Prop} {H0 : Heap} {ad : Nat → Nat} {ca : Nat → ClassId} {bd : Nat → Nat} {cb : Nat → ClassId} {σ : cd_D} {μ : cd_M} (K : CallFix p m c cc nL s args lw_all "ClosureDeskLaw")  (hS : lS D ad ca bd cb A H0 σ μ s H locs) (hR : (cd_rm 0).frames + 1 ≤ R.frames ∧ 8 + (1 + 11) + (cd_rm 0).locals ≤ R.locals) (hf : cells + 0 ≤ R.cells ∧ slots + 0 ≤ R.slots) (hls : ls.size = nL) (hrm : (rest.map fun v => v.category).sum ≤ 8) (hdg : decode cc pc = .ok (.invokevirtual 33, 3)) (kk : W p l e R s m args below meth c H locs cells slots Q (F0 m (pc + 3) ls (.int (gP σ) :: rest))) : W p l e R s m args below meth c H locs cells slots Q (F0 m pc ls (.ref (ad 0) :: rest)) :=
  cl_R K (m_X0_undertakings l D ad ca σ) (cwV 0 K.2.2.2.2 (lw_V q75 q76 q77 q14 q78) rfl rfl rfl (by decide +kernel) hR) (lS_d hS) (va_recv (lS_d hS).1 (lS_d hS).2 (ci := 0) (q0 := 0) rfl rfl) rfl hls rfl hrm hf hdg kk
theorem kl_X1_undertakings {p : Program} {l : Launch} {e : Env} {R : Room} {s : State} {m : MethodId} {args : Array Value} {below : List Frame} {meth : Method} {c : Code} {H : Heap} {locs : List Loc} {cells slots : Nat} {Q : State → Prop} {cc : ByteArray} {nL pc : Nat} {ls : Array Slot} {rest : List Value} {D : va_G} {A : Nat → Prop} {H0 : Heap} {ad : Nat → Nat} {ca : Nat → ClassId} {bd : Nat → Nat} {cb : Nat → ClassId} {σ : cd_D} {μ : cd_M} (K : CallFix p m c cc nL s args lw_all "ClosureDeskLaw")  (hS : lS D ad ca bd cb A H0 σ μ s H locs) (hR : (cd_rm 0).frames + 1 ≤ R.frames ∧ 8 + (3 + 11) + (cd_rm 0).locals ≤ R.locals) (hf : cells + 0 ≤ R.cells ∧ slots + 0 ≤ R.slots) (hls : ls.size = nL) (hrm : (rest.map fun v => v.category).sum ≤ 8) (hdg : decode cc pc = .ok (.invokevirtual 37, 3)) (kk : W p l e R s m args below meth c H locs cells slots Q (F0 m (pc + 3) ls (.int (cd_under (mT μ)) :: rest))) : W p l e R s m args below meth c H locs cells slots Q (F0 m pc ls (.ref (bd 0) :: rest)) :=
  cl_R K (m_X1_undertakings l D bd cb μ) (cwV 0 K.2.2.2.2 (lw_V q199 q200 q201 q15 q202) rfl rfl rfl (by decide +kernel) hR) (lS_m hS) (va_recv (lS_m hS).1 (lS_m hS).2 (ci := 1) (q0 := 0) rfl rfl) rfl hls rfl hrm hf hdg kk
theorem kl_X0_closed {p : Program} {l : Launch} {e : Env} {R : Room} {s : State} {m : MethodId} {args : Array Value} {below : List Frame} {meth : Method} {c : Code} {H : Heap} {locs : List Loc} {cells slots : Nat} {Q : State → Prop} {cc : ByteArray} {nL pc : Nat} {ls : Array Slot} {rest : List Value} {D : va_G} {A : Nat → Prop} {H0 : Heap} {ad : Nat → Nat} {ca : Nat → ClassId} {bd : Nat → Nat} {cb : Nat → ClassId} {σ : cd_D} {μ : cd_M} {S : Int32} (K : CallFix p m c cc nL s args lw_all "ClosureDeskLaw")  (hS : lS D ad ca bd cb A H0 σ μ s H locs) (hR : (cd_rm 1).frames + 1 ≤ R.frames ∧ 8 + (3 + 11) + (cd_rm 1).locals ≤ R.locals) (hf : cells + 0 ≤ R.cells ∧ slots + 0 ≤ R.slots) (hls : ls.size = nL) (hrm : (rest.map fun v => v.category).sum ≤ 8) (hdg : decode cc pc = .ok (.invokevirtual 38, 3)) (kk : W p l e R s m args below meth c H locs cells slots Q (F0 m (pc + 3) ls (.int (cd_zb (cd_closed (gP σ) (gN σ) S)) :: rest))) : W p l e R s m args below meth c H locs cells slots Q (F0 m pc ls (.int S :: .ref (ad 0) :: rest)) :=
  cl_R K (m_X0_closed l D ad ca σ S) (cwV 1 K.2.2.2.2 (lw_V q79 q80 q81 q14 q82) rfl rfl rfl (by decide +kernel) hR) (lS_d hS) (va_recv (lS_d hS).1 (lS_d hS).2 (ci := 0) (q0 := 0) rfl rfl) rfl hls rfl hrm hf hdg kk
theorem kl_X1_closed {p : Program} {l : Launch} {e : Env} {R : Room} {s : State} {m : MethodId} {args : Array Value} {below : List Frame} {meth : Method} {c : Code} {H : Heap} {locs : List Loc} {cells slots : Nat} {Q : State → Prop} {cc : ByteArray} {nL pc : Nat} {ls : Array Slot} {rest : List Value} {D : va_G} {A : Nat → Prop} {H0 : Heap} {ad : Nat → Nat} {ca : Nat → ClassId} {bd : Nat → Nat} {cb : Nat → ClassId} {σ : cd_D} {μ : cd_M} {S : Int32} (K : CallFix p m c cc nL s args lw_all "ClosureDeskLaw")  (hS : lS D ad ca bd cb A H0 σ μ s H locs) (hR : (cd_rm 1).frames + 1 ≤ R.frames ∧ 8 + (4 + 11) + (cd_rm 1).locals ≤ R.locals) (hf : cells + 0 ≤ R.cells ∧ slots + 0 ≤ R.slots) (hls : ls.size = nL) (hrm : (rest.map fun v => v.category).sum ≤ 8) (hdg : decode cc pc = .ok (.invokevirtual 41, 3)) (kk : W p l e R s m args below meth c H locs cells slots Q (F0 m (pc + 3) ls (.int (cd_zb (cd_closed (cd_under (mT μ)) (mN μ) S)) :: rest))) : W p l e R s m args below meth c H locs cells slots Q (F0 m pc ls (.int S :: .ref (bd 0) :: rest)) :=
  cl_R K (m_X1_closed l D bd cb μ S) (cwV 1 K.2.2.2.2 (lw_V q203 q204 q205 q15 q206) rfl rfl rfl (by decide +kernel) hR) (lS_m hS) (va_recv (lS_m hS).1 (lS_m hS).2 (ci := 1) (q0 := 0) rfl rfl) rfl hls rfl hrm hf hdg kk
theorem kl_X0_closure {p : Program} {l : Launch} {e : Env} {R : Room} {s : State} {m : MethodId} {args : Array Value} {below : List Frame} {meth : Method} {c : Code} {H : Heap} {locs : List Loc} {cells slots : Nat} {Q : State → Prop} {cc : ByteArray} {nL pc : Nat} {ls : Array Slot} {rest : List Value} {D : va_G} {A : Nat → Prop} {H0 : Heap} {ad : Nat → Nat} {ca : Nat → ClassId} {bd : Nat → Nat} {cb : Nat → ClassId} {σ : cd_D} {μ : cd_M} {S : Int32} (K : CallFix p m c cc nL s args lw_all "ClosureDeskLaw")  (hS : lS D ad ca bd cb A H0 σ μ s H locs) (hR : (cd_rm 1).frames + 1 ≤ R.frames ∧ 8 + (5 + 11) + (cd_rm 1).locals ≤ R.locals) (hf : cells + 0 ≤ R.cells ∧ slots + 0 ≤ R.slots) (hls : ls.size = nL) (hrm : (rest.map fun v => v.category).sum ≤ 8) (hdg : decode cc pc = .ok (.invokevirtual 42, 3)) (kk : W p l e R s m args below meth c H locs cells slots Q (F0 m (pc + 3) ls (.int (cd_closure (gP σ) (gN σ) S) :: rest))) : W p l e R s m args below meth c H locs cells slots Q (F0 m pc ls (.int S :: .ref (ad 0) :: rest)) :=
  cl_R K (m_X0_closure l D ad ca σ S) (cwV 1 K.2.2.2.2 (lw_V q86 q87 q88 q14 q89) rfl rfl rfl (by decide +kernel) hR) (lS_d hS) (va_recv (lS_d hS).1 (lS_d hS).2 (ci := 0) (q0 := 0) rfl rfl) rfl hls rfl hrm hf hdg kk
theorem kl_X1_closure {p : Program} {l : Launch} {e : Env} {R : Room} {s : State} {m : MethodId} {args : Array Value} {below : List Frame} {meth : Method} {c : Code} {H : Heap} {locs : List Loc} {cells slots : Nat} {Q : State → Prop} {cc : ByteArray} {nL pc : Nat} {ls : Array Slot} {rest : List Value} {D : va_G} {A : Nat → Prop} {H0 : Heap} {ad : Nat → Nat} {ca : Nat → ClassId} {bd : Nat → Nat} {cb : Nat → ClassId} {σ : cd_D} {μ : cd_M} {S : Int32} (K : CallFix p m c cc nL s args lw_all "ClosureDeskLaw")  (hS : lS D ad ca bd cb A H0 σ μ s H locs) (hR : (cd_rm 2).frames + 1 ≤ R.frames ∧ 8 + (5 + 11) + (cd_rm 2).locals ≤ R.locals) (hf : cells + 0 ≤ R.cells ∧ slots + 0 ≤ R.slots) (hls : ls.size = nL) (hrm : (rest.map fun v => v.category).sum ≤ 8) (hdg : decode cc pc = .ok (.invokevirtual 45, 3)) (kk : W p l e R s m args below meth c H locs cells slots Q (F0 m (pc + 3) ls (.int (cd_mclosure (cd_under (mT μ)) (mN μ) S) :: rest))) : W p l e R s m args below meth c H locs cells slots Q (F0 m pc ls (.int S :: .ref (bd 0) :: rest)) :=
  cl_R K (m_X1_closure l D bd cb μ S) (cwV 1 K.2.2.2.2 (lw_V q208 q209 q210 q15 q211) rfl rfl rfl (by decide +kernel) hR) (lS_m hS) (va_recv (lS_m hS).1 (lS_m hS).2 (ci := 1) (q0 := 0) rfl rfl) rfl hls rfl hrm hf hdg kk
theorem kl_X0_best {p : Program} {l : Launch} {e : Env} {R : Room} {s : State} {m : MethodId} {args : Array Value} {below : List Frame} {meth : Method} {c : Code} {H : Heap} {locs : List Loc} {cells slots : Nat} {Q : State → Prop} {cc : ByteArray} {nL pc : Nat} {ls : Array Slot} {rest : List Value} {D : va_G} {A : Nat → Prop} {H0 : Heap} {ad : Nat → Nat} {ca : Nat → ClassId} {bd : Nat → Nat} {cb : Nat → ClassId} {σ : cd_D} {μ : cd_M} (K : CallFix p m c cc nL s args lw_all "ClosureDeskLaw") (hg : cd_gd (gP σ) (gW σ) (gN σ)) (hS : lS D ad ca bd cb A H0 σ μ s H locs) (hR : (cd_rm 3).frames + 1 ≤ R.frames ∧ 8 + (1 + 11) + (cd_rm 3).locals ≤ R.locals) (hf : cells + 0 ≤ R.cells ∧ slots + 0 ≤ R.slots) (hls : ls.size = nL) (hrm : (rest.map fun v => v.category).sum ≤ 8) (hdg : decode cc pc = .ok (.invokevirtual 46, 3)) (kk : ∀ (rr : Int32) (zz : cd_D) (H1 : Heap) (locs1 : List Loc), (fun z τ => cd_besP σ z τ) rr zz → lS D ad ca bd cb A H0 zz μ s H1 locs1 → W p l e R s m args below meth c H1 locs1 cells slots Q (F0 m (pc + 3) ls (.int rr :: rest))) : W p l e R s m args below meth c H locs cells slots Q (F0 m pc ls (.ref (ad 0) :: rest)) :=
  lc_D K (m_X0_best l D ad ca σ hg) (cwV 0 K.2.2.2.2 (lw_V q90 q91 q92 q14 q93) rfl rfl rfl (by decide +kernel) hR) hS (va_recv (lS_d hS).1 (lS_d hS).2 (ci := 0) (q0 := 0) rfl rfl) rfl hls rfl hrm hf hdg kk
theorem kl_X1_best {p : Program} {l : Launch} {e : Env} {R : Room} {s : State} {m : MethodId} {args : Array Value} {below : List Frame} {meth : Method} {c : Code} {H : Heap} {locs : List Loc} {cells slots : Nat} {Q : State → Prop} {cc : ByteArray} {nL pc : Nat} {ls : Array Slot} {rest : List Value} {D : va_G} {A : Nat → Prop} {H0 : Heap} {ad : Nat → Nat} {ca : Nat → ClassId} {bd : Nat → Nat} {cb : Nat → ClassId} {σ : cd_D} {μ : cd_M} (K : CallFix p m c cc nL s args lw_all "ClosureDeskLaw")  (hS : lS D ad ca bd cb A H0 σ μ s H locs) (hR : (cd_rm 3).frames + 1 ≤ R.frames ∧ 8 + (1 + 11) + (cd_rm 3).locals ≤ R.locals) (hf : cells + 0 ≤ R.cells ∧ slots + 0 ≤ R.slots) (hls : ls.size = nL) (hrm : (rest.map fun v => v.category).sum ≤ 8) (hdg : decode cc pc = .ok (.invokevirtual 49, 3)) (kk : W p l e R s m args below meth c H locs cells slots Q (F0 m (pc + 3) ls (.int (cd_best (cd_under (mT μ)) (mW μ) (mN μ)) :: rest))) : W p l e R s m args below meth c H locs cells slots Q (F0 m pc ls (.ref (bd 0) :: rest)) :=
  cl_R K (m_X1_best l D bd cb μ) (cwV 0 K.2.2.2.2 (lw_V q213 q214 q215 q15 q216) rfl rfl rfl (by decide +kernel) hR) (lS_m hS) (va_recv (lS_m hS).1 (lS_m hS).2 (ci := 1) (q0 := 0) rfl rfl) rfl hls rfl hrm hf hdg kk
theorem kl_X0_leastBest {p : Program} {l : Launch} {e : Env} {R : Room} {s : State} {m : MethodId} {args : Array Value} {below : List Frame} {meth : Method} {c : Code} {H : Heap} {locs : List Loc} {cells slots : Nat} {Q : State → Prop} {cc : ByteArray} {nL pc : Nat} {ls : Array Slot} {rest : List Value} {D : va_G} {A : Nat → Prop} {H0 : Heap} {ad : Nat → Nat} {ca : Nat → ClassId} {bd : Nat → Nat} {cb : Nat → ClassId} {σ : cd_D} {μ : cd_M} (K : CallFix p m c cc nL s args lw_all "ClosureDeskLaw") (hg : cd_gd (gP σ) (gW σ) (gN σ)) (hS : lS D ad ca bd cb A H0 σ μ s H locs) (hR : (cd_rm 3).frames + 1 ≤ R.frames ∧ 8 + (1 + 11) + (cd_rm 3).locals ≤ R.locals) (hf : cells + 0 ≤ R.cells ∧ slots + 0 ≤ R.slots) (hls : ls.size = nL) (hrm : (rest.map fun v => v.category).sum ≤ 8) (hdg : decode cc pc = .ok (.invokevirtual 50, 3)) (kk : ∀ (rr : Int32) (zz : cd_D) (H1 : Heap) (locs1 : List Loc), (fun z τ => cd_leaP σ z τ) rr zz → lS D ad ca bd cb A H0 zz μ s H1 locs1 → W p l e R s m args below meth c H1 locs1 cells slots Q (F0 m (pc + 3) ls (.int rr :: rest))) : W p l e R s m args below meth c H locs cells slots Q (F0 m pc ls (.ref (ad 0) :: rest)) :=
  lc_D K (m_X0_leastBest l D ad ca σ hg) (cwV 0 K.2.2.2.2 (lw_V q111 q112 q113 q14 q114) rfl rfl rfl (by decide +kernel) hR) hS (va_recv (lS_d hS).1 (lS_d hS).2 (ci := 0) (q0 := 0) rfl rfl) rfl hls rfl hrm hf hdg kk
theorem kl_X1_leastBest {p : Program} {l : Launch} {e : Env} {R : Room} {s : State} {m : MethodId} {args : Array Value} {below : List Frame} {meth : Method} {c : Code} {H : Heap} {locs : List Loc} {cells slots : Nat} {Q : State → Prop} {cc : ByteArray} {nL pc : Nat} {ls : Array Slot} {rest : List Value} {D : va_G} {A : Nat → Prop} {H0 : Heap} {ad : Nat → Nat} {ca : Nat → ClassId} {bd : Nat → Nat} {cb : Nat → ClassId} {σ : cd_D} {μ : cd_M} (K : CallFix p m c cc nL s args lw_all "ClosureDeskLaw")  (hS : lS D ad ca bd cb A H0 σ μ s H locs) (hR : (cd_rm 4).frames + 1 ≤ R.frames ∧ 8 + (4 + 11) + (cd_rm 4).locals ≤ R.locals) (hf : cells + 0 ≤ R.cells ∧ slots + 0 ≤ R.slots) (hls : ls.size = nL) (hrm : (rest.map fun v => v.category).sum ≤ 8) (hdg : decode cc pc = .ok (.invokevirtual 53, 3)) (kk : W p l e R s m args below meth c H locs cells slots Q (F0 m (pc + 3) ls (.int (cd_it (cd_lb1 (cd_under (mT μ)) (mW μ) (mN μ) (cd_best (cd_under (mT μ)) (mW μ) (mN μ))) 512 (cd_under (mT μ))) :: rest))) : W p l e R s m args below meth c H locs cells slots Q (F0 m pc ls (.ref (bd 0) :: rest)) :=
  cl_R K (m_X1_leastBest l D bd cb μ) (cwV 0 K.2.2.2.2 (lw_V q226 q227 q228 q15 q229) rfl rfl rfl (by decide +kernel) hR) (lS_m hS) (va_recv (lS_m hS).1 (lS_m hS).2 (ci := 1) (q0 := 0) rfl rfl) rfl hls rfl hrm hf hdg kk
theorem kl_X0_greatestBest {p : Program} {l : Launch} {e : Env} {R : Room} {s : State} {m : MethodId} {args : Array Value} {below : List Frame} {meth : Method} {c : Code} {H : Heap} {locs : List Loc} {cells slots : Nat} {Q : State → Prop} {cc : ByteArray} {nL pc : Nat} {ls : Array Slot} {rest : List Value} {D : va_G} {A : Nat → Prop} {H0 : Heap} {ad : Nat → Nat} {ca : Nat → ClassId} {bd : Nat → Nat} {cb : Nat → ClassId} {σ : cd_D} {μ : cd_M} (K : CallFix p m c cc nL s args lw_all "ClosureDeskLaw") (hg : cd_gd (gP σ) (gW σ) (gN σ)) (hS : lS D ad ca bd cb A H0 σ μ s H locs) (hR : (cd_rm 3).frames + 1 ≤ R.frames ∧ 8 + (1 + 11) + (cd_rm 3).locals ≤ R.locals) (hf : cells + 0 ≤ R.cells ∧ slots + 0 ≤ R.slots) (hls : ls.size = nL) (hrm : (rest.map fun v => v.category).sum ≤ 8) (hdg : decode cc pc = .ok (.invokevirtual 54, 3)) (kk : ∀ (rr : Int32) (zz : cd_D) (H1 : Heap) (locs1 : List Loc), (fun z τ => cd_greP σ z τ) rr zz → lS D ad ca bd cb A H0 zz μ s H1 locs1 → W p l e R s m args below meth c H1 locs1 cells slots Q (F0 m (pc + 3) ls (.int rr :: rest))) : W p l e R s m args below meth c H locs cells slots Q (F0 m pc ls (.ref (ad 0) :: rest)) :=
  lc_D K (m_X0_greatestBest l D ad ca σ hg) (cwV 0 K.2.2.2.2 (lw_V q115 q116 q117 q14 q118) rfl rfl rfl (by decide +kernel) hR) hS (va_recv (lS_d hS).1 (lS_d hS).2 (ci := 0) (q0 := 0) rfl rfl) rfl hls rfl hrm hf hdg kk
theorem kl_X1_greatestBest {p : Program} {l : Launch} {e : Env} {R : Room} {s : State} {m : MethodId} {args : Array Value} {below : List Frame} {meth : Method} {c : Code} {H : Heap} {locs : List Loc} {cells slots : Nat} {Q : State → Prop} {cc : ByteArray} {nL pc : Nat} {ls : Array Slot} {rest : List Value} {D : va_G} {A : Nat → Prop} {H0 : Heap} {ad : Nat → Nat} {ca : Nat → ClassId} {bd : Nat → Nat} {cb : Nat → ClassId} {σ : cd_D} {μ : cd_M} (K : CallFix p m c cc nL s args lw_all "ClosureDeskLaw")  (hS : lS D ad ca bd cb A H0 σ μ s H locs) (hR : (cd_rm 4).frames + 1 ≤ R.frames ∧ 8 + (4 + 11) + (cd_rm 4).locals ≤ R.locals) (hf : cells + 0 ≤ R.cells ∧ slots + 0 ≤ R.slots) (hls : ls.size = nL) (hrm : (rest.map fun v => v.category).sum ≤ 8) (hdg : decode cc pc = .ok (.invokevirtual 57, 3)) (kk : W p l e R s m args below meth c H locs cells slots Q (F0 m (pc + 3) ls (.int (cd_it (cd_gb1 (cd_under (mT μ)) (mW μ) (mN μ) (cd_best (cd_under (mT μ)) (mW μ) (mN μ))) 512 0) :: rest))) : W p l e R s m args below meth c H locs cells slots Q (F0 m pc ls (.ref (bd 0) :: rest)) :=
  cl_R K (m_X1_greatestBest l D bd cb μ) (cwV 0 K.2.2.2.2 (lw_V q231 q232 q233 q15 q234) rfl rfl rfl (by decide +kernel) hR) (lS_m hS) (va_recv (lS_m hS).1 (lS_m hS).2 (ci := 1) (q0 := 0) rfl rfl) rfl hls rfl hrm hf hdg kk
theorem kl_X0_bestWith {p : Program} {l : Launch} {e : Env} {R : Room} {s : State} {m : MethodId} {args : Array Value} {below : List Frame} {meth : Method} {c : Code} {H : Heap} {locs : List Loc} {cells slots : Nat} {Q : State → Prop} {cc : ByteArray} {nL pc : Nat} {ls : Array Slot} {rest : List Value} {D : va_G} {A : Nat → Prop} {H0 : Heap} {ad : Nat → Nat} {ca : Nat → ClassId} {bd : Nat → Nat} {cb : Nat → ClassId} {σ : cd_D} {μ : cd_M} {u : Int32} (K : CallFix p m c cc nL s args lw_all "ClosureDeskLaw") (hg : cd_gd (gP σ) (gW σ) (gN σ)) (hS : lS D ad ca bd cb A H0 σ μ s H locs) (hR : (cd_rm 4).frames + 1 ≤ R.frames ∧ 8 + (2 + 11) + (cd_rm 4).locals ≤ R.locals) (hf : cells + 0 ≤ R.cells ∧ slots + 0 ≤ R.slots) (hls : ls.size = nL) (hrm : (rest.map fun v => v.category).sum ≤ 8) (hdg : decode cc pc = .ok (.invokevirtual 58, 3)) (kk : ∀ (rr : Int32) (zz : cd_D) (H1 : Heap) (locs1 : List Loc), (fun z τ => cd_bwiP σ u z τ) rr zz → lS D ad ca bd cb A H0 zz μ s H1 locs1 → W p l e R s m args below meth c H1 locs1 cells slots Q (F0 m (pc + 3) ls (.int rr :: rest))) : W p l e R s m args below meth c H locs cells slots Q (F0 m pc ls (.int u :: .ref (ad 0) :: rest)) :=
  lc_D K (m_X0_bestWith l D ad ca σ u hg) (cwV 1 K.2.2.2.2 (lw_V q123 q124 q125 q14 q126) rfl rfl rfl (by decide +kernel) hR) hS (va_recv (lS_d hS).1 (lS_d hS).2 (ci := 0) (q0 := 0) rfl rfl) rfl hls rfl hrm hf hdg kk
theorem kl_X1_bestWith {p : Program} {l : Launch} {e : Env} {R : Room} {s : State} {m : MethodId} {args : Array Value} {below : List Frame} {meth : Method} {c : Code} {H : Heap} {locs : List Loc} {cells slots : Nat} {Q : State → Prop} {cc : ByteArray} {nL pc : Nat} {ls : Array Slot} {rest : List Value} {D : va_G} {A : Nat → Prop} {H0 : Heap} {ad : Nat → Nat} {ca : Nat → ClassId} {bd : Nat → Nat} {cb : Nat → ClassId} {σ : cd_D} {μ : cd_M} {u : Int32} (K : CallFix p m c cc nL s args lw_all "ClosureDeskLaw")  (hS : lS D ad ca bd cb A H0 σ μ s H locs) (hR : (cd_rm 3).frames + 1 ≤ R.frames ∧ 8 + (2 + 11) + (cd_rm 3).locals ≤ R.locals) (hf : cells + 0 ≤ R.cells ∧ slots + 0 ≤ R.slots) (hls : ls.size = nL) (hrm : (rest.map fun v => v.category).sum ≤ 8) (hdg : decode cc pc = .ok (.invokevirtual 61, 3)) (kk : W p l e R s m args below meth c H locs cells slots Q (F0 m (pc + 3) ls (.int (cd_mwith (mT μ) (mW μ) (mN μ) u) :: rest))) : W p l e R s m args below meth c H locs cells slots Q (F0 m pc ls (.int u :: .ref (bd 0) :: rest)) :=
  cl_R K (m_X1_bestWith l D bd cb μ u) (cwV 1 K.2.2.2.2 (lw_V q235 q236 q237 q15 q238) rfl rfl rfl (by decide +kernel) hR) (lS_m hS) (va_recv (lS_m hS).1 (lS_m hS).2 (ci := 1) (q0 := 0) rfl rfl) rfl hls rfl hrm hf hdg kk
theorem kl_X0_bestWithout {p : Program} {l : Launch} {e : Env} {R : Room} {s : State} {m : MethodId} {args : Array Value} {below : List Frame} {meth : Method} {c : Code} {H : Heap} {locs : List Loc} {cells slots : Nat} {Q : State → Prop} {cc : ByteArray} {nL pc : Nat} {ls : Array Slot} {rest : List Value} {D : va_G} {A : Nat → Prop} {H0 : Heap} {ad : Nat → Nat} {ca : Nat → ClassId} {bd : Nat → Nat} {cb : Nat → ClassId} {σ : cd_D} {μ : cd_M} {u : Int32} (K : CallFix p m c cc nL s args lw_all "ClosureDeskLaw") (hg : cd_gd (gP σ) (gW σ) (gN σ)) (hS : lS D ad ca bd cb A H0 σ μ s H locs) (hR : (cd_rm 4).frames + 1 ≤ R.frames ∧ 8 + (2 + 11) + (cd_rm 4).locals ≤ R.locals) (hf : cells + 0 ≤ R.cells ∧ slots + 0 ≤ R.slots) (hls : ls.size = nL) (hrm : (rest.map fun v => v.category).sum ≤ 8) (hdg : decode cc pc = .ok (.invokevirtual 62, 3)) (kk : ∀ (rr : Int32) (zz : cd_D) (H1 : Heap) (locs1 : List Loc), (fun z τ => cd_bwoP σ u z τ) rr zz → lS D ad ca bd cb A H0 zz μ s H1 locs1 → W p l e R s m args below meth c H1 locs1 cells slots Q (F0 m (pc + 3) ls (.int rr :: rest))) : W p l e R s m args below meth c H locs cells slots Q (F0 m pc ls (.int u :: .ref (ad 0) :: rest)) :=
  lc_D K (m_X0_bestWithout l D ad ca σ u hg) (cwV 1 K.2.2.2.2 (lw_V q132 q133 q134 q14 q135) rfl rfl rfl (by decide +kernel) hR) hS (va_recv (lS_d hS).1 (lS_d hS).2 (ci := 0) (q0 := 0) rfl rfl) rfl hls rfl hrm hf hdg kk
theorem kl_X1_bestWithout {p : Program} {l : Launch} {e : Env} {R : Room} {s : State} {m : MethodId} {args : Array Value} {below : List Frame} {meth : Method} {c : Code} {H : Heap} {locs : List Loc} {cells slots : Nat} {Q : State → Prop} {cc : ByteArray} {nL pc : Nat} {ls : Array Slot} {rest : List Value} {D : va_G} {A : Nat → Prop} {H0 : Heap} {ad : Nat → Nat} {ca : Nat → ClassId} {bd : Nat → Nat} {cb : Nat → ClassId} {σ : cd_D} {μ : cd_M} {u : Int32} (K : CallFix p m c cc nL s args lw_all "ClosureDeskLaw")  (hS : lS D ad ca bd cb A H0 σ μ s H locs) (hR : (cd_rm 3).frames + 1 ≤ R.frames ∧ 8 + (2 + 11) + (cd_rm 3).locals ≤ R.locals) (hf : cells + 0 ≤ R.cells ∧ slots + 0 ≤ R.slots) (hls : ls.size = nL) (hrm : (rest.map fun v => v.category).sum ≤ 8) (hdg : decode cc pc = .ok (.invokevirtual 65, 3)) (kk : W p l e R s m args below meth c H locs cells slots Q (F0 m (pc + 3) ls (.int (cd_mwithout (mT μ) (mW μ) (mN μ) u) :: rest))) : W p l e R s m args below meth c H locs cells slots Q (F0 m pc ls (.int u :: .ref (bd 0) :: rest)) :=
  cl_R K (m_X1_bestWithout l D bd cb μ u) (cwV 1 K.2.2.2.2 (lw_V q239 q240 q241 q15 q242) rfl rfl rfl (by decide +kernel) hR) (lS_m hS) (va_recv (lS_m hS).1 (lS_m hS).2 (ci := 1) (q0 := 0) rfl rfl) rfl hls rfl hrm hf hdg kk
theorem kl_X0_threshold {p : Program} {l : Launch} {e : Env} {R : Room} {s : State} {m : MethodId} {args : Array Value} {below : List Frame} {meth : Method} {c : Code} {H : Heap} {locs : List Loc} {cells slots : Nat} {Q : State → Prop} {cc : ByteArray} {nL pc : Nat} {ls : Array Slot} {rest : List Value} {D : va_G} {A : Nat → Prop} {H0 : Heap} {ad : Nat → Nat} {ca : Nat → ClassId} {bd : Nat → Nat} {cb : Nat → ClassId} {σ : cd_D} {μ : cd_M} {u : Int32} (K : CallFix p m c cc nL s args lw_all "ClosureDeskLaw") (hg : cd_gd (gP σ) (gW σ) (gN σ)) (hS : lS D ad ca bd cb A H0 σ μ s H locs) (hR : (cd_rm 4).frames + 1 ≤ R.frames ∧ 8 + (4 + 11) + (cd_rm 4).locals ≤ R.locals) (hf : cells + 0 ≤ R.cells ∧ slots + 0 ≤ R.slots) (hls : ls.size = nL) (hrm : (rest.map fun v => v.category).sum ≤ 8) (hdg : decode cc pc = .ok (.invokevirtual 66, 3)) (kk : ∀ (rr : Int32) (zz : cd_D) (H1 : Heap) (locs1 : List Loc), (fun z τ => cd_thrP σ u z τ) rr zz → lS D ad ca bd cb A H0 zz μ s H1 locs1 → W p l e R s m args below meth c H1 locs1 cells slots Q (F0 m (pc + 3) ls (.int rr :: rest))) : W p l e R s m args below meth c H locs cells slots Q (F0 m pc ls (.int u :: .ref (ad 0) :: rest)) :=
  lc_D K (m_X0_threshold l D ad ca σ u hg) (cwV 1 K.2.2.2.2 (lw_V q141 q142 q143 q14 q144) rfl rfl rfl (by decide +kernel) hR) hS (va_recv (lS_d hS).1 (lS_d hS).2 (ci := 0) (q0 := 0) rfl rfl) rfl hls rfl hrm hf hdg kk
theorem kl_X1_threshold {p : Program} {l : Launch} {e : Env} {R : Room} {s : State} {m : MethodId} {args : Array Value} {below : List Frame} {meth : Method} {c : Code} {H : Heap} {locs : List Loc} {cells slots : Nat} {Q : State → Prop} {cc : ByteArray} {nL pc : Nat} {ls : Array Slot} {rest : List Value} {D : va_G} {A : Nat → Prop} {H0 : Heap} {ad : Nat → Nat} {ca : Nat → ClassId} {bd : Nat → Nat} {cb : Nat → ClassId} {σ : cd_D} {μ : cd_M} {u : Int32} (K : CallFix p m c cc nL s args lw_all "ClosureDeskLaw")  (hS : lS D ad ca bd cb A H0 σ μ s H locs) (hR : (cd_rm 4).frames + 1 ≤ R.frames ∧ 8 + (5 + 11) + (cd_rm 4).locals ≤ R.locals) (hf : cells + 0 ≤ R.cells ∧ slots + 0 ≤ R.slots) (hls : ls.size = nL) (hrm : (rest.map fun v => v.category).sum ≤ 8) (hdg : decode cc pc = .ok (.invokevirtual 69, 3)) (kk : ∀ (rr : Int32) (zz : cd_M) (H1 : Heap) (locs1 : List Loc), (fun r τ => τ = μ ∧ r = (if cd_is (mT μ) u then cd_it (cd_th1 (mT μ) (mW μ) (mN μ) u) 101 51 else -100000)) rr zz → lS D ad ca bd cb A H0 σ zz s H1 locs1 → W p l e R s m args below meth c H1 locs1 cells slots Q (F0 m (pc + 3) ls (.int rr :: rest))) : W p l e R s m args below meth c H locs cells slots Q (F0 m pc ls (.int u :: .ref (bd 0) :: rest)) :=
  lc_M K (m_X1_threshold l D bd cb μ u) (cwV 1 K.2.2.2.2 (lw_V q243 q244 q245 q15 q246) rfl rfl rfl (by decide +kernel) hR) hS (va_recv (lS_m hS).1 (lS_m hS).2 (ci := 1) (q0 := 0) rfl rfl) rfl hls rfl hrm hf hdg kk
theorem kl_X0_burden {p : Program} {l : Launch} {e : Env} {R : Room} {s : State} {m : MethodId} {args : Array Value} {below : List Frame} {meth : Method} {c : Code} {H : Heap} {locs : List Loc} {cells slots : Nat} {Q : State → Prop} {cc : ByteArray} {nL pc : Nat} {ls : Array Slot} {rest : List Value} {D : va_G} {A : Nat → Prop} {H0 : Heap} {ad : Nat → Nat} {ca : Nat → ClassId} {bd : Nat → Nat} {cb : Nat → ClassId} {σ : cd_D} {μ : cd_M} {u v : Int32} (K : CallFix p m c cc nL s args lw_all "ClosureDeskLaw") (hg : cd_gd (gP σ) (gW σ) (gN σ)) (hS : lS D ad ca bd cb A H0 σ μ s H locs) (hR : (cd_rm 4).frames + 1 ≤ R.frames ∧ 8 + (5 + 11) + (cd_rm 4).locals ≤ R.locals) (hf : cells + 0 ≤ R.cells ∧ slots + 0 ≤ R.slots) (hls : ls.size = nL) (hrm : (rest.map fun v => v.category).sum ≤ 8) (hdg : decode cc pc = .ok (.invokevirtual 70, 3)) (kk : ∀ (rr : Int32) (zz : cd_D) (H1 : Heap) (locs1 : List Loc), (fun z τ => cd_burP σ u v z τ) rr zz → lS D ad ca bd cb A H0 zz μ s H1 locs1 → W p l e R s m args below meth c H1 locs1 cells slots Q (F0 m (pc + 3) ls (.int rr :: rest))) : W p l e R s m args below meth c H locs cells slots Q (F0 m pc ls (.int v :: .int u :: .ref (ad 0) :: rest)) :=
  lc_D K (m_X0_burden l D ad ca σ u v hg) (cwV 2 K.2.2.2.2 (lw_V q145 q146 q147 q14 q148) rfl rfl rfl (by decide +kernel) hR) hS (va_recv (lS_d hS).1 (lS_d hS).2 (ci := 0) (q0 := 0) rfl rfl) rfl hls rfl hrm hf hdg kk
theorem kl_X1_burden {p : Program} {l : Launch} {e : Env} {R : Room} {s : State} {m : MethodId} {args : Array Value} {below : List Frame} {meth : Method} {c : Code} {H : Heap} {locs : List Loc} {cells slots : Nat} {Q : State → Prop} {cc : ByteArray} {nL pc : Nat} {ls : Array Slot} {rest : List Value} {D : va_G} {A : Nat → Prop} {H0 : Heap} {ad : Nat → Nat} {ca : Nat → ClassId} {bd : Nat → Nat} {cb : Nat → ClassId} {σ : cd_D} {μ : cd_M} {u v : Int32} (K : CallFix p m c cc nL s args lw_all "ClosureDeskLaw")  (hS : lS D ad ca bd cb A H0 σ μ s H locs) (hR : (cd_rm 4).frames + 1 ≤ R.frames ∧ 8 + (6 + 11) + (cd_rm 4).locals ≤ R.locals) (hf : cells + 0 ≤ R.cells ∧ slots + 0 ≤ R.slots) (hls : ls.size = nL) (hrm : (rest.map fun v => v.category).sum ≤ 8) (hdg : decode cc pc = .ok (.invokevirtual 74, 3)) (kk : ∀ (rr : Int32) (zz : cd_M) (H1 : Heap) (locs1 : List Loc), (fun r τ => τ = μ ∧ r = (if cd_mnok (mT μ) u v then cd_best (cd_under (mT μ)) (mW μ) (upd (mN μ) u.toNatClampNeg (mN μ u.toNatClampNeg &&& (((1 : Int32) <<< (v &&& 31)) ^^^ (-1)))) - cd_best (cd_under (mT μ)) (mW μ) (mN μ) else -100000)) rr zz → lS D ad ca bd cb A H0 σ zz s H1 locs1 → W p l e R s m args below meth c H1 locs1 cells slots Q (F0 m (pc + 3) ls (.int rr :: rest))) : W p l e R s m args below meth c H locs cells slots Q (F0 m pc ls (.int v :: .int u :: .ref (bd 0) :: rest)) :=
  lc_M K (m_X1_burden l D bd cb μ u v) (cwV 2 K.2.2.2.2 (lw_V q248 q249 q250 q15 q251) rfl rfl rfl (by decide +kernel) hR) hS (va_recv (lS_m hS).1 (lS_m hS).2 (ci := 1) (q0 := 0) rfl rfl) rfl hls rfl hrm hf hdg kk
theorem kl_X0_choices {p : Program} {l : Launch} {e : Env} {R : Room} {s : State} {m : MethodId} {args : Array Value} {below : List Frame} {meth : Method} {c : Code} {H : Heap} {locs : List Loc} {cells slots : Nat} {Q : State → Prop} {cc : ByteArray} {nL pc : Nat} {ls : Array Slot} {rest : List Value} {D : va_G} {A : Nat → Prop} {H0 : Heap} {ad : Nat → Nat} {ca : Nat → ClassId} {bd : Nat → Nat} {cb : Nat → ClassId} {σ : cd_D} {μ : cd_M} (K : CallFix p m c cc nL s args lw_all "ClosureDeskLaw") (Pn : Nat) (hPn : Pn < 512) (hP9 : gP σ = nI Pn) (hg : cd_gd (gP σ) (gW σ) (gN σ)) (hS : lS D ad ca bd cb A H0 σ μ s H locs) (hR : (cd_rm 3).frames + 1 ≤ R.frames ∧ 8 + (4 + 11) + (cd_rm 3).locals ≤ R.locals) (hf : cells + 0 ≤ R.cells ∧ slots + 0 ≤ R.slots) (hls : ls.size = nL) (hrm : (rest.map fun v => v.category).sum ≤ 8) (hdg : decode cc pc = .ok (.invokevirtual 75, 3)) (kk : ∀ (rr : Int32) (zz : cd_D) (H1 : Heap) (locs1 : List Loc), (fun z τ => cd_choP σ Pn z τ) rr zz → lS D ad ca bd cb A H0 zz μ s H1 locs1 → W p l e R s m args below meth c H1 locs1 cells slots Q (F0 m (pc + 3) ls (.int rr :: rest))) : W p l e R s m args below meth c H locs cells slots Q (F0 m pc ls (.ref (ad 0) :: rest)) :=
  lc_D K (m_X0_choices l D ad ca σ Pn hPn hP9 hg) (cwV 0 K.2.2.2.2 (lw_V q150 q151 q152 q14 q153) rfl rfl rfl (by decide +kernel) hR) hS (va_recv (lS_d hS).1 (lS_d hS).2 (ci := 0) (q0 := 0) rfl rfl) rfl hls rfl hrm hf hdg kk
theorem kl_X1_choices {p : Program} {l : Launch} {e : Env} {R : Room} {s : State} {m : MethodId} {args : Array Value} {below : List Frame} {meth : Method} {c : Code} {H : Heap} {locs : List Loc} {cells slots : Nat} {Q : State → Prop} {cc : ByteArray} {nL pc : Nat} {ls : Array Slot} {rest : List Value} {D : va_G} {A : Nat → Prop} {H0 : Heap} {ad : Nat → Nat} {ca : Nat → ClassId} {bd : Nat → Nat} {cb : Nat → ClassId} {σ : cd_D} {μ : cd_M} (K : CallFix p m c cc nL s args lw_all "ClosureDeskLaw")  (hS : lS D ad ca bd cb A H0 σ μ s H locs) (hR : (cd_rm 4).frames + 1 ≤ R.frames ∧ 8 + (4 + 11) + (cd_rm 4).locals ≤ R.locals) (hf : cells + 0 ≤ R.cells ∧ slots + 0 ≤ R.slots) (hls : ls.size = nL) (hrm : (rest.map fun v => v.category).sum ≤ 8) (hdg : decode cc pc = .ok (.invokevirtual 78, 3)) (kk : W p l e R s m args below meth c H locs cells slots Q (F0 m (pc + 3) ls (.int (cd_it (cd_co1 (cd_under (mT μ)) (mW μ) (mN μ) (cd_best (cd_under (mT μ)) (mW μ) (mN μ))) 512 0) :: rest))) : W p l e R s m args below meth c H locs cells slots Q (F0 m pc ls (.ref (bd 0) :: rest)) :=
  cl_R K (m_X1_choices l D bd cb μ) (cwV 0 K.2.2.2.2 (lw_V q252 q253 q254 q15 q255) rfl rfl rfl (by decide +kernel) hR) (lS_m hS) (va_recv (lS_m hS).1 (lS_m hS).2 (ci := 1) (q0 := 0) rfl rfl) rfl hls rfl hrm hf hdg kk
theorem lw_sld {p : Program} {l : Launch} {e : Env} {R : Room} {s : State} {m : MethodId} {args : Array Value} {below : List Frame} {meth : Method} {c : Code} {H : Heap} {locs : List Loc} {cells slots : Nat} {Q : State → Prop} {cc : ByteArray} {nL pc : Nat} {ls : Array Slot} {rest : List Value} {A : Nat → Prop} {Ts : List Cond} {own : String} {b L : Nat} {xs : Nat → Int32} (K : CallFix p m c cc nL s args Ts own) (hX : va_X b L xs s s.heap) (hbl : b < s.heap.size) (hbA : ¬ A b) (hL : L ≤ 256) (hS : va_S A s.heap H locs) {i : Int32} (j : Nat) (hj : j < L) (hi : i = nI j) (hdg : decode cc pc = .ok (.iaload, 1)) (kk : W p l e R s m args below meth c H locs cells slots Q (F0 m (pc + 1) ls (.int (xs j) :: rest))) : W p l e R s m args below meth c H locs cells slots Q (F0 m pc ls (.int i :: .ref b :: rest)) := by
  subst hi
  refine va_sld K.1 K.2.1 hX hbl hbA hS (vp_in_nI hj (by omega)) hdg ?_
  rw [nI_clamp (by omega)]
  exact kk
end
section
/-! the law, case by case -/
set_option maxHeartbeats 4000000 in
set_option maxRecDepth 100000 in
theorem law_c0 {p : Program} {l : Launch} {e : Env} {s : State} {m : MethodId} {args : Array Value} {below : List Frame} {meth : Method} {c : Code} {Q : State → Prop} {D : va_G} {A : Nat → Prop} {ad : Nat → Nat} {ca : Nat → ClassId} {bd : Nat → Nat} {cb : Nat → ClassId} {b L : Nat} {xs : Nat → Int32} (K : CallFix p m c cL_law 4 s args lw_all "ClosureDeskLaw") (hX : va_X b L xs s s.heap) (hbl : b < s.heap.size) (hbA : ¬ A b) (hL : L ≤ 256) {i : Nat} (hi : i + 4 ≤ L) {σ : cd_D} {μ : cd_M} {H : Heap} {locs : List Loc} {ls : Array Slot} (hrel : cd_rel σ μ) (hS : lS D ad ca bd cb A s.heap σ μ s H locs) (hl : lv_has ls 4 [(3, .int (nI i)), (2, .ref (bd 0)), (1, .ref (ad 0)), (0, .ref b)]) (kk : ∀ (σ1 : cd_D) (μ1 : cd_M) (H1 : Heap) (locs1 : List Loc), cd_rel σ1 μ1 → lS D ad ca bd cb A s.heap σ1 μ1 s H1 locs1 → W p l e room_1 s m args below meth c H1 locs1 11 209 Q (F0 m 459 ls [])) : W p l e room_1 s m args below meth c H locs 11 209 Q (F0 m 108 ls []) := by
  obtain ⟨hx, hb, hml, hown, hts⟩ := id K
  refine lv_aload_n hx hb dL_law_108 rfl (lv_at hl 2 rfl) ?_
  refine lv_aload_n hx hb dL_law_109 rfl (lv_at hl 3 rfl) ?_
  refine lv_iload_n hx hb dL_law_110 rfl (lv_at hl 0 rfl) ?_
  refine lv_iconst (v := 1) hx hb dL_law_111 (by decide) ?_
  refine lv_iadd hx hb dL_law_112 ?_
  refine lw_sld K hX hbl hbA hL hS.2.2.1 (i + 1) (by omega) (nI_add i 1) dL_law_113 ?_
  refine kl_X0_add K  hS ⟨Nat.le_of_ble_eq_true rfl, Nat.le_of_ble_eq_true rfl⟩ ⟨Nat.le_of_ble_eq_true rfl, Nat.le_of_ble_eq_true rfl⟩ hl.1 (Nat.le_of_ble_eq_true rfl) dL_law_114 (fun z τ H locs hz hS => ?_)
  refine lv_aload_n hx hb dL_law_117 rfl (lv_at hl 1 rfl) ?_
  refine lv_aload_n hx hb dL_law_118 rfl (lv_at hl 3 rfl) ?_
  refine lv_iload_n hx hb dL_law_119 rfl (lv_at hl 0 rfl) ?_
  refine lv_iconst (v := 1) hx hb dL_law_120 (by decide) ?_
  refine lv_iadd hx hb dL_law_121 ?_
  refine lw_sld K hX hbl hbA hL hS.2.2.1 (i + 1) (by omega) (nI_add i 1) dL_law_122 ?_
  refine kl_X1_add K  hS ⟨Nat.le_of_ble_eq_true rfl, Nat.le_of_ble_eq_true rfl⟩ ⟨Nat.le_of_ble_eq_true rfl, Nat.le_of_ble_eq_true rfl⟩ hl.1 (Nat.le_of_ble_eq_true rfl) dL_law_123 (fun y ν H locs hy hS => ?_)
  refine lv_icmp_eq (tgt := 459) hx hb dL_law_126 (by decide) (fun c126 => ?_) (fun c126 => ?_)
  · exact kk τ ν _ _ ((op_add hrel hz hy).2) hS
  · exact absurd ((op_add hrel hz hy).1) c126
set_option maxHeartbeats 4000000 in
set_option maxRecDepth 100000 in
theorem law_c1 {p : Program} {l : Launch} {e : Env} {s : State} {m : MethodId} {args : Array Value} {below : List Frame} {meth : Method} {c : Code} {Q : State → Prop} {D : va_G} {A : Nat → Prop} {ad : Nat → Nat} {ca : Nat → ClassId} {bd : Nat → Nat} {cb : Nat → ClassId} {b L : Nat} {xs : Nat → Int32} (K : CallFix p m c cL_law 4 s args lw_all "ClosureDeskLaw") (hX : va_X b L xs s s.heap) (hbl : b < s.heap.size) (hbA : ¬ A b) (hL : L ≤ 256) {i : Nat} (hi : i + 4 ≤ L) {σ : cd_D} {μ : cd_M} {H : Heap} {locs : List Loc} {ls : Array Slot} (hrel : cd_rel σ μ) (hS : lS D ad ca bd cb A s.heap σ μ s H locs) (hl : lv_has ls 4 [(3, .int (nI i)), (2, .ref (bd 0)), (1, .ref (ad 0)), (0, .ref b)]) (kk : ∀ (σ1 : cd_D) (μ1 : cd_M) (H1 : Heap) (locs1 : List Loc), cd_rel σ1 μ1 → lS D ad ca bd cb A s.heap σ1 μ1 s H1 locs1 → W p l e room_1 s m args below meth c H1 locs1 11 209 Q (F0 m 459 ls [])) : W p l e room_1 s m args below meth c H locs 11 209 Q (F0 m 131 ls []) := by
  obtain ⟨hx, hb, hml, hown, hts⟩ := id K
  refine lv_aload_n hx hb dL_law_131 rfl (lv_at hl 2 rfl) ?_
  refine lv_aload_n hx hb dL_law_132 rfl (lv_at hl 3 rfl) ?_
  refine lv_iload_n hx hb dL_law_133 rfl (lv_at hl 0 rfl) ?_
  refine lv_iconst (v := 1) hx hb dL_law_134 (by decide) ?_
  refine lv_iadd hx hb dL_law_135 ?_
  refine lw_sld K hX hbl hbA hL hS.2.2.1 (i + 1) (by omega) (nI_add i 1) dL_law_136 ?_
  refine kl_X0_remove K  hS ⟨Nat.le_of_ble_eq_true rfl, Nat.le_of_ble_eq_true rfl⟩ ⟨Nat.le_of_ble_eq_true rfl, Nat.le_of_ble_eq_true rfl⟩ hl.1 (Nat.le_of_ble_eq_true rfl) dL_law_137 (fun z τ H locs hz hS => ?_)
  refine lv_aload_n hx hb dL_law_140 rfl (lv_at hl 1 rfl) ?_
  refine lv_aload_n hx hb dL_law_141 rfl (lv_at hl 3 rfl) ?_
  refine lv_iload_n hx hb dL_law_142 rfl (lv_at hl 0 rfl) ?_
  refine lv_iconst (v := 1) hx hb dL_law_143 (by decide) ?_
  refine lv_iadd hx hb dL_law_144 ?_
  refine lw_sld K hX hbl hbA hL hS.2.2.1 (i + 1) (by omega) (nI_add i 1) dL_law_145 ?_
  refine kl_X1_remove K  hS ⟨Nat.le_of_ble_eq_true rfl, Nat.le_of_ble_eq_true rfl⟩ ⟨Nat.le_of_ble_eq_true rfl, Nat.le_of_ble_eq_true rfl⟩ hl.1 (Nat.le_of_ble_eq_true rfl) dL_law_146 (fun y ν H locs hy hS => ?_)
  refine lv_icmp_eq (tgt := 459) hx hb dL_law_149 (by decide) (fun c149 => ?_) (fun c149 => ?_)
  · exact kk τ ν _ _ ((op_rem hrel hz hy).2) hS
  · exact absurd ((op_rem hrel hz hy).1) c149
set_option maxHeartbeats 4000000 in
set_option maxRecDepth 100000 in
theorem law_c2 {p : Program} {l : Launch} {e : Env} {s : State} {m : MethodId} {args : Array Value} {below : List Frame} {meth : Method} {c : Code} {Q : State → Prop} {D : va_G} {A : Nat → Prop} {ad : Nat → Nat} {ca : Nat → ClassId} {bd : Nat → Nat} {cb : Nat → ClassId} {b L : Nat} {xs : Nat → Int32} (K : CallFix p m c cL_law 4 s args lw_all "ClosureDeskLaw") (hX : va_X b L xs s s.heap) (hbl : b < s.heap.size) (hbA : ¬ A b) (hL : L ≤ 256) {i : Nat} (hi : i + 4 ≤ L) {σ : cd_D} {μ : cd_M} {H : Heap} {locs : List Loc} {ls : Array Slot} (hrel : cd_rel σ μ) (hS : lS D ad ca bd cb A s.heap σ μ s H locs) (hl : lv_has ls 4 [(3, .int (nI i)), (2, .ref (bd 0)), (1, .ref (ad 0)), (0, .ref b)]) (kk : ∀ (σ1 : cd_D) (μ1 : cd_M) (H1 : Heap) (locs1 : List Loc), cd_rel σ1 μ1 → lS D ad ca bd cb A s.heap σ1 μ1 s H1 locs1 → W p l e room_1 s m args below meth c H1 locs1 11 209 Q (F0 m 459 ls [])) : W p l e room_1 s m args below meth c H locs 11 209 Q (F0 m 154 ls []) := by
  obtain ⟨hx, hb, hml, hown, hts⟩ := id K
  refine lv_aload_n hx hb dL_law_154 rfl (lv_at hl 2 rfl) ?_
  refine lv_aload_n hx hb dL_law_155 rfl (lv_at hl 3 rfl) ?_
  refine lv_iload_n hx hb dL_law_156 rfl (lv_at hl 0 rfl) ?_
  refine lv_iconst (v := 1) hx hb dL_law_157 (by decide) ?_
  refine lv_iadd hx hb dL_law_158 ?_
  refine lw_sld K hX hbl hbA hL hS.2.2.1 (i + 1) (by omega) (nI_add i 1) dL_law_159 ?_
  refine lv_aload_n hx hb dL_law_160 rfl (lv_at hl 3 rfl) ?_
  refine lv_iload_n hx hb dL_law_161 rfl (lv_at hl 0 rfl) ?_
  refine lv_iconst (v := 2) hx hb dL_law_162 (by decide) ?_
  refine lv_iadd hx hb dL_law_163 ?_
  refine lw_sld K hX hbl hbA hL hS.2.2.1 (i + 2) (by omega) (nI_add i 2) dL_law_164 ?_
  refine kl_X0_rate K  hS ⟨Nat.le_of_ble_eq_true rfl, Nat.le_of_ble_eq_true rfl⟩ ⟨Nat.le_of_ble_eq_true rfl, Nat.le_of_ble_eq_true rfl⟩ hl.1 (Nat.le_of_ble_eq_true rfl) dL_law_165 (fun z τ H locs hz hS => ?_)
  refine lv_aload_n hx hb dL_law_168 rfl (lv_at hl 1 rfl) ?_
  refine lv_aload_n hx hb dL_law_169 rfl (lv_at hl 3 rfl) ?_
  refine lv_iload_n hx hb dL_law_170 rfl (lv_at hl 0 rfl) ?_
  refine lv_iconst (v := 1) hx hb dL_law_171 (by decide) ?_
  refine lv_iadd hx hb dL_law_172 ?_
  refine lw_sld K hX hbl hbA hL hS.2.2.1 (i + 1) (by omega) (nI_add i 1) dL_law_173 ?_
  refine lv_aload_n hx hb dL_law_174 rfl (lv_at hl 3 rfl) ?_
  refine lv_iload_n hx hb dL_law_175 rfl (lv_at hl 0 rfl) ?_
  refine lv_iconst (v := 2) hx hb dL_law_176 (by decide) ?_
  refine lv_iadd hx hb dL_law_177 ?_
  refine lw_sld K hX hbl hbA hL hS.2.2.1 (i + 2) (by omega) (nI_add i 2) dL_law_178 ?_
  refine kl_X1_rate K  hS ⟨Nat.le_of_ble_eq_true rfl, Nat.le_of_ble_eq_true rfl⟩ ⟨Nat.le_of_ble_eq_true rfl, Nat.le_of_ble_eq_true rfl⟩ hl.1 (Nat.le_of_ble_eq_true rfl) dL_law_179 (fun y ν H locs hy hS => ?_)
  refine lv_icmp_eq (tgt := 459) hx hb dL_law_182 (by decide) (fun c182 => ?_) (fun c182 => ?_)
  · exact kk τ ν _ _ ((op_rate hrel hz hy).2) hS
  · exact absurd ((op_rate hrel hz hy).1) c182
set_option maxHeartbeats 4000000 in
set_option maxRecDepth 100000 in
theorem law_c3 {p : Program} {l : Launch} {e : Env} {s : State} {m : MethodId} {args : Array Value} {below : List Frame} {meth : Method} {c : Code} {Q : State → Prop} {D : va_G} {A : Nat → Prop} {ad : Nat → Nat} {ca : Nat → ClassId} {bd : Nat → Nat} {cb : Nat → ClassId} {b L : Nat} {xs : Nat → Int32} (K : CallFix p m c cL_law 4 s args lw_all "ClosureDeskLaw") (hX : va_X b L xs s s.heap) (hbl : b < s.heap.size) (hbA : ¬ A b) (hL : L ≤ 256) {i : Nat} (hi : i + 4 ≤ L) {σ : cd_D} {μ : cd_M} {H : Heap} {locs : List Loc} {ls : Array Slot} (hrel : cd_rel σ μ) (hS : lS D ad ca bd cb A s.heap σ μ s H locs) (hl : lv_has ls 4 [(3, .int (nI i)), (2, .ref (bd 0)), (1, .ref (ad 0)), (0, .ref b)]) (kk : ∀ (σ1 : cd_D) (μ1 : cd_M) (H1 : Heap) (locs1 : List Loc), cd_rel σ1 μ1 → lS D ad ca bd cb A s.heap σ1 μ1 s H1 locs1 → W p l e room_1 s m args below meth c H1 locs1 11 209 Q (F0 m 459 ls [])) : W p l e room_1 s m args below meth c H locs 11 209 Q (F0 m 187 ls []) := by
  obtain ⟨hx, hb, hml, hown, hts⟩ := id K
  refine lv_aload_n hx hb dL_law_187 rfl (lv_at hl 2 rfl) ?_
  refine lv_aload_n hx hb dL_law_188 rfl (lv_at hl 3 rfl) ?_
  refine lv_iload_n hx hb dL_law_189 rfl (lv_at hl 0 rfl) ?_
  refine lv_iconst (v := 1) hx hb dL_law_190 (by decide) ?_
  refine lv_iadd hx hb dL_law_191 ?_
  refine lw_sld K hX hbl hbA hL hS.2.2.1 (i + 1) (by omega) (nI_add i 1) dL_law_192 ?_
  refine lv_aload_n hx hb dL_law_193 rfl (lv_at hl 3 rfl) ?_
  refine lv_iload_n hx hb dL_law_194 rfl (lv_at hl 0 rfl) ?_
  refine lv_iconst (v := 2) hx hb dL_law_195 (by decide) ?_
  refine lv_iadd hx hb dL_law_196 ?_
  refine lw_sld K hX hbl hbA hL hS.2.2.1 (i + 2) (by omega) (nI_add i 2) dL_law_197 ?_
  refine lv_aload_n hx hb dL_law_198 rfl (lv_at hl 3 rfl) ?_
  refine lv_iload_n hx hb dL_law_199 rfl (lv_at hl 0 rfl) ?_
  refine lv_iconst (v := 3) hx hb dL_law_200 (by decide) ?_
  refine lv_iadd hx hb dL_law_201 ?_
  refine lw_sld K hX hbl hbA hL hS.2.2.1 (i + 3) (by omega) (nI_add i 3) dL_law_202 ?_
  refine lv_if_eq (tgt := 210) hx hb dL_law_203 (by decide) (fun c0 => ?_) (fun c0 => ?_)
  · refine lv_iconst (v := 0) hx hb dL_law_210 (by decide) ?_
    refine kl_X0_need K  hS ⟨Nat.le_of_ble_eq_true rfl, Nat.le_of_ble_eq_true rfl⟩ ⟨Nat.le_of_ble_eq_true rfl, Nat.le_of_ble_eq_true rfl⟩ hl.1 (Nat.le_of_ble_eq_true rfl) dL_law_211 (fun z τ H locs hz hS => ?_)
    refine lv_aload_n hx hb dL_law_214 rfl (lv_at hl 1 rfl) ?_
    refine lv_aload_n hx hb dL_law_215 rfl (lv_at hl 3 rfl) ?_
    refine lv_iload_n hx hb dL_law_216 rfl (lv_at hl 0 rfl) ?_
    refine lv_iconst (v := 1) hx hb dL_law_217 (by decide) ?_
    refine lv_iadd hx hb dL_law_218 ?_
    refine lw_sld K hX hbl hbA hL hS.2.2.1 (i + 1) (by omega) (nI_add i 1) dL_law_219 ?_
    refine lv_aload_n hx hb dL_law_220 rfl (lv_at hl 3 rfl) ?_
    refine lv_iload_n hx hb dL_law_221 rfl (lv_at hl 0 rfl) ?_
    refine lv_iconst (v := 2) hx hb dL_law_222 (by decide) ?_
    refine lv_iadd hx hb dL_law_223 ?_
    refine lw_sld K hX hbl hbA hL hS.2.2.1 (i + 2) (by omega) (nI_add i 2) dL_law_224 ?_
    refine lv_aload_n hx hb dL_law_225 rfl (lv_at hl 3 rfl) ?_
    refine lv_iload_n hx hb dL_law_226 rfl (lv_at hl 0 rfl) ?_
    refine lv_iconst (v := 3) hx hb dL_law_227 (by decide) ?_
    refine lv_iadd hx hb dL_law_228 ?_
    refine lw_sld K hX hbl hbA hL hS.2.2.1 (i + 3) (by omega) (nI_add i 3) dL_law_229 ?_
    refine lv_if_eq (tgt := 237) hx hb dL_law_230 (by decide) (fun c1 => ?_) (fun c1 => ?_)
    · refine lv_iconst (v := 0) hx hb dL_law_237 (by decide) ?_
      refine kl_X1_need K  hS ⟨Nat.le_of_ble_eq_true rfl, Nat.le_of_ble_eq_true rfl⟩ ⟨Nat.le_of_ble_eq_true rfl, Nat.le_of_ble_eq_true rfl⟩ hl.1 (Nat.le_of_ble_eq_true rfl) dL_law_238 (fun y ν H locs hy hS => ?_)
      have hq := op_need hrel hz hy
      refine lv_icmp_eq (tgt := 459) hx hb dL_law_241 (by decide) (fun c241 => ?_) (fun c241 => ?_)
      · exact kk τ ν _ _ hq.2 hS
      · exact absurd hq.1 c241
    · exact absurd c0 c1
  · refine lv_iconst (v := 1) hx hb dL_law_206 (by decide) ?_
    refine lv_goto (tgt := 211) hx hb dL_law_207 (by decide) ?_
    refine kl_X0_need K  hS ⟨Nat.le_of_ble_eq_true rfl, Nat.le_of_ble_eq_true rfl⟩ ⟨Nat.le_of_ble_eq_true rfl, Nat.le_of_ble_eq_true rfl⟩ hl.1 (Nat.le_of_ble_eq_true rfl) dL_law_211 (fun z τ H locs hz hS => ?_)
    refine lv_aload_n hx hb dL_law_214 rfl (lv_at hl 1 rfl) ?_
    refine lv_aload_n hx hb dL_law_215 rfl (lv_at hl 3 rfl) ?_
    refine lv_iload_n hx hb dL_law_216 rfl (lv_at hl 0 rfl) ?_
    refine lv_iconst (v := 1) hx hb dL_law_217 (by decide) ?_
    refine lv_iadd hx hb dL_law_218 ?_
    refine lw_sld K hX hbl hbA hL hS.2.2.1 (i + 1) (by omega) (nI_add i 1) dL_law_219 ?_
    refine lv_aload_n hx hb dL_law_220 rfl (lv_at hl 3 rfl) ?_
    refine lv_iload_n hx hb dL_law_221 rfl (lv_at hl 0 rfl) ?_
    refine lv_iconst (v := 2) hx hb dL_law_222 (by decide) ?_
    refine lv_iadd hx hb dL_law_223 ?_
    refine lw_sld K hX hbl hbA hL hS.2.2.1 (i + 2) (by omega) (nI_add i 2) dL_law_224 ?_
    refine lv_aload_n hx hb dL_law_225 rfl (lv_at hl 3 rfl) ?_
    refine lv_iload_n hx hb dL_law_226 rfl (lv_at hl 0 rfl) ?_
    refine lv_iconst (v := 3) hx hb dL_law_227 (by decide) ?_
    refine lv_iadd hx hb dL_law_228 ?_
    refine lw_sld K hX hbl hbA hL hS.2.2.1 (i + 3) (by omega) (nI_add i 3) dL_law_229 ?_
    refine lv_if_eq (tgt := 237) hx hb dL_law_230 (by decide) (fun c1 => ?_) (fun c1 => ?_)
    · exact absurd c1 c0
    · refine lv_iconst (v := 1) hx hb dL_law_233 (by decide) ?_
      refine lv_goto (tgt := 238) hx hb dL_law_234 (by decide) ?_
      refine kl_X1_need K  hS ⟨Nat.le_of_ble_eq_true rfl, Nat.le_of_ble_eq_true rfl⟩ ⟨Nat.le_of_ble_eq_true rfl, Nat.le_of_ble_eq_true rfl⟩ hl.1 (Nat.le_of_ble_eq_true rfl) dL_law_238 (fun y ν H locs hy hS => ?_)
      have hq := op_need hrel hz hy
      refine lv_icmp_eq (tgt := 459) hx hb dL_law_241 (by decide) (fun c241 => ?_) (fun c241 => ?_)
      · exact kk τ ν _ _ hq.2 hS
      · exact absurd hq.1 c241
set_option maxHeartbeats 4000000 in
set_option maxRecDepth 100000 in
theorem law_c4 {p : Program} {l : Launch} {e : Env} {s : State} {m : MethodId} {args : Array Value} {below : List Frame} {meth : Method} {c : Code} {Q : State → Prop} {D : va_G} {A : Nat → Prop} {ad : Nat → Nat} {ca : Nat → ClassId} {bd : Nat → Nat} {cb : Nat → ClassId} {b L : Nat} {xs : Nat → Int32} (K : CallFix p m c cL_law 4 s args lw_all "ClosureDeskLaw") (hX : va_X b L xs s s.heap) (hbl : b < s.heap.size) (hbA : ¬ A b) (hL : L ≤ 256) {i : Nat} (hi : i + 4 ≤ L) {σ : cd_D} {μ : cd_M} {H : Heap} {locs : List Loc} {ls : Array Slot} (hrel : cd_rel σ μ) (hS : lS D ad ca bd cb A s.heap σ μ s H locs) (hl : lv_has ls 4 [(3, .int (nI i)), (2, .ref (bd 0)), (1, .ref (ad 0)), (0, .ref b)]) (kk : ∀ (σ1 : cd_D) (μ1 : cd_M) (H1 : Heap) (locs1 : List Loc), cd_rel σ1 μ1 → lS D ad ca bd cb A s.heap σ1 μ1 s H1 locs1 → W p l e room_1 s m args below meth c H1 locs1 11 209 Q (F0 m 459 ls [])) : W p l e room_1 s m args below meth c H locs 11 209 Q (F0 m 246 ls []) := by
  obtain ⟨hx, hb, hml, hown, hts⟩ := id K
  refine lv_aload_n hx hb dL_law_246 rfl (lv_at hl 2 rfl) ?_
  refine kl_X0_undertakings K  hS ⟨Nat.le_of_ble_eq_true rfl, Nat.le_of_ble_eq_true rfl⟩ ⟨Nat.le_of_ble_eq_true rfl, Nat.le_of_ble_eq_true rfl⟩ hl.1 (Nat.le_of_ble_eq_true rfl) dL_law_247 ?_
  refine lv_aload_n hx hb dL_law_250 rfl (lv_at hl 1 rfl) ?_
  refine kl_X1_undertakings K  hS ⟨Nat.le_of_ble_eq_true rfl, Nat.le_of_ble_eq_true rfl⟩ ⟨Nat.le_of_ble_eq_true rfl, Nat.le_of_ble_eq_true rfl⟩ hl.1 (Nat.le_of_ble_eq_true rfl) dL_law_251 ?_
  refine lv_icmp_eq (tgt := 459) hx hb dL_law_254 (by decide) (fun c254 => ?_) (fun c254 => ?_)
  · exact kk σ μ _ _ (hrel) hS
  · exact absurd ((under_eq hrel).symm) c254
set_option maxHeartbeats 4000000 in
set_option maxRecDepth 100000 in
theorem law_c5 {p : Program} {l : Launch} {e : Env} {s : State} {m : MethodId} {args : Array Value} {below : List Frame} {meth : Method} {c : Code} {Q : State → Prop} {D : va_G} {A : Nat → Prop} {ad : Nat → Nat} {ca : Nat → ClassId} {bd : Nat → Nat} {cb : Nat → ClassId} {b L : Nat} {xs : Nat → Int32} (K : CallFix p m c cL_law 4 s args lw_all "ClosureDeskLaw") (hX : va_X b L xs s s.heap) (hbl : b < s.heap.size) (hbA : ¬ A b) (hL : L ≤ 256) {i : Nat} (hi : i + 4 ≤ L) {σ : cd_D} {μ : cd_M} {H : Heap} {locs : List Loc} {ls : Array Slot} (hrel : cd_rel σ μ) (hS : lS D ad ca bd cb A s.heap σ μ s H locs) (hl : lv_has ls 4 [(3, .int (nI i)), (2, .ref (bd 0)), (1, .ref (ad 0)), (0, .ref b)]) (kk : ∀ (σ1 : cd_D) (μ1 : cd_M) (H1 : Heap) (locs1 : List Loc), cd_rel σ1 μ1 → lS D ad ca bd cb A s.heap σ1 μ1 s H1 locs1 → W p l e room_1 s m args below meth c H1 locs1 11 209 Q (F0 m 459 ls [])) : W p l e room_1 s m args below meth c H locs 11 209 Q (F0 m 259 ls []) := by
  obtain ⟨hx, hb, hml, hown, hts⟩ := id K
  refine lv_aload_n hx hb dL_law_259 rfl (lv_at hl 2 rfl) ?_
  refine lv_aload_n hx hb dL_law_260 rfl (lv_at hl 3 rfl) ?_
  refine lv_iload_n hx hb dL_law_261 rfl (lv_at hl 0 rfl) ?_
  refine lv_iconst (v := 1) hx hb dL_law_262 (by decide) ?_
  refine lv_iadd hx hb dL_law_263 ?_
  refine lw_sld K hX hbl hbA hL hS.2.2.1 (i + 1) (by omega) (nI_add i 1) dL_law_264 ?_
  refine kl_X0_closed K  hS ⟨Nat.le_of_ble_eq_true rfl, Nat.le_of_ble_eq_true rfl⟩ ⟨Nat.le_of_ble_eq_true rfl, Nat.le_of_ble_eq_true rfl⟩ hl.1 (Nat.le_of_ble_eq_true rfl) dL_law_265 ?_
  refine lv_aload_n hx hb dL_law_268 rfl (lv_at hl 1 rfl) ?_
  refine lv_aload_n hx hb dL_law_269 rfl (lv_at hl 3 rfl) ?_
  refine lv_iload_n hx hb dL_law_270 rfl (lv_at hl 0 rfl) ?_
  refine lv_iconst (v := 1) hx hb dL_law_271 (by decide) ?_
  refine lv_iadd hx hb dL_law_272 ?_
  refine lw_sld K hX hbl hbA hL hS.2.2.1 (i + 1) (by omega) (nI_add i 1) dL_law_273 ?_
  refine kl_X1_closed K  hS ⟨Nat.le_of_ble_eq_true rfl, Nat.le_of_ble_eq_true rfl⟩ ⟨Nat.le_of_ble_eq_true rfl, Nat.le_of_ble_eq_true rfl⟩ hl.1 (Nat.le_of_ble_eq_true rfl) dL_law_274 ?_
  refine lv_icmp_eq (tgt := 459) hx hb dL_law_277 (by decide) (fun c277 => ?_) (fun c277 => ?_)
  · exact kk σ μ _ _ (hrel) hS
  · exact absurd (congrArg cd_zb (op_closed hrel _)) c277
set_option maxHeartbeats 4000000 in
set_option maxRecDepth 100000 in
theorem law_c6 {p : Program} {l : Launch} {e : Env} {s : State} {m : MethodId} {args : Array Value} {below : List Frame} {meth : Method} {c : Code} {Q : State → Prop} {D : va_G} {A : Nat → Prop} {ad : Nat → Nat} {ca : Nat → ClassId} {bd : Nat → Nat} {cb : Nat → ClassId} {b L : Nat} {xs : Nat → Int32} (K : CallFix p m c cL_law 4 s args lw_all "ClosureDeskLaw") (hX : va_X b L xs s s.heap) (hbl : b < s.heap.size) (hbA : ¬ A b) (hL : L ≤ 256) {i : Nat} (hi : i + 4 ≤ L) {σ : cd_D} {μ : cd_M} {H : Heap} {locs : List Loc} {ls : Array Slot} (hrel : cd_rel σ μ) (hS : lS D ad ca bd cb A s.heap σ μ s H locs) (hl : lv_has ls 4 [(3, .int (nI i)), (2, .ref (bd 0)), (1, .ref (ad 0)), (0, .ref b)]) (kk : ∀ (σ1 : cd_D) (μ1 : cd_M) (H1 : Heap) (locs1 : List Loc), cd_rel σ1 μ1 → lS D ad ca bd cb A s.heap σ1 μ1 s H1 locs1 → W p l e room_1 s m args below meth c H1 locs1 11 209 Q (F0 m 459 ls [])) : W p l e room_1 s m args below meth c H locs 11 209 Q (F0 m 282 ls []) := by
  obtain ⟨hx, hb, hml, hown, hts⟩ := id K
  refine lv_aload_n hx hb dL_law_282 rfl (lv_at hl 2 rfl) ?_
  refine lv_aload_n hx hb dL_law_283 rfl (lv_at hl 3 rfl) ?_
  refine lv_iload_n hx hb dL_law_284 rfl (lv_at hl 0 rfl) ?_
  refine lv_iconst (v := 1) hx hb dL_law_285 (by decide) ?_
  refine lv_iadd hx hb dL_law_286 ?_
  refine lw_sld K hX hbl hbA hL hS.2.2.1 (i + 1) (by omega) (nI_add i 1) dL_law_287 ?_
  refine kl_X0_closure K  hS ⟨Nat.le_of_ble_eq_true rfl, Nat.le_of_ble_eq_true rfl⟩ ⟨Nat.le_of_ble_eq_true rfl, Nat.le_of_ble_eq_true rfl⟩ hl.1 (Nat.le_of_ble_eq_true rfl) dL_law_288 ?_
  refine lv_aload_n hx hb dL_law_291 rfl (lv_at hl 1 rfl) ?_
  refine lv_aload_n hx hb dL_law_292 rfl (lv_at hl 3 rfl) ?_
  refine lv_iload_n hx hb dL_law_293 rfl (lv_at hl 0 rfl) ?_
  refine lv_iconst (v := 1) hx hb dL_law_294 (by decide) ?_
  refine lv_iadd hx hb dL_law_295 ?_
  refine lw_sld K hX hbl hbA hL hS.2.2.1 (i + 1) (by omega) (nI_add i 1) dL_law_296 ?_
  refine kl_X1_closure K  hS ⟨Nat.le_of_ble_eq_true rfl, Nat.le_of_ble_eq_true rfl⟩ ⟨Nat.le_of_ble_eq_true rfl, Nat.le_of_ble_eq_true rfl⟩ hl.1 (Nat.le_of_ble_eq_true rfl) dL_law_297 ?_
  refine lv_icmp_eq (tgt := 459) hx hb dL_law_300 (by decide) (fun c300 => ?_) (fun c300 => ?_)
  · exact kk σ μ _ _ (hrel) hS
  · exact absurd (op_closure hrel _) c300
set_option maxHeartbeats 4000000 in
set_option maxRecDepth 100000 in
theorem law_c7 {p : Program} {l : Launch} {e : Env} {s : State} {m : MethodId} {args : Array Value} {below : List Frame} {meth : Method} {c : Code} {Q : State → Prop} {D : va_G} {A : Nat → Prop} {ad : Nat → Nat} {ca : Nat → ClassId} {bd : Nat → Nat} {cb : Nat → ClassId} {b L : Nat} {xs : Nat → Int32} (K : CallFix p m c cL_law 4 s args lw_all "ClosureDeskLaw") (hX : va_X b L xs s s.heap) (hbl : b < s.heap.size) (hbA : ¬ A b) (hL : L ≤ 256) {i : Nat} (hi : i + 4 ≤ L) {σ : cd_D} {μ : cd_M} {H : Heap} {locs : List Loc} {ls : Array Slot} (hrel : cd_rel σ μ) (hS : lS D ad ca bd cb A s.heap σ μ s H locs) (hl : lv_has ls 4 [(3, .int (nI i)), (2, .ref (bd 0)), (1, .ref (ad 0)), (0, .ref b)]) (kk : ∀ (σ1 : cd_D) (μ1 : cd_M) (H1 : Heap) (locs1 : List Loc), cd_rel σ1 μ1 → lS D ad ca bd cb A s.heap σ1 μ1 s H1 locs1 → W p l e room_1 s m args below meth c H1 locs1 11 209 Q (F0 m 459 ls [])) : W p l e room_1 s m args below meth c H locs 11 209 Q (F0 m 305 ls []) := by
  obtain ⟨hx, hb, hml, hown, hts⟩ := id K
  refine lv_aload_n hx hb dL_law_305 rfl (lv_at hl 2 rfl) ?_
  refine kl_X0_best K hrel.1 hS ⟨Nat.le_of_ble_eq_true rfl, Nat.le_of_ble_eq_true rfl⟩ ⟨Nat.le_of_ble_eq_true rfl, Nat.le_of_ble_eq_true rfl⟩ hl.1 (Nat.le_of_ble_eq_true rfl) dL_law_306 (fun z τ H locs hz hS => ?_)
  refine lv_aload_n hx hb dL_law_309 rfl (lv_at hl 1 rfl) ?_
  refine kl_X1_best K  hS ⟨Nat.le_of_ble_eq_true rfl, Nat.le_of_ble_eq_true rfl⟩ ⟨Nat.le_of_ble_eq_true rfl, Nat.le_of_ble_eq_true rfl⟩ hl.1 (Nat.le_of_ble_eq_true rfl) dL_law_310 ?_
  refine lv_icmp_eq (tgt := 459) hx hb dL_law_313 (by decide) (fun c313 => ?_) (fun c313 => ?_)
  · exact kk τ μ _ _ ((op_best hrel hz).2) hS
  · exact absurd ((op_best hrel hz).1) c313
set_option maxHeartbeats 4000000 in
set_option maxRecDepth 100000 in
theorem law_c8 {p : Program} {l : Launch} {e : Env} {s : State} {m : MethodId} {args : Array Value} {below : List Frame} {meth : Method} {c : Code} {Q : State → Prop} {D : va_G} {A : Nat → Prop} {ad : Nat → Nat} {ca : Nat → ClassId} {bd : Nat → Nat} {cb : Nat → ClassId} {b L : Nat} {xs : Nat → Int32} (K : CallFix p m c cL_law 4 s args lw_all "ClosureDeskLaw") (hX : va_X b L xs s s.heap) (hbl : b < s.heap.size) (hbA : ¬ A b) (hL : L ≤ 256) {i : Nat} (hi : i + 4 ≤ L) {σ : cd_D} {μ : cd_M} {H : Heap} {locs : List Loc} {ls : Array Slot} (hrel : cd_rel σ μ) (hS : lS D ad ca bd cb A s.heap σ μ s H locs) (hl : lv_has ls 4 [(3, .int (nI i)), (2, .ref (bd 0)), (1, .ref (ad 0)), (0, .ref b)]) (kk : ∀ (σ1 : cd_D) (μ1 : cd_M) (H1 : Heap) (locs1 : List Loc), cd_rel σ1 μ1 → lS D ad ca bd cb A s.heap σ1 μ1 s H1 locs1 → W p l e room_1 s m args below meth c H1 locs1 11 209 Q (F0 m 459 ls [])) : W p l e room_1 s m args below meth c H locs 11 209 Q (F0 m 318 ls []) := by
  obtain ⟨hx, hb, hml, hown, hts⟩ := id K
  refine lv_aload_n hx hb dL_law_318 rfl (lv_at hl 2 rfl) ?_
  refine kl_X0_leastBest K hrel.1 hS ⟨Nat.le_of_ble_eq_true rfl, Nat.le_of_ble_eq_true rfl⟩ ⟨Nat.le_of_ble_eq_true rfl, Nat.le_of_ble_eq_true rfl⟩ hl.1 (Nat.le_of_ble_eq_true rfl) dL_law_319 (fun z τ H locs hz hS => ?_)
  refine lv_aload_n hx hb dL_law_322 rfl (lv_at hl 1 rfl) ?_
  refine kl_X1_leastBest K  hS ⟨Nat.le_of_ble_eq_true rfl, Nat.le_of_ble_eq_true rfl⟩ ⟨Nat.le_of_ble_eq_true rfl, Nat.le_of_ble_eq_true rfl⟩ hl.1 (Nat.le_of_ble_eq_true rfl) dL_law_323 ?_
  refine lv_icmp_eq (tgt := 459) hx hb dL_law_326 (by decide) (fun c326 => ?_) (fun c326 => ?_)
  · exact kk τ μ _ _ ((op_least hrel hz).2) hS
  · exact absurd ((op_least hrel hz).1) c326
set_option maxHeartbeats 4000000 in
set_option maxRecDepth 100000 in
theorem law_c9 {p : Program} {l : Launch} {e : Env} {s : State} {m : MethodId} {args : Array Value} {below : List Frame} {meth : Method} {c : Code} {Q : State → Prop} {D : va_G} {A : Nat → Prop} {ad : Nat → Nat} {ca : Nat → ClassId} {bd : Nat → Nat} {cb : Nat → ClassId} {b L : Nat} {xs : Nat → Int32} (K : CallFix p m c cL_law 4 s args lw_all "ClosureDeskLaw") (hX : va_X b L xs s s.heap) (hbl : b < s.heap.size) (hbA : ¬ A b) (hL : L ≤ 256) {i : Nat} (hi : i + 4 ≤ L) {σ : cd_D} {μ : cd_M} {H : Heap} {locs : List Loc} {ls : Array Slot} (hrel : cd_rel σ μ) (hS : lS D ad ca bd cb A s.heap σ μ s H locs) (hl : lv_has ls 4 [(3, .int (nI i)), (2, .ref (bd 0)), (1, .ref (ad 0)), (0, .ref b)]) (kk : ∀ (σ1 : cd_D) (μ1 : cd_M) (H1 : Heap) (locs1 : List Loc), cd_rel σ1 μ1 → lS D ad ca bd cb A s.heap σ1 μ1 s H1 locs1 → W p l e room_1 s m args below meth c H1 locs1 11 209 Q (F0 m 459 ls [])) : W p l e room_1 s m args below meth c H locs 11 209 Q (F0 m 331 ls []) := by
  obtain ⟨hx, hb, hml, hown, hts⟩ := id K
  refine lv_aload_n hx hb dL_law_331 rfl (lv_at hl 2 rfl) ?_
  refine kl_X0_greatestBest K hrel.1 hS ⟨Nat.le_of_ble_eq_true rfl, Nat.le_of_ble_eq_true rfl⟩ ⟨Nat.le_of_ble_eq_true rfl, Nat.le_of_ble_eq_true rfl⟩ hl.1 (Nat.le_of_ble_eq_true rfl) dL_law_332 (fun z τ H locs hz hS => ?_)
  refine lv_aload_n hx hb dL_law_335 rfl (lv_at hl 1 rfl) ?_
  refine kl_X1_greatestBest K  hS ⟨Nat.le_of_ble_eq_true rfl, Nat.le_of_ble_eq_true rfl⟩ ⟨Nat.le_of_ble_eq_true rfl, Nat.le_of_ble_eq_true rfl⟩ hl.1 (Nat.le_of_ble_eq_true rfl) dL_law_336 ?_
  refine lv_icmp_eq (tgt := 459) hx hb dL_law_339 (by decide) (fun c339 => ?_) (fun c339 => ?_)
  · exact kk τ μ _ _ ((op_great hrel hz).2) hS
  · exact absurd ((op_great hrel hz).1) c339
set_option maxHeartbeats 4000000 in
set_option maxRecDepth 100000 in
theorem law_c10 {p : Program} {l : Launch} {e : Env} {s : State} {m : MethodId} {args : Array Value} {below : List Frame} {meth : Method} {c : Code} {Q : State → Prop} {D : va_G} {A : Nat → Prop} {ad : Nat → Nat} {ca : Nat → ClassId} {bd : Nat → Nat} {cb : Nat → ClassId} {b L : Nat} {xs : Nat → Int32} (K : CallFix p m c cL_law 4 s args lw_all "ClosureDeskLaw") (hX : va_X b L xs s s.heap) (hbl : b < s.heap.size) (hbA : ¬ A b) (hL : L ≤ 256) {i : Nat} (hi : i + 4 ≤ L) {σ : cd_D} {μ : cd_M} {H : Heap} {locs : List Loc} {ls : Array Slot} (hrel : cd_rel σ μ) (hS : lS D ad ca bd cb A s.heap σ μ s H locs) (hl : lv_has ls 4 [(3, .int (nI i)), (2, .ref (bd 0)), (1, .ref (ad 0)), (0, .ref b)]) (kk : ∀ (σ1 : cd_D) (μ1 : cd_M) (H1 : Heap) (locs1 : List Loc), cd_rel σ1 μ1 → lS D ad ca bd cb A s.heap σ1 μ1 s H1 locs1 → W p l e room_1 s m args below meth c H1 locs1 11 209 Q (F0 m 459 ls [])) : W p l e room_1 s m args below meth c H locs 11 209 Q (F0 m 344 ls []) := by
  obtain ⟨hx, hb, hml, hown, hts⟩ := id K
  refine lv_aload_n hx hb dL_law_344 rfl (lv_at hl 2 rfl) ?_
  refine lv_aload_n hx hb dL_law_345 rfl (lv_at hl 3 rfl) ?_
  refine lv_iload_n hx hb dL_law_346 rfl (lv_at hl 0 rfl) ?_
  refine lv_iconst (v := 1) hx hb dL_law_347 (by decide) ?_
  refine lv_iadd hx hb dL_law_348 ?_
  refine lw_sld K hX hbl hbA hL hS.2.2.1 (i + 1) (by omega) (nI_add i 1) dL_law_349 ?_
  refine kl_X0_bestWith K hrel.1 hS ⟨Nat.le_of_ble_eq_true rfl, Nat.le_of_ble_eq_true rfl⟩ ⟨Nat.le_of_ble_eq_true rfl, Nat.le_of_ble_eq_true rfl⟩ hl.1 (Nat.le_of_ble_eq_true rfl) dL_law_350 (fun z τ H locs hz hS => ?_)
  refine lv_aload_n hx hb dL_law_353 rfl (lv_at hl 1 rfl) ?_
  refine lv_aload_n hx hb dL_law_354 rfl (lv_at hl 3 rfl) ?_
  refine lv_iload_n hx hb dL_law_355 rfl (lv_at hl 0 rfl) ?_
  refine lv_iconst (v := 1) hx hb dL_law_356 (by decide) ?_
  refine lv_iadd hx hb dL_law_357 ?_
  refine lw_sld K hX hbl hbA hL hS.2.2.1 (i + 1) (by omega) (nI_add i 1) dL_law_358 ?_
  refine kl_X1_bestWith K  hS ⟨Nat.le_of_ble_eq_true rfl, Nat.le_of_ble_eq_true rfl⟩ ⟨Nat.le_of_ble_eq_true rfl, Nat.le_of_ble_eq_true rfl⟩ hl.1 (Nat.le_of_ble_eq_true rfl) dL_law_359 ?_
  refine lv_icmp_eq (tgt := 459) hx hb dL_law_362 (by decide) (fun c362 => ?_) (fun c362 => ?_)
  · exact kk τ μ _ _ ((op_with hrel hz).2) hS
  · exact absurd ((op_with hrel hz).1) c362
set_option maxHeartbeats 4000000 in
set_option maxRecDepth 100000 in
theorem law_c11 {p : Program} {l : Launch} {e : Env} {s : State} {m : MethodId} {args : Array Value} {below : List Frame} {meth : Method} {c : Code} {Q : State → Prop} {D : va_G} {A : Nat → Prop} {ad : Nat → Nat} {ca : Nat → ClassId} {bd : Nat → Nat} {cb : Nat → ClassId} {b L : Nat} {xs : Nat → Int32} (K : CallFix p m c cL_law 4 s args lw_all "ClosureDeskLaw") (hX : va_X b L xs s s.heap) (hbl : b < s.heap.size) (hbA : ¬ A b) (hL : L ≤ 256) {i : Nat} (hi : i + 4 ≤ L) {σ : cd_D} {μ : cd_M} {H : Heap} {locs : List Loc} {ls : Array Slot} (hrel : cd_rel σ μ) (hS : lS D ad ca bd cb A s.heap σ μ s H locs) (hl : lv_has ls 4 [(3, .int (nI i)), (2, .ref (bd 0)), (1, .ref (ad 0)), (0, .ref b)]) (kk : ∀ (σ1 : cd_D) (μ1 : cd_M) (H1 : Heap) (locs1 : List Loc), cd_rel σ1 μ1 → lS D ad ca bd cb A s.heap σ1 μ1 s H1 locs1 → W p l e room_1 s m args below meth c H1 locs1 11 209 Q (F0 m 459 ls [])) : W p l e room_1 s m args below meth c H locs 11 209 Q (F0 m 367 ls []) := by
  obtain ⟨hx, hb, hml, hown, hts⟩ := id K
  refine lv_aload_n hx hb dL_law_367 rfl (lv_at hl 2 rfl) ?_
  refine lv_aload_n hx hb dL_law_368 rfl (lv_at hl 3 rfl) ?_
  refine lv_iload_n hx hb dL_law_369 rfl (lv_at hl 0 rfl) ?_
  refine lv_iconst (v := 1) hx hb dL_law_370 (by decide) ?_
  refine lv_iadd hx hb dL_law_371 ?_
  refine lw_sld K hX hbl hbA hL hS.2.2.1 (i + 1) (by omega) (nI_add i 1) dL_law_372 ?_
  refine kl_X0_bestWithout K hrel.1 hS ⟨Nat.le_of_ble_eq_true rfl, Nat.le_of_ble_eq_true rfl⟩ ⟨Nat.le_of_ble_eq_true rfl, Nat.le_of_ble_eq_true rfl⟩ hl.1 (Nat.le_of_ble_eq_true rfl) dL_law_373 (fun z τ H locs hz hS => ?_)
  refine lv_aload_n hx hb dL_law_376 rfl (lv_at hl 1 rfl) ?_
  refine lv_aload_n hx hb dL_law_377 rfl (lv_at hl 3 rfl) ?_
  refine lv_iload_n hx hb dL_law_378 rfl (lv_at hl 0 rfl) ?_
  refine lv_iconst (v := 1) hx hb dL_law_379 (by decide) ?_
  refine lv_iadd hx hb dL_law_380 ?_
  refine lw_sld K hX hbl hbA hL hS.2.2.1 (i + 1) (by omega) (nI_add i 1) dL_law_381 ?_
  refine kl_X1_bestWithout K  hS ⟨Nat.le_of_ble_eq_true rfl, Nat.le_of_ble_eq_true rfl⟩ ⟨Nat.le_of_ble_eq_true rfl, Nat.le_of_ble_eq_true rfl⟩ hl.1 (Nat.le_of_ble_eq_true rfl) dL_law_382 ?_
  refine lv_icmp_eq (tgt := 459) hx hb dL_law_385 (by decide) (fun c385 => ?_) (fun c385 => ?_)
  · exact kk τ μ _ _ ((op_without hrel hz).2) hS
  · exact absurd ((op_without hrel hz).1) c385
set_option maxHeartbeats 4000000 in
set_option maxRecDepth 100000 in
theorem law_c12 {p : Program} {l : Launch} {e : Env} {s : State} {m : MethodId} {args : Array Value} {below : List Frame} {meth : Method} {c : Code} {Q : State → Prop} {D : va_G} {A : Nat → Prop} {ad : Nat → Nat} {ca : Nat → ClassId} {bd : Nat → Nat} {cb : Nat → ClassId} {b L : Nat} {xs : Nat → Int32} (K : CallFix p m c cL_law 4 s args lw_all "ClosureDeskLaw") (hX : va_X b L xs s s.heap) (hbl : b < s.heap.size) (hbA : ¬ A b) (hL : L ≤ 256) {i : Nat} (hi : i + 4 ≤ L) {σ : cd_D} {μ : cd_M} {H : Heap} {locs : List Loc} {ls : Array Slot} (hrel : cd_rel σ μ) (hS : lS D ad ca bd cb A s.heap σ μ s H locs) (hl : lv_has ls 4 [(3, .int (nI i)), (2, .ref (bd 0)), (1, .ref (ad 0)), (0, .ref b)]) (kk : ∀ (σ1 : cd_D) (μ1 : cd_M) (H1 : Heap) (locs1 : List Loc), cd_rel σ1 μ1 → lS D ad ca bd cb A s.heap σ1 μ1 s H1 locs1 → W p l e room_1 s m args below meth c H1 locs1 11 209 Q (F0 m 459 ls [])) : W p l e room_1 s m args below meth c H locs 11 209 Q (F0 m 390 ls []) := by
  obtain ⟨hx, hb, hml, hown, hts⟩ := id K
  refine lv_aload_n hx hb dL_law_390 rfl (lv_at hl 2 rfl) ?_
  refine lv_aload_n hx hb dL_law_391 rfl (lv_at hl 3 rfl) ?_
  refine lv_iload_n hx hb dL_law_392 rfl (lv_at hl 0 rfl) ?_
  refine lv_iconst (v := 1) hx hb dL_law_393 (by decide) ?_
  refine lv_iadd hx hb dL_law_394 ?_
  refine lw_sld K hX hbl hbA hL hS.2.2.1 (i + 1) (by omega) (nI_add i 1) dL_law_395 ?_
  refine kl_X0_threshold K hrel.1 hS ⟨Nat.le_of_ble_eq_true rfl, Nat.le_of_ble_eq_true rfl⟩ ⟨Nat.le_of_ble_eq_true rfl, Nat.le_of_ble_eq_true rfl⟩ hl.1 (Nat.le_of_ble_eq_true rfl) dL_law_396 (fun z τ H locs hz hS => ?_)
  refine lv_aload_n hx hb dL_law_399 rfl (lv_at hl 1 rfl) ?_
  refine lv_aload_n hx hb dL_law_400 rfl (lv_at hl 3 rfl) ?_
  refine lv_iload_n hx hb dL_law_401 rfl (lv_at hl 0 rfl) ?_
  refine lv_iconst (v := 1) hx hb dL_law_402 (by decide) ?_
  refine lv_iadd hx hb dL_law_403 ?_
  refine lw_sld K hX hbl hbA hL hS.2.2.1 (i + 1) (by omega) (nI_add i 1) dL_law_404 ?_
  refine kl_X1_threshold K  hS ⟨Nat.le_of_ble_eq_true rfl, Nat.le_of_ble_eq_true rfl⟩ ⟨Nat.le_of_ble_eq_true rfl, Nat.le_of_ble_eq_true rfl⟩ hl.1 (Nat.le_of_ble_eq_true rfl) dL_law_405 (fun y ν H locs hy hS => ?_)
  refine lv_icmp_eq (tgt := 459) hx hb dL_law_408 (by decide) (fun c408 => ?_) (fun c408 => ?_)
  · exact kk τ ν _ _ (by rw [hy.1]; exact (op_thr hrel hz).2) hS
  · exact absurd ((op_thr hrel hz).1.trans hy.2.symm) c408
set_option maxHeartbeats 4000000 in
set_option maxRecDepth 100000 in
theorem law_c13 {p : Program} {l : Launch} {e : Env} {s : State} {m : MethodId} {args : Array Value} {below : List Frame} {meth : Method} {c : Code} {Q : State → Prop} {D : va_G} {A : Nat → Prop} {ad : Nat → Nat} {ca : Nat → ClassId} {bd : Nat → Nat} {cb : Nat → ClassId} {b L : Nat} {xs : Nat → Int32} (K : CallFix p m c cL_law 4 s args lw_all "ClosureDeskLaw") (hX : va_X b L xs s s.heap) (hbl : b < s.heap.size) (hbA : ¬ A b) (hL : L ≤ 256) {i : Nat} (hi : i + 4 ≤ L) {σ : cd_D} {μ : cd_M} {H : Heap} {locs : List Loc} {ls : Array Slot} (hrel : cd_rel σ μ) (hS : lS D ad ca bd cb A s.heap σ μ s H locs) (hl : lv_has ls 4 [(3, .int (nI i)), (2, .ref (bd 0)), (1, .ref (ad 0)), (0, .ref b)]) (kk : ∀ (σ1 : cd_D) (μ1 : cd_M) (H1 : Heap) (locs1 : List Loc), cd_rel σ1 μ1 → lS D ad ca bd cb A s.heap σ1 μ1 s H1 locs1 → W p l e room_1 s m args below meth c H1 locs1 11 209 Q (F0 m 459 ls [])) : W p l e room_1 s m args below meth c H locs 11 209 Q (F0 m 413 ls []) := by
  obtain ⟨hx, hb, hml, hown, hts⟩ := id K
  refine lv_aload_n hx hb dL_law_413 rfl (lv_at hl 2 rfl) ?_
  refine lv_aload_n hx hb dL_law_414 rfl (lv_at hl 3 rfl) ?_
  refine lv_iload_n hx hb dL_law_415 rfl (lv_at hl 0 rfl) ?_
  refine lv_iconst (v := 1) hx hb dL_law_416 (by decide) ?_
  refine lv_iadd hx hb dL_law_417 ?_
  refine lw_sld K hX hbl hbA hL hS.2.2.1 (i + 1) (by omega) (nI_add i 1) dL_law_418 ?_
  refine lv_aload_n hx hb dL_law_419 rfl (lv_at hl 3 rfl) ?_
  refine lv_iload_n hx hb dL_law_420 rfl (lv_at hl 0 rfl) ?_
  refine lv_iconst (v := 2) hx hb dL_law_421 (by decide) ?_
  refine lv_iadd hx hb dL_law_422 ?_
  refine lw_sld K hX hbl hbA hL hS.2.2.1 (i + 2) (by omega) (nI_add i 2) dL_law_423 ?_
  refine kl_X0_burden K hrel.1 hS ⟨Nat.le_of_ble_eq_true rfl, Nat.le_of_ble_eq_true rfl⟩ ⟨Nat.le_of_ble_eq_true rfl, Nat.le_of_ble_eq_true rfl⟩ hl.1 (Nat.le_of_ble_eq_true rfl) dL_law_424 (fun z τ H locs hz hS => ?_)
  refine lv_aload_n hx hb dL_law_427 rfl (lv_at hl 1 rfl) ?_
  refine lv_aload_n hx hb dL_law_428 rfl (lv_at hl 3 rfl) ?_
  refine lv_iload_n hx hb dL_law_429 rfl (lv_at hl 0 rfl) ?_
  refine lv_iconst (v := 1) hx hb dL_law_430 (by decide) ?_
  refine lv_iadd hx hb dL_law_431 ?_
  refine lw_sld K hX hbl hbA hL hS.2.2.1 (i + 1) (by omega) (nI_add i 1) dL_law_432 ?_
  refine lv_aload_n hx hb dL_law_433 rfl (lv_at hl 3 rfl) ?_
  refine lv_iload_n hx hb dL_law_434 rfl (lv_at hl 0 rfl) ?_
  refine lv_iconst (v := 2) hx hb dL_law_435 (by decide) ?_
  refine lv_iadd hx hb dL_law_436 ?_
  refine lw_sld K hX hbl hbA hL hS.2.2.1 (i + 2) (by omega) (nI_add i 2) dL_law_437 ?_
  refine kl_X1_burden K  hS ⟨Nat.le_of_ble_eq_true rfl, Nat.le_of_ble_eq_true rfl⟩ ⟨Nat.le_of_ble_eq_true rfl, Nat.le_of_ble_eq_true rfl⟩ hl.1 (Nat.le_of_ble_eq_true rfl) dL_law_438 (fun y ν H locs hy hS => ?_)
  refine lv_icmp_eq (tgt := 459) hx hb dL_law_441 (by decide) (fun c441 => ?_) (fun c441 => ?_)
  · exact kk τ ν _ _ (by rw [hy.1]; exact (op_bur hrel hz).2) hS
  · exact absurd ((op_bur hrel hz).1.trans hy.2.symm) c441
set_option maxHeartbeats 4000000 in
set_option maxRecDepth 100000 in
theorem law_c14 {p : Program} {l : Launch} {e : Env} {s : State} {m : MethodId} {args : Array Value} {below : List Frame} {meth : Method} {c : Code} {Q : State → Prop} {D : va_G} {A : Nat → Prop} {ad : Nat → Nat} {ca : Nat → ClassId} {bd : Nat → Nat} {cb : Nat → ClassId} {b L : Nat} {xs : Nat → Int32} (K : CallFix p m c cL_law 4 s args lw_all "ClosureDeskLaw") (hX : va_X b L xs s s.heap) (hbl : b < s.heap.size) (hbA : ¬ A b) (hL : L ≤ 256) {i : Nat} (hi : i + 4 ≤ L) {σ : cd_D} {μ : cd_M} {H : Heap} {locs : List Loc} {ls : Array Slot} (hrel : cd_rel σ μ) (hS : lS D ad ca bd cb A s.heap σ μ s H locs) (hl : lv_has ls 4 [(3, .int (nI i)), (2, .ref (bd 0)), (1, .ref (ad 0)), (0, .ref b)]) (kk : ∀ (σ1 : cd_D) (μ1 : cd_M) (H1 : Heap) (locs1 : List Loc), cd_rel σ1 μ1 → lS D ad ca bd cb A s.heap σ1 μ1 s H1 locs1 → W p l e room_1 s m args below meth c H1 locs1 11 209 Q (F0 m 459 ls [])) : W p l e room_1 s m args below meth c H locs 11 209 Q (F0 m 446 ls []) := by
  obtain ⟨hx, hb, hml, hown, hts⟩ := id K
  obtain ⟨Pn, hPn, hP9⟩ := in9_num hrel.1 (x := gP σ) (fun _ _ h => h)
  refine lv_aload_n hx hb dL_law_446 rfl (lv_at hl 2 rfl) ?_
  refine kl_X0_choices K Pn hPn hP9 hrel.1 hS ⟨Nat.le_of_ble_eq_true rfl, Nat.le_of_ble_eq_true rfl⟩ ⟨Nat.le_of_ble_eq_true rfl, Nat.le_of_ble_eq_true rfl⟩ hl.1 (Nat.le_of_ble_eq_true rfl) dL_law_447 (fun z τ H locs hz hS => ?_)
  refine lv_aload_n hx hb dL_law_450 rfl (lv_at hl 1 rfl) ?_
  refine kl_X1_choices K  hS ⟨Nat.le_of_ble_eq_true rfl, Nat.le_of_ble_eq_true rfl⟩ ⟨Nat.le_of_ble_eq_true rfl, Nat.le_of_ble_eq_true rfl⟩ hl.1 (Nat.le_of_ble_eq_true rfl) dL_law_451 ?_
  refine lv_icmp_eq (tgt := 459) hx hb dL_law_454 (by decide) (fun c454 => ?_) (fun c454 => ?_)
  · exact kk τ μ _ _ ((op_choices hrel hPn hP9 hz).2) hS
  · exact absurd ((op_choices hrel hPn hP9 hz).1) c454
end
section
/-! the law: its own words (the skeleton's), its loop (printed by gen42.py) -/
def R_law : String := "ClosureDeskLaw"
def lw_P (b : Addr) (xs : List Int32) (args : Array Value) (s : State) : Prop := args = #[.ref b] ∧ s.IntsAt b xs ∧ xs.length ≤ 256 ∧ (Jvm.Cond.and given_1 narrow_1).before args s = true
def lw_Q (_ : Array Value) (s : State) (o : Outcome) (t : State) : Prop := o = .returned (some (.int 1)) ∧ Framed s o t [] 600000 7290000
def lw_Z (below : List Frame) (a : Array Value) (s : State) : State → Prop := fun t => ∃ o, t.status = .running ∧ Ended t below o ∧ lw_Q a s o t
/-- the law's own end, with 1 on the stack, nothing written that was there before, its room as the claim has it -/
theorem lw_ret {p : Program} {l : Launch} {e : Env} {s : State} {m : MethodId} {below : List Frame} {meth : Method} {c : Code} {b : Nat} (hx : p.tables.exec = Jvm.exec) (hb : c.code = code) (hr : meth.sig.returnType = ret) (hlocks : meth.locks = false) {pc : Nat} {H : Heap} {ls : Array Slot} (hdg : decode code pc = .ok (.ireturn, 1)) : W p l e room_1 s m #[Value.ref b] below meth c H [] 600000 7290000 (lw_Z below #[Value.ref b] s) (F0 m pc ls [.int 1]) := by
  intro T hT X
  obtain ⟨fs, hret, hrun, hended, hW, hframe⟩ := X.leave (v := some (.int 1)) (hlocks := hlocks) (fun h => by rw [hr] at h; cases h)
  have hmeth' : T.vm.method? m = some meth := X.method'
  refine ⟨T.setFrames fs, ?_, .returned (some (.int 1)), hrun, hended, rfl, ⟨_, rfl⟩, hW, hframe⟩
  jvm_step X.here [X.here.top, hx, hb, hdg, hmeth', hr, ret, narrow_b1]
  (try refine ⟨rfl, ?_⟩); (try refine ⟨rfl, ?_⟩)
  first | (intro acts; rw [hret _ acts rfl rfl rfl]) | rw [hret _ _ rfl rfl rfl]
  exact Steps.refl _
/-- what holds at the law's entry: the machine, the code, the tables' words (any of lw_tbl by 'hts w (by decide +kernel)'), the script of L ints xs at the cell b, what the Statement gives of the start (any of its parts by flat_of_before) -/
def lw_At (p : Program) (s : State) (m : MethodId) (meth : Method) (c : Code) (b L : Nat) (xs : Nat → Int32) : Prop :=
  p.tables.exec = Jvm.exec ∧ c.code = code ∧ meth.sig.returnType = ret ∧ c.maxLocals = 4 ∧ s.vm.findClass R_law = some m.cls ∧ (∀ w ∈ lw_tbl, w.before #[Value.ref b] s = true) ∧ va_X b L xs s s.heap ∧ b < s.heap.size ∧ meth.locks = false ∧ (Jvm.Cond.and given_1 narrow_1).before #[Value.ref b] s = true
theorem cb_15 : ∀ b, b < 32 → bt 15 b = decide (b < 4) := by decide +kernel
theorem lw_k (x : Int32) : ∃ k, k < 16 ∧ x &&& 15 = nI k :=
  cb_small (x := x &&& 15) (k := 4) (by omega) (fun j h1 h2 => by rw [b_and, cb_15 j h2, decide_eq_false (by omega), Bool.and_false])
theorem lw_go {i L : Nat} (hL : L ≤ 256) (hi : i ≤ L) (h : ¬ Int32.ofNat L - 4 < nI i) : i + 4 ≤ L := by
  have e : (nI L).toInt = (L : Int) := nI_toInt (by omega)
  have e4 : (4 : Int32).toInt = 4 := rfl
  have e1 : (nI L - 4).toInt = (nI L).toInt - (4 : Int32).toInt := cd_subI (by omega) (by omega)
  have h' : ¬ (nI L - 4).toInt < (nI i).toInt := fun q => h (cd_ltI.mpr q)
  rw [e1, e, e4, nI_toInt (by omega)] at h'
  omega
set_option maxHeartbeats 4000000 in
set_option maxRecDepth 100000 in
/-- one round of the law: what the script says, put to both -/
theorem law_step {p : Program} {l : Launch} {e : Env} {s : State} {m : MethodId} {args : Array Value} {below : List Frame} {meth : Method} {c : Code} {Q : State → Prop} {D : va_G} {A : Nat → Prop} {ad : Nat → Nat} {ca : Nat → ClassId} {bd : Nat → Nat} {cb : Nat → ClassId} {b L : Nat} {xs : Nat → Int32} (K : CallFix p m c cL_law 4 s args lw_all "ClosureDeskLaw") (hX : va_X b L xs s s.heap) (hbl : b < s.heap.size) (hbA : ¬ A b) (hL : L ≤ 256) {i : Nat} (hi : i + 4 ≤ L) {σ : cd_D} {μ : cd_M} {H : Heap} {locs : List Loc} {ls : Array Slot} (hrel : cd_rel σ μ) (hS : lS D ad ca bd cb A s.heap σ μ s H locs) (hl : lv_has ls 4 [(3, .int (nI i)), (2, .ref (bd 0)), (1, .ref (ad 0)), (0, .ref b)]) (kk : ∀ (σ1 : cd_D) (μ1 : cd_M) (H1 : Heap) (locs1 : List Loc), cd_rel σ1 μ1 → lS D ad ca bd cb A s.heap σ1 μ1 s H1 locs1 → W p l e room_1 s m args below meth c H1 locs1 11 209 Q (F0 m 459 ls [])) : W p l e room_1 s m args below meth c H locs 11 209 Q (F0 m 26 ls []) := by
  obtain ⟨hx, hb, hml, hown, hts⟩ := id K
  refine lv_aload_n hx hb dL_law_26 rfl (lv_at hl 3 rfl) ?_
  refine lv_iload_n hx hb dL_law_27 rfl (lv_at hl 0 rfl) ?_
  refine lw_sld K hX hbl hbA hL hS.2.2.1 i (by omega) rfl dL_law_28 ?_
  refine lv_bipush (v := 15) hx hb dL_law_29 (by decide) ?_
  refine lv_iand hx hb dL_law_31 ?_
  obtain ⟨k, hk, ek⟩ := lw_k (xs i)
  refine tp_eq (nI k) ek ?_
  match k, hk with
  | 0, _ => exact lv_tableIn (off := 76) (tgt := 108) hx hb dL_law_32 (by decide) (by decide) (by first | rfl | decide) (by decide) (law_c0 K hX hbl hbA hL hi hrel hS hl kk)
  | 1, _ => exact lv_tableIn (off := 99) (tgt := 131) hx hb dL_law_32 (by decide) (by decide) (by first | rfl | decide) (by decide) (law_c1 K hX hbl hbA hL hi hrel hS hl kk)
  | 2, _ => exact lv_tableIn (off := 122) (tgt := 154) hx hb dL_law_32 (by decide) (by decide) (by first | rfl | decide) (by decide) (law_c2 K hX hbl hbA hL hi hrel hS hl kk)
  | 3, _ => exact lv_tableIn (off := 155) (tgt := 187) hx hb dL_law_32 (by decide) (by decide) (by first | rfl | decide) (by decide) (law_c3 K hX hbl hbA hL hi hrel hS hl kk)
  | 4, _ => exact lv_tableIn (off := 214) (tgt := 246) hx hb dL_law_32 (by decide) (by decide) (by first | rfl | decide) (by decide) (law_c4 K hX hbl hbA hL hi hrel hS hl kk)
  | 5, _ => exact lv_tableIn (off := 227) (tgt := 259) hx hb dL_law_32 (by decide) (by decide) (by first | rfl | decide) (by decide) (law_c5 K hX hbl hbA hL hi hrel hS hl kk)
  | 6, _ => exact lv_tableIn (off := 250) (tgt := 282) hx hb dL_law_32 (by decide) (by decide) (by first | rfl | decide) (by decide) (law_c6 K hX hbl hbA hL hi hrel hS hl kk)
  | 7, _ => exact lv_tableIn (off := 273) (tgt := 305) hx hb dL_law_32 (by decide) (by decide) (by first | rfl | decide) (by decide) (law_c7 K hX hbl hbA hL hi hrel hS hl kk)
  | 8, _ => exact lv_tableIn (off := 286) (tgt := 318) hx hb dL_law_32 (by decide) (by decide) (by first | rfl | decide) (by decide) (law_c8 K hX hbl hbA hL hi hrel hS hl kk)
  | 9, _ => exact lv_tableIn (off := 299) (tgt := 331) hx hb dL_law_32 (by decide) (by decide) (by first | rfl | decide) (by decide) (law_c9 K hX hbl hbA hL hi hrel hS hl kk)
  | 10, _ => exact lv_tableIn (off := 312) (tgt := 344) hx hb dL_law_32 (by decide) (by decide) (by first | rfl | decide) (by decide) (law_c10 K hX hbl hbA hL hi hrel hS hl kk)
  | 11, _ => exact lv_tableIn (off := 335) (tgt := 367) hx hb dL_law_32 (by decide) (by decide) (by first | rfl | decide) (by decide) (law_c11 K hX hbl hbA hL hi hrel hS hl kk)
  | 12, _ => exact lv_tableIn (off := 358) (tgt := 390) hx hb dL_law_32 (by decide) (by decide) (by first | rfl | decide) (by decide) (law_c12 K hX hbl hbA hL hi hrel hS hl kk)
  | 13, _ => exact lv_tableIn (off := 381) (tgt := 413) hx hb dL_law_32 (by decide) (by decide) (by first | rfl | decide) (by decide) (law_c13 K hX hbl hbA hL hi hrel hS hl kk)
  | 14, _ => exact lv_tableIn (off := 414) (tgt := 446) hx hb dL_law_32 (by decide) (by decide) (by first | rfl | decide) (by decide) (law_c14 K hX hbl hbA hL hi hrel hS hl kk)
  | 15, _ => exact lv_tableOut (tgt := 459) hx hb dL_law_32 (Or.inr (by decide)) (by decide) (kk σ μ _ _ hrel hS)
  | k + 16, h => exact absurd h (by omega)
set_option maxHeartbeats 4000000 in
set_option maxRecDepth 100000 in
/-- the law's loop: at its head desk and model stand side by side -/
theorem law_loop {p : Program} {l : Launch} {e : Env} {s : State} {m : MethodId} {below : List Frame} {meth : Method} {c : Code} {D : va_G} {ad : Nat → Nat} {ca : Nat → ClassId} {bd : Nat → Nat} {cb : Nat → ClassId} {b L : Nat} {xs : Nat → Int32} (hL : L ≤ 256) (C0 : lw_At p s m meth c b L xs) :
    ∀ (n i : Nat), i ≤ L → L + 1 ≤ i + n → ∀ (σ : cd_D) (μ : cd_M) (H : Heap) (locs : List Loc) (ls : Array Slot), cd_rel σ μ → lS D ad ca bd cb (fun q : Nat => s.heap.size ≤ q) s.heap σ μ s H locs → lv_has ls 4 [(3, .int (nI i)), (2, .ref (bd 0)), (1, .ref (ad 0)), (0, .ref b)] → W p l e room_1 s m #[Value.ref b] below meth c H locs 11 209 (lw_Z below #[Value.ref b] s) (F0 m 18 ls []) := by
  obtain ⟨hx, hb, hr, hml, hown, hts, hX, hbl, hlocks, hgv⟩ := C0
  have hbA : ¬ (fun q : Nat => s.heap.size ≤ q) b := Nat.not_le.mpr hbl
  have K : CallFix p m c cL_law 4 s #[Value.ref b] lw_all "ClosureDeskLaw" := ⟨hx, hb, hml, hown, fun w h => hts w (lw_all_tbl h)⟩
  intro n
  induction n with
  | zero =>
    intro i h1 h2
    exact absurd h2 (by omega)
  | succ n ih =>
    intro i hi hin σ μ H locs ls hrel hS hl
    refine lv_iload_n hx hb dL_law_18 rfl (lv_at hl 0 rfl) ?_
    refine lv_aload_n hx hb dL_law_19 rfl (lv_at hl 3 rfl) ?_
    refine va_slen hx hb hX hbl hbA hS.2.2.1 dL_law_20 ?_
    refine lv_iconst (v := 4) hx hb dL_law_21 (by decide) ?_
    refine lv_isub hx hb dL_law_22 ?_
    refine lv_icmp_gt (tgt := 465) hx hb dL_law_23 (by decide) (fun c23 => ?_) (fun c23 => ?_)
    · refine lv_iconst (v := 1) hx hb dL_law_465 (by decide) ?_
      refine va_forget (fun q hq => hS.2.2.1.2.2 q hq) ?_
      refine W.widen (k := 600000) (n := 7290000) (Nat.le_of_ble_eq_true rfl) (Nat.le_of_ble_eq_true rfl) ?_
      exact lw_ret hx hb hr hlocks dL_law_466
    · have h4 : i + 4 ≤ L := lw_go hL hi c23
      refine law_step K hX hbl hbA hL h4 hrel hS hl (fun σ1 μ1 H1 locs1 hrel hS => ?_)
      refine lv_iinc (v := nI (i + 4)) (lv' := [(3, .int (nI (i + 4))), (2, .ref (bd 0)), (1, .ref (ad 0)), (0, .ref b)]) hx hb dL_law_459 hl (k := 0) rfl (nI_add i 4) (by decide) rfl (fun ls hl => ?_)
      refine lv_goto (tgt := 18) hx hb dL_law_462 (by decide) ?_
      exact ih (i + 4) h4 (by omega) σ1 μ1 H1 locs1 ls hrel hS hl
end
section
/-! the law from its entry (printed by gen42.py) -/
set_option maxHeartbeats 4000000 in
set_option maxRecDepth 100000 in
theorem whole_start {p : Program} {e : Env} {s : State} {m : MethodId} {below : List Frame} {meth : Method} {c : Code} (l : Launch) {b L : Nat} {xs : Nat → Int32} (hL : L ≤ 256) (C0 : lw_At p s m meth c b L xs) : W p l e room_1 s m #[Value.ref b] below meth c s.heap [] 0 0 (lw_Z below #[Value.ref b] s) (entryFrame m ([Value.ref b] : List Value).toArray 4) := by
  obtain ⟨hx, hb, hr, hml, hown, hts0, hX, hbl, hlocks, hgv⟩ := id C0
  have hts : ∀ w ∈ lw_all, w.before #[Value.ref b] s = true := fun w h => hts0 w (lw_all_tbl h)
  have hown : s.vm.findClass "ClosureDeskLaw" = some m.cls := hown
  have hA : ∀ q : Nat, s.heap.size ≤ q → (fun q : Nat => s.heap.size ≤ q) q := fun _ h => h
  have hbA : ¬ (fun q : Nat => s.heap.size ≤ q) b := Nat.not_le.mpr hbl
  obtain ⟨c0, iS0, hKn0⟩ := u_known (C := RX0) (T := TX0) (N := 8) (n := 8) hts in_X0 (hts _ q17)
  obtain ⟨c1, iS1, hKn1⟩ := u_known (C := RX1) (T := TX1) (N := 3) (n := 3) hts in_X1 (hts _ q159)
  obtain ⟨dC, dI, hKc⟩ : ∃ (dC : Nat → ClassId) (dI : Nat → Nat → Nat), ∀ (k : Nat) (q : vw_C), vwCl[k]? = some q → u_Kn s q.1 q.2.1 q.2.2 (dC k) (dI k) := by
    refine ⟨fun k => if k = 0 then c0 else c1, fun k => if k = 0 then iS0 else iS1, ?_⟩
    intro k q hq
    match k, hq with
    | 0, hq => cases hq; exact hKn0
    | 1, hq => cases hq; exact hKn1
    | k + 2, hq => simp [vwCl] at hq
  have hS : va_S (fun q : Nat => s.heap.size ≤ q) s.heap s.heap [] := va_S.rf
  have hK : va_K (dC, dI) vwCl [] s := ⟨hKc, fun k q h => by simp at h⟩
  have hP : va_P (dC, dI) vwCl [] s.heap := fun k q h => by simp at h
  have hD : va_D (fun q : Nat => s.heap.size ≤ q) [] := ⟨fun i j p q h => by simp at h, fun k q h => by simp at h⟩
  have hl := lv_entry ([.ref b]) (n := 4) (Nat.le_of_ble_eq_true rfl)
  rw [lg_entry_eq]
  generalize (lg_sl ([.ref b]) ++ List.replicate (4 - (lg_sl ([.ref b])).length) Slot.unset).toArray = ls at hl ⊢
  have hl : lv_has ls 4 [(0, .ref b)] := hl
  refine va_new (ci := 0) (fs := [.int 0, .null, .null, .null, .null, .int 0, .null, .null]) (C := RX0) (T := TX0) (N := 8) hx hb hts in_X0 tyX0 tyX0_ok hown (hts _ q16) (hts _ q17) (hts _ q14) hK hP hD hS hA rfl (fun j hj => by rcases (show j = 0 ∨ j = 1 ∨ j = 2 ∨ j = 3 ∨ j = 4 ∨ j = 5 ∨ j = 6 ∨ j = 7 by omega) with rfl | rfl | rfl | rfl | rfl | rfl | rfl | rfl <;> rfl) (Nat.le_of_ble_eq_true rfl) (Nat.le_of_ble_eq_true rfl) dL_law_0 (fun q0v H hP hD hS => ?_)
  have hP : va_P (dC, dI) vwCl [(q0v, .inr (0, [.int 0, .null, .null, .null, .null, .int 0, .null, .null]))] H := hP
  have hD : va_D (fun q : Nat => s.heap.size ≤ q) [(q0v, .inr (0, [.int 0, .null, .null, .null, .null, .int 0, .null, .null]))] := hD
  refine W.widen (k := 1) (n := 8) (Nat.le_of_ble_eq_true rfl) (Nat.le_of_ble_eq_true rfl) ?_
  refine lv_dup hx hb dL_law_3 rfl ?_
  have hPc := hP.sub (ws' := [(q0v, .inr (0, [.int 0, .null, .null, .null, .null, .int 0, .null, .null]))]) [0] rfl
  have hDc := hD.sub (ws' := [(q0v, .inr (0, [.int 0, .null, .null, .null, .null, .int 0, .null, .null]))]) [0] (by decide) rfl
  have hKc := hK.sub (tys' := []) [] rfl
  have hFc := va_free (wc := [(q0v, .inr (0, [.int 0, .null, .null, .null, .null, .int 0, .null, .null]))]) hD hS hA [0] rfl
  refine va_callv (va_runI (As := []) (rest := [.ref q0v]) ⟨hx, hb, hml, hown, hts⟩ (m_X0_init l (dC, dI) q0v H.size) (cwI 0 hts (lw_meth q20) rfl rfl rfl (hts _ q14) (hts _ q18) (hts _ q19) rfl (by decide +kernel) ⟨(Nat.le_of_ble_eq_true rfl), (Nat.le_of_ble_eq_true rfl)⟩) ⟨fun a U g mk q => by obtain ⟨q0, q1, qP, qK, qD⟩ := q; exact ⟨q0, q1, qP, va_K.moved (u := U) (U := U.calling g mk a) (Vm.Alike.refl U.vm) qK, qD⟩, fun U hU hW => ⟨rfl, by rw [hU], by rw [hU]; exact hPc, va_K.moved hW.alike hKc, hDc.weaken (fun _ _ _ _ => trivial)⟩⟩ rfl rfl hl.1 rfl (lv_room (Nat.le_of_ble_eq_true rfl)) dL_law_4 ⟨(Nat.le_of_ble_eq_true rfl), (Nat.le_of_ble_eq_true rfl)⟩) hS (fun q _ h => hFc q h) hFc (fun u t H1 locs ht hvm hw hB hz1 hk1 hS => ?_)
  obtain ⟨ad, ca, e0, ⟨hK1, hP1⟩, hD1⟩ := hB
  rw [ht] at hP1
  have hK1 := va_K.moved hvm.symm hK1
  obtain ⟨hP, hD⟩ := va_join (wr := []) (w1 := dkW ad ca cd_s0) hP hD [0] [] rfl rfl (by decide) (by decide) hk1 hFc hP1 hD1
  generalize H1 = H at hP hS ⊢
  have hP : va_P (dC, dI) vwCl (dkW ad ca cd_s0) H := hP
  have hD : va_D (fun q : Nat => s.heap.size ≤ q) (dkW ad ca cd_s0) := hD
  have hK : va_K (dC, dI) vwCl (dkT ca) s := hK1
  rw [← e0]
  refine W.widen (k := 7) (n := 179) (Nat.le_of_ble_eq_true rfl) (Nat.le_of_ble_eq_true rfl) ?_
  refine lv_astore_n (lv' := [(1, .ref (ad 0)), (0, .ref b)]) hx hb dL_law_7 rfl hl (by decide) rfl (fun ls hl => ?_)
  refine va_new (ci := 1) (fs := [.null, .null, .null]) (C := RX1) (T := TX1) (N := 3) hx hb hts in_X1 tyX1 tyX1_ok hown (hts _ q158) (hts _ q159) (hts _ q15) hK hP hD hS hA rfl (fun j hj => by rcases (show j = 0 ∨ j = 1 ∨ j = 2 by omega) with rfl | rfl | rfl <;> rfl) (Nat.le_of_ble_eq_true rfl) (Nat.le_of_ble_eq_true rfl) dL_law_8 (fun q1v H hP hD hS => ?_)
  refine W.widen (k := 8) (n := 182) (Nat.le_of_ble_eq_true rfl) (Nat.le_of_ble_eq_true rfl) ?_
  refine lv_dup hx hb dL_law_11 rfl ?_
  have hPc := hP.sub (ws' := [(q1v, .inr (1, [.null, .null, .null]))]) [7] rfl
  have hDc := hD.sub (ws' := [(q1v, .inr (1, [.null, .null, .null]))]) [7] (by decide) rfl
  have hKc := hK.sub (tys' := []) [] rfl
  have hFc := va_free (wc := [(q1v, .inr (1, [.null, .null, .null]))]) hD hS hA [7] rfl
  refine va_callv (va_runI (As := []) (rest := [.ref q1v]) ⟨hx, hb, hml, hown, hts⟩ (m_X1_init l (dC, dI) q1v H.size) (cwI 0 hts (lw_meth q162) rfl rfl rfl (hts _ q15) (hts _ q160) (hts _ q161) rfl (by decide +kernel) ⟨(Nat.le_of_ble_eq_true rfl), (Nat.le_of_ble_eq_true rfl)⟩) ⟨fun a U g mk q => by obtain ⟨q0, q1, qP, qK, qD⟩ := q; exact ⟨q0, q1, qP, va_K.moved (u := U) (U := U.calling g mk a) (Vm.Alike.refl U.vm) qK, qD⟩, fun U hU hW => ⟨rfl, by rw [hU], by rw [hU]; exact hPc, va_K.moved hW.alike hKc, hDc.weaken (fun _ _ _ _ => trivial)⟩⟩ rfl rfl hl.1 rfl (lv_room (Nat.le_of_ble_eq_true rfl)) dL_law_12 ⟨(Nat.le_of_ble_eq_true rfl), (Nat.le_of_ble_eq_true rfl)⟩) hS (fun q _ h => hFc q h) hFc (fun u t H1 locs ht hvm hw hB hz1 hk1 hS => ?_)
  obtain ⟨bd, cb, e1, ⟨hK1, hP1⟩, hD1⟩ := hB
  rw [ht] at hP1
  have hK1 := va_K.moved hvm.symm hK1
  obtain ⟨hP, hD⟩ := va_join (wr := dkW ad ca cd_s0) (w1 := mdW bd cb cd_m0) hP hD [7] [0, 1, 2, 3, 4, 5, 6] rfl rfl (by decide) (by decide) hk1 hFc hP1 hD1
  have hK := hK.app hK1
  generalize H1 = H at hP hS ⊢
  rw [← e1]
  refine W.widen (k := 11) (n := 209) (Nat.le_of_ble_eq_true rfl) (Nat.le_of_ble_eq_true rfl) ?_
  refine lv_astore_n (lv' := [(2, .ref (bd 0)), (1, .ref (ad 0)), (0, .ref b)]) hx hb dL_law_15 rfl hl (by decide) rfl (fun ls hl => ?_)
  refine lv_iconst (v := 0) hx hb dL_law_16 (by decide) ?_
  refine lv_istore_n (lv' := [(3, .int 0), (2, .ref (bd 0)), (1, .ref (ad 0)), (0, .ref b)]) hx hb dL_law_17 rfl hl (by decide) rfl (fun ls hl => ?_)
  exact law_loop hL C0 (L + 1) 0 (Nat.zero_le L) (by omega) cd_s0 cd_m0 _ _ ls rel_0 ⟨⟨hK, hP⟩, hD, hS, hA⟩ hl
end
section
/-! the claim out of the walk (the skeleton's end) -/
set_option maxHeartbeats 4000000 in
theorem lw_walk (l : Launch) (b : Addr) (xs : List Int32) : MetFree l x (headSpec (Jvm.Cond.code x code maxLocals ret :: tables_1) room_1) (lw_P b xs) (fun _ _ _ _ _ => True) lw_Q := by
  refine MetFree.of_bodyS (code := code) (maxLocals := maxLocals) (ret := ret) (by decide) ?_ ?_
  · intro args s m h hn
    obtain ⟨meth, c, h1, h2, h3, h4, h5, h6, -, -⟩ := Cond.code_spec hn (atoms_spec (ws := Jvm.Cond.code x code maxLocals ret :: tables_1) h _ List.mem_cons_self)
    exact ⟨meth, c, h1, h2, h3, h4, h5, h6⟩
  · intro p e s m args below meth c s₁ B hml0 hP _
    obtain ⟨rfl, hx, hbd, hgv⟩ := hP
    obtain ⟨scr, harrAt, hlist, hof, hsmall⟩ := hx
    obtain ⟨hcb, hkn, -, -⟩ := State.arrayAt?_spec harrAt
    have hown : s.vm.findClass R_law = some m.cls := findClass_of_methodNamed B.named
    have hts0 : ∀ c ∈ (Jvm.Cond.code x code maxLocals ret :: tables_1), c.before #[Value.ref b] s = true := atoms_spec (ws := Jvm.Cond.code x code maxLocals ret :: tables_1) B.pre
    have hts : ∀ w ∈ lw_tbl, w.before #[Value.ref b] s = true := k2_hts_sels lw_privs (fun w hw => hts0 w (List.mem_cons_of_mem _ hw)) lw_privs_ok
    have hml : c.maxLocals = 4 := B.maxLocals_eq (hts0 _ List.mem_cons_self)
    have X₀ : Stand p l e room_1 s m #[Value.ref b] below meth c s₁ [] 0 0 := Stand.of_body B
    have hh0 : s₁.heap = s.heap := by rw [B.state]; rfl
    have hsz : scr.slots.size = xs.length := by rw [← Array.length_toList, hlist, List.length_map]
    have hval : ∀ j : Nat, j < xs.length → scr.slots[j]? = some (.int (xs.getD j 0)) := fun j hj => by
      rw [← Array.getElem?_toList, hlist]
      simp [hj]
    have hbl : b < s.heap.size := (Array.getElem?_eq_some_iff.mp hcb).1
    have hX : va_X b xs.length (fun j => xs.getD j 0) s s.heap := ⟨scr, hcb, hof, hkn, hsz, hval⟩
    have K : W p l e room_1 s m #[Value.ref b] below meth c s₁.heap [] 0 0 (lw_Z below #[Value.ref b] s) (entryFrame m ([Value.ref b] : List Value).toArray 4) := by
      rw [hh0]
      exact whole_start l hbd ⟨B.exec, B.bytes, B.returns, hml, hown, hts, hX, hbl, B.notSynchronized, hgv⟩
    obtain ⟨t, a1, o, b1, b2, b3⟩ := K s₁ rfl X₀
    exact ⟨t, o, a1, b1, b2, b3⟩
theorem lw_pre_spec {args : Array Value} {s : State} (h : (Jvm.Cond.and given_1 narrow_1).before args s = true) (hr : rest_1_c.before args s = true) : ∃ (b : Addr) (xs : List Int32), lw_P b xs args s := by
  have hs := flat_of_before _ h
  have hq := flat_of_before _ hr
  have hc : (Cond.count 1).before args s = true := hs _ (by decide +kernel)
  have harr : (Cond.arrayOf (.arg 0) .int).before args s = true := hs _ (by decide +kernel)
  have hle : (Cond.le (.length (.arg 0)) (.int 256)).before args s = true := hs _ (by decide +kernel)
  have hlen : (Cond.isInt (.length (.arg 0))).before args s = true := hq _ (by decide +kernel)
  have hall : (Cond.all (.arg 0) (.isInt (.elem (.arg 0) (.index 0)))).before args s = true := hq _ (by decide +kernel)
  obtain ⟨b, xs, hb, hx⟩ := State.ints_of_pre rfl harr hlen hall
  have hsm : xs.length < 2 ^ 31 := hx.choose_spec.2.2.2
  have hev : (Term.length (.arg 0)).eval args s none [] s = some (.int xs.length.toInt32) := hx.length_eval hb
  have hv := Cond.le_ints hev (show (Term.int 256).eval args s none [] s = some (.int 256) from rfl)
  have hd : xs.length.toInt32 ≤ 256 := by
    simpa [Cond.before, Cond.holds, hv] using hle
  have hN : xs.length ≤ 256 := (Int32.ofNat_le_ofNat hsm (by decide)).mp (show Int32.ofNat xs.length ≤ Int32.ofNat 256 from hd)
  exact ⟨b, xs, Cond.one_arg hc (show args[0]? = some (.ref b) from hb), hx, hN, h⟩
theorem lw_comes (l : Launch) : Comes l x (Jvm.Cond.code x code maxLocals ret :: tables_1) room_1 (fun tb e args s => Calls_1 tb e args s ∧ rest_1 tb e args s ∧ Pre_1 tb e args s)
    (fun _ _ args s o t => lw_Q args s o t) := by
  intro p e ha hc hk s m args below hf hfit hheap happ hpre
  obtain ⟨b, xs, hP⟩ := lw_pre_spec hpre.2.2 hpre.2.1
  obtain ⟨k, o, h1, h2, h3, hQ⟩ := lw_walk l b xs p e ha hc hk s m args below hf ((Spec.applies_iff_loose hf).mp happ).1 hP trivial
  exact ⟨k, o, h1, h2, h3, hQ⟩
theorem lw_frame {s t : State} {o : Outcome} {args : Array Value} (h : Framed s o t [] 600000 7290000) :
    Framed s o t (fieldLocs frame_1_writes args s ++ arrayLocs frame_1_arrays args s ++ staticLocs frame_1_statics s) 600000 7290000 := h
theorem lw_limb (L : Cond) (hL : ∀ (args : Array Value) (s t : State), L.after args s (.returned (some (.int 1))) t = true) :
    ArmFor flags0 classFile x code maxLocals ret World_1 tables_1 room_1 Calls_1 rest_1 Pre_1
      (fun tb e a s o t => postC L tb e a s o t ∧ Framed s o t (fieldLocs frame_1_writes a s ++ arrayLocs frame_1_arrays a s ++ staticLocs frame_1_statics s) 600000 7290000) := by
  intro l _ _ _ p e ha hc hk s m args below hf hfit hheap happ hpre
  obtain ⟨k, o, h1, h2, h3, rfl, hF⟩ := lw_comes l p e ha hc hk s m args below hf hfit hheap happ hpre
  exact ⟨k, _, h1, h2, h3, hL args s _, lw_frame hF⟩
theorem i_vc : Claimed_1_1 ∧ Claimed_1_2 := ⟨lw_limb limb_1_1 (fun args s t => by simp [limb_1_1, Cond.after, Cond.holds, Cond.value]), lw_limb limb_1_2 (fun args s t => Cond.after_iff.mpr (by
  first | (rw [show limb_1_2 = Cond.eq .result (.int 1) from rfl, Cond.eq_ints (x := 1) (y := 1) rfl rfl]; simp; done) | (simp [limb_1_2, Cond.value, Term.eval]; done)))⟩
end
