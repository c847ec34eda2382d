section
-- ===== PART A: goes FIRST, ahead of the names: the tables' words, and 'selects' of the private methods out of them =====
/-- a private method of a class that the tables say can be made, by its rows of tables_1 -/
def lw_okq (q : MethodName × Nat) : Prop := (q.1.cls ≠ "java/lang/invoke/MethodHandle" ∧ q.1.cls ≠ "java/lang/invoke/VarHandle") ∧ Cond.instantiable q.1.cls q.2 ∈ tables_1 ∧ Cond.privateMethod q.1 ∈ tables_1 ∧ Cond.instanceMethod q.1 ∈ tables_1
set_option maxRecDepth 100000
theorem lw_p0 : lw_okq (⟨"RoundCores", "mixA", "([II)V"⟩, 7) := ⟨⟨by decide +kernel, by decide +kernel⟩, List.mem_of_getElem? (i := 4) rfl, List.mem_of_getElem? (i := 45) rfl, List.mem_of_getElem? (i := 46) rfl⟩
theorem lw_p1 : lw_okq (⟨"RoundCores", "lay", "(IIIII)V"⟩, 7) := ⟨⟨by decide +kernel, by decide +kernel⟩, List.mem_of_getElem? (i := 4) rfl, List.mem_of_getElem? (i := 49) rfl, List.mem_of_getElem? (i := 50) rfl⟩
theorem lw_p2 : lw_okq (⟨"RoundCores", "crossAll", "()V"⟩, 7) := ⟨⟨by decide +kernel, by decide +kernel⟩, List.mem_of_getElem? (i := 4) rfl, List.mem_of_getElem? (i := 57) rfl, List.mem_of_getElem? (i := 58) rfl⟩
theorem lw_p3 : lw_okq (⟨"RoundCores", "cross", "(IIII)V"⟩, 7) := ⟨⟨by decide +kernel, by decide +kernel⟩, List.mem_of_getElem? (i := 4) rfl, List.mem_of_getElem? (i := 61) rfl, List.mem_of_getElem? (i := 62) rfl⟩
theorem lw_p4 : lw_okq (⟨"RoundCores", "acrossA", "()V"⟩, 7) := ⟨⟨by decide +kernel, by decide +kernel⟩, List.mem_of_getElem? (i := 4) rfl, List.mem_of_getElem? (i := 74) rfl, List.mem_of_getElem? (i := 75) rfl⟩
theorem lw_p5 : lw_okq (⟨"RoundCores", "shift", "(II)V"⟩, 7) := ⟨⟨by decide +kernel, by decide +kernel⟩, List.mem_of_getElem? (i := 4) rfl, List.mem_of_getElem? (i := 78) rfl, List.mem_of_getElem? (i := 79) rfl⟩
theorem lw_p6 : lw_okq (⟨"RoundCores", "change", "(II)V"⟩, 7) := ⟨⟨by decide +kernel, by decide +kernel⟩, List.mem_of_getElem? (i := 4) rfl, List.mem_of_getElem? (i := 82) rfl, List.mem_of_getElem? (i := 83) rfl⟩
theorem lw_p7 : lw_okq (⟨"RoundCores", "word", "(II)I"⟩, 7) := ⟨⟨by decide +kernel, by decide +kernel⟩, List.mem_of_getElem? (i := 4) rfl, List.mem_of_getElem? (i := 86) rfl, List.mem_of_getElem? (i := 87) rfl⟩
theorem lw_p8 : lw_okq (⟨"RoundCores", "mixB", "([II)V"⟩, 7) := ⟨⟨by decide +kernel, by decide +kernel⟩, List.mem_of_getElem? (i := 4) rfl, List.mem_of_getElem? (i := 94) rfl, List.mem_of_getElem? (i := 95) rfl⟩
theorem lw_p9 : lw_okq (⟨"RoundCores", "quarterAll", "()V"⟩, 7) := ⟨⟨by decide +kernel, by decide +kernel⟩, List.mem_of_getElem? (i := 4) rfl, List.mem_of_getElem? (i := 98) rfl, List.mem_of_getElem? (i := 99) rfl⟩
theorem lw_p10 : lw_okq (⟨"RoundCores", "quarter", "(IIII)V"⟩, 7) := ⟨⟨by decide +kernel, by decide +kernel⟩, List.mem_of_getElem? (i := 4) rfl, List.mem_of_getElem? (i := 102) rfl, List.mem_of_getElem? (i := 103) rfl⟩
theorem lw_p11 : lw_okq (⟨"RoundCoresModel", "turnIn", "(IZ)V"⟩, 8) := ⟨⟨by decide +kernel, by decide +kernel⟩, List.mem_of_getElem? (i := 134) rfl, List.mem_of_getElem? (i := 173) rfl, List.mem_of_getElem? (i := 174) rfl⟩
theorem lw_p12 : lw_okq (⟨"RoundCoresModel", "core", "(IZ)V"⟩, 8) := ⟨⟨by decide +kernel, by decide +kernel⟩, List.mem_of_getElem? (i := 134) rfl, List.mem_of_getElem? (i := 177) rfl, List.mem_of_getElem? (i := 178) rfl⟩
theorem lw_p13 : lw_okq (⟨"RoundCoresModel", "salsaQuarter", "(IIII)V"⟩, 8) := ⟨⟨by decide +kernel, by decide +kernel⟩, List.mem_of_getElem? (i := 134) rfl, List.mem_of_getElem? (i := 181) rfl, List.mem_of_getElem? (i := 182) rfl⟩
theorem lw_p14 : lw_okq (⟨"RoundCoresModel", "quarter", "(IIII)V"⟩, 8) := ⟨⟨by decide +kernel, by decide +kernel⟩, List.mem_of_getElem? (i := 134) rfl, List.mem_of_getElem? (i := 188) rfl, List.mem_of_getElem? (i := 189) rfl⟩
def lw_privs_1 : List (MethodName × Nat) := [(⟨"RoundCores", "mixA", "([II)V"⟩, 7), (⟨"RoundCores", "lay", "(IIIII)V"⟩, 7), (⟨"RoundCores", "crossAll", "()V"⟩, 7), (⟨"RoundCores", "cross", "(IIII)V"⟩, 7), (⟨"RoundCores", "acrossA", "()V"⟩, 7), (⟨"RoundCores", "shift", "(II)V"⟩, 7), (⟨"RoundCores", "change", "(II)V"⟩, 7), (⟨"RoundCores", "word", "(II)I"⟩, 7), (⟨"RoundCores", "mixB", "([II)V"⟩, 7), (⟨"RoundCores", "quarterAll", "()V"⟩, 7), (⟨"RoundCores", "quarter", "(IIII)V"⟩, 7), (⟨"RoundCoresModel", "turnIn", "(IZ)V"⟩, 8), (⟨"RoundCoresModel", "core", "(IZ)V"⟩, 8), (⟨"RoundCoresModel", "salsaQuarter", "(IIII)V"⟩, 8), (⟨"RoundCoresModel", "quarter", "(IIII)V"⟩, 8)]
theorem lw_r1 : ∀ q ∈ lw_privs_1, lw_okq q := List.forall_mem_cons.mpr ⟨lw_p0, List.forall_mem_cons.mpr ⟨lw_p1, List.forall_mem_cons.mpr ⟨lw_p2, List.forall_mem_cons.mpr ⟨lw_p3, List.forall_mem_cons.mpr ⟨lw_p4, List.forall_mem_cons.mpr ⟨lw_p5, List.forall_mem_cons.mpr ⟨lw_p6, List.forall_mem_cons.mpr ⟨lw_p7, List.forall_mem_cons.mpr ⟨lw_p8, List.forall_mem_cons.mpr ⟨lw_p9, List.forall_mem_cons.mpr ⟨lw_p10, List.forall_mem_cons.mpr ⟨lw_p11, List.forall_mem_cons.mpr ⟨lw_p12, List.forall_mem_cons.mpr ⟨lw_p13, List.forall_mem_cons.mpr ⟨lw_p14, fun _ h => absurd h List.not_mem_nil⟩⟩⟩⟩⟩⟩⟩⟩⟩⟩⟩⟩⟩⟩⟩
def lw_privs : List (MethodName × Nat) := lw_privs_1
def lw_tbl : List Cond := k2_sels lw_privs ++ tables_1
theorem lw_privs_ok : ∀ q ∈ lw_privs, lw_okq q := lw_r1
-- ===== ONE list of words for every method: the tables' words that hold all through a run =====
def lw_all : List Cond := lw_tbl.filter goodWord
/-- a word of the tables by its place: claim/WORDS.tsv -/
theorem lw_w {w : Cond} (i : Nat) (h : lw_tbl[i]? = some w) (g : goodWord w = true) : w ∈ lw_all := List.mem_filter.mpr ⟨List.mem_of_getElem? h, g⟩
theorem lw_all_tbl {w : Cond} (h : w ∈ lw_all) : w ∈ lw_tbl := (List.mem_filter.mp h).1
theorem lw_self : GoodIn lw_all lw_all := fun w h => ⟨h, good_of_word (List.mem_filter.mp h).2⟩
/-- a class's field words, by their places -/
theorem lw_in (ws : List Cond) (ps : List Nat) (hp : ws = ps.filterMap (fun i => lw_tbl[i]?)) (hg : ws.all goodWord = true) : ∀ w ∈ ws, w ∈ lw_all := by
  intro w h
  have h1 := List.all_eq_true.mp hg w h
  rw [hp] at h
  obtain ⟨i, -, hi⟩ := List.mem_filterMap.mp h
  exact lw_w i hi h1
/-- the words of a contract for the method y with code b, L locals, answer r -/
abbrev ws_ (y : MethodName) (b : ByteArray) (L : Nat) (r : Option FieldType) : List Cond := Cond.code y b L r :: lw_all
theorem lw_meth {y : MethodName} {b : ByteArray} {L : Nat} {r : Option FieldType} (h : Cond.code y b L r ∈ lw_all) : GoodIn lw_all (ws_ y b L r) := by
  intro w hw
  rcases List.mem_cons.mp hw with e | e
  · rw [e]
    exact lw_self _ h
  · exact lw_self _ e
theorem lw_app {a c : List Cond} (ha : ∀ w ∈ a, w ∈ lw_all) (hc : GoodIn lw_all c) : GoodIn lw_all (a ++ c) := by
  intro w hw
  rcases List.mem_append.mp hw with e | e
  · exact lw_self w (ha w e)
  · exact hc w e
/-- what a call through an object asks: cwV n hts (lw_V ..) -/
theorem lw_V {own : String} {idx : Nat} {C : String} {y : MethodName} {b : ByteArray} {L : Nat} {r : Option FieldType} (h1 : Cond.methodLink own idx y ∈ lw_all) (h2 : Cond.instanceMethod y ∈ lw_all) (h3 : Cond.selects C y y ∈ lw_all) (h4 : Cond.initialized C ∈ lw_all) (h5 : Cond.code y b L r ∈ lw_all) : GoodIn lw_all (wsV own idx C y (ws_ y b L r)) := by
  refine lw_app ?_ (lw_meth h5)
  intro w hw
  simp only [List.mem_cons, List.not_mem_nil, or_false] at hw
  rcases hw with e | e | e | e
  · rw [e]; exact h1
  · rw [e]; exact h2
  · rw [e]; exact h3
  · rw [e]; exact h4
/-- what a static call asks: va_cwS n hts (lw_S ..) -/
theorem lw_S {own : String} {idx : Nat} {y : MethodName} {b : ByteArray} {L : Nat} {r : Option FieldType} (h1 : Cond.methodLink own idx y ∈ lw_all) (h2 : Cond.static y ∈ lw_all) (h3 : Cond.initialized y.cls ∈ lw_all) (h4 : Cond.code y b L r ∈ lw_all) : GoodIn lw_all (va_wsS own idx y (ws_ y b L r)) := by
  refine lw_app ?_ (lw_meth h4)
  intro w hw
  simp only [List.mem_cons, List.not_mem_nil, or_false] at hw
  rcases hw with e | e | e
  · rw [e]; exact h1
  · rw [e]; exact h2
  · rw [e]; exact h3
/-- the words of a contract for a method WITH HANDLERS (hh: its table) -/
abbrev wsW_ (y : MethodName) (b : ByteArray) (L : Nat) (r : Option FieldType) (hh : List (Nat × Nat × Nat × Nat)) : List Cond := Cond.codeWith y b L r hh :: lw_all
theorem lw_methW {y : MethodName} {b : ByteArray} {L : Nat} {r : Option FieldType} {hh : List (Nat × Nat × Nat × Nat)} (h : Cond.codeWith y b L r hh ∈ lw_all) : GoodIn lw_all (wsW_ y b L r hh) := by
  intro w hw
  rcases List.mem_cons.mp hw with e | e
  · rw [e]
    exact lw_self _ h
  · exact lw_self _ e
/-- any list of words by their places (lw_in), good -/
theorem lw_good {ws : List Cond} (h : ∀ w ∈ ws, w ∈ lw_all) : GoodIn lw_all ws := fun w hw => lw_self w (h w hw)
/-- what a call of a method with handlers asks: vx_cwVW n hts (lw_VW ..), vx_cwSW n hts (lw_SW ..) -/
theorem lw_VW {own : String} {idx : Nat} {C : String} {y : MethodName} {b : ByteArray} {L : Nat} {r : Option FieldType} {hh : List (Nat × Nat × Nat × Nat)} (h1 : Cond.methodLink own idx y ∈ lw_all) (h2 : Cond.instanceMethod y ∈ lw_all) (h3 : Cond.selects C y y ∈ lw_all) (h4 : Cond.initialized C ∈ lw_all) (h5 : Cond.codeWith y b L r hh ∈ lw_all) : GoodIn lw_all (wsV own idx C y (wsW_ y b L r hh)) := by
  refine lw_app ?_ (lw_methW h5)
  intro w hw
  simp only [List.mem_cons, List.not_mem_nil, or_false] at hw
  rcases hw with e | e | e | e
  · rw [e]; exact h1
  · rw [e]; exact h2
  · rw [e]; exact h3
  · rw [e]; exact h4
theorem lw_SW {own : String} {idx : Nat} {y : MethodName} {b : ByteArray} {L : Nat} {r : Option FieldType} {hh : List (Nat × Nat × Nat × Nat)} (h1 : Cond.methodLink own idx y ∈ lw_all) (h2 : Cond.static y ∈ lw_all) (h3 : Cond.initialized y.cls ∈ lw_all) (h4 : Cond.codeWith y b L r hh ∈ lw_all) : GoodIn lw_all (va_wsS own idx y (wsW_ y b L r hh)) := by
  refine lw_app ?_ (lw_methW h4)
  intro w hw
  simp only [List.mem_cons, List.not_mem_nil, or_false] at hw
  rcases hw with e | e | e
  · rw [e]; exact h1
  · rw [e]; exact h2
  · rw [e]; exact h3
/-- a word by its place in its run of the tables -/
theorem lw_at {r : List Cond} (hr : ∀ w ∈ r, w ∈ lw_tbl) {w : Cond} (i : Nat) (h : r[i]? = some w) : w ∈ lw_tbl := hr w (List.mem_of_getElem? h)
theorem lw_g {w : Cond} (h : w ∈ lw_tbl) (g : goodWord w = true) : w ∈ lw_all := List.mem_filter.mpr ⟨h, g⟩
theorem lw_ms : ∀ w ∈ k2_sels lw_privs, w ∈ lw_tbl := fun w h => show w ∈ k2_sels lw_privs ++ tables_1 from List.mem_append_left _ h
theorem lw_m0 : ∀ w ∈ tables_1, w ∈ lw_tbl := fun w h => show w ∈ k2_sels lw_privs ++ tables_1 from List.mem_append_right (k2_sels lw_privs) h
theorem qs0 : (Cond.selects "RoundCores" ⟨"RoundCores", "mixA", "([II)V"⟩ ⟨"RoundCores", "mixA", "([II)V"⟩) ∈ lw_all := lw_g (lw_at lw_ms 0 rfl) rfl
theorem qs1 : (Cond.selects "RoundCores" ⟨"RoundCores", "lay", "(IIIII)V"⟩ ⟨"RoundCores", "lay", "(IIIII)V"⟩) ∈ lw_all := lw_g (lw_at lw_ms 1 rfl) rfl
theorem qs2 : (Cond.selects "RoundCores" ⟨"RoundCores", "crossAll", "()V"⟩ ⟨"RoundCores", "crossAll", "()V"⟩) ∈ lw_all := lw_g (lw_at lw_ms 2 rfl) rfl
theorem qs3 : (Cond.selects "RoundCores" ⟨"RoundCores", "cross", "(IIII)V"⟩ ⟨"RoundCores", "cross", "(IIII)V"⟩) ∈ lw_all := lw_g (lw_at lw_ms 3 rfl) rfl
theorem qs4 : (Cond.selects "RoundCores" ⟨"RoundCores", "acrossA", "()V"⟩ ⟨"RoundCores", "acrossA", "()V"⟩) ∈ lw_all := lw_g (lw_at lw_ms 4 rfl) rfl
theorem qs5 : (Cond.selects "RoundCores" ⟨"RoundCores", "shift", "(II)V"⟩ ⟨"RoundCores", "shift", "(II)V"⟩) ∈ lw_all := lw_g (lw_at lw_ms 5 rfl) rfl
theorem qs6 : (Cond.selects "RoundCores" ⟨"RoundCores", "change", "(II)V"⟩ ⟨"RoundCores", "change", "(II)V"⟩) ∈ lw_all := lw_g (lw_at lw_ms 6 rfl) rfl
theorem qs7 : (Cond.selects "RoundCores" ⟨"RoundCores", "word", "(II)I"⟩ ⟨"RoundCores", "word", "(II)I"⟩) ∈ lw_all := lw_g (lw_at lw_ms 7 rfl) rfl
theorem qs8 : (Cond.selects "RoundCores" ⟨"RoundCores", "mixB", "([II)V"⟩ ⟨"RoundCores", "mixB", "([II)V"⟩) ∈ lw_all := lw_g (lw_at lw_ms 8 rfl) rfl
theorem qs9 : (Cond.selects "RoundCores" ⟨"RoundCores", "quarterAll", "()V"⟩ ⟨"RoundCores", "quarterAll", "()V"⟩) ∈ lw_all := lw_g (lw_at lw_ms 9 rfl) rfl
theorem qs10 : (Cond.selects "RoundCores" ⟨"RoundCores", "quarter", "(IIII)V"⟩ ⟨"RoundCores", "quarter", "(IIII)V"⟩) ∈ lw_all := lw_g (lw_at lw_ms 10 rfl) rfl
theorem qs11 : (Cond.selects "RoundCoresModel" ⟨"RoundCoresModel", "turnIn", "(IZ)V"⟩ ⟨"RoundCoresModel", "turnIn", "(IZ)V"⟩) ∈ lw_all := lw_g (lw_at lw_ms 11 rfl) rfl
theorem qs12 : (Cond.selects "RoundCoresModel" ⟨"RoundCoresModel", "core", "(IZ)V"⟩ ⟨"RoundCoresModel", "core", "(IZ)V"⟩) ∈ lw_all := lw_g (lw_at lw_ms 12 rfl) rfl
theorem qs13 : (Cond.selects "RoundCoresModel" ⟨"RoundCoresModel", "salsaQuarter", "(IIII)V"⟩ ⟨"RoundCoresModel", "salsaQuarter", "(IIII)V"⟩) ∈ lw_all := lw_g (lw_at lw_ms 13 rfl) rfl
theorem qs14 : (Cond.selects "RoundCoresModel" ⟨"RoundCoresModel", "quarter", "(IIII)V"⟩ ⟨"RoundCoresModel", "quarter", "(IIII)V"⟩) ∈ lw_all := lw_g (lw_at lw_ms 14 rfl) rfl
end
section
set_option maxRecDepth 100000
/-! RoundCores -/
def RX0 : String := "RoundCores"
def TX0 : u_T := fun k => match k with
  | 0 => ("RoundCores", "in", "[I", true)
  | 1 => ("RoundCores", "out", "[I", true)
  | 2 => ("RoundCores", "key", "[I", true)
  | 3 => ("RoundCores", "state", "[I", true)
  | 4 => ("RoundCores", "on", "Z", false)
  | 5 => ("RoundCores", "kept", "[B", true)
  | _ => ("RoundCores", "row", "[J", true)
def tyX0 : Nat → FieldType := fun k => match k with
  | 0 => .array .int
  | 1 => .array .int
  | 2 => .array .int
  | 3 => .array .int
  | 4 => .boolean
  | 5 => .array .byte
  | _ => .array .long
abbrev wsX00 : List Cond := u_ws RX0 TX0 7
theorem nmX0 : ∀ a, a < 7 → ∀ b, b < 7 → a ≠ b → (TX0 a).2.1 ≠ (TX0 b).2.1 := by decide +kernel
theorem tyX0_ok : ∀ k, k < 7 → parseFieldDescriptor (TX0 k).2.2.1 = some (tyX0 k) := by decide +kernel
abbrev cX0_init : ByteArray := prog_1_method_1_code
def yX0_init : MethodName := ⟨RX0, "<init>", "()V"⟩
abbrev cX0_put : ByteArray := prog_1_method_16_code
def yX0_put : MethodName := ⟨RX0, "put", "(IIIII)V"⟩
abbrev cX0_salsa : ByteArray := prog_1_method_17_code
def yX0_salsa : MethodName := ⟨RX0, "salsa", "(I)V"⟩
abbrev cX0_mixA : ByteArray := prog_1_method_13_code
def yX0_mixA : MethodName := ⟨RX0, "mixA", "([II)V"⟩
abbrev cX0_lay : ByteArray := prog_1_method_5_code
def yX0_lay : MethodName := ⟨RX0, "lay", "(IIIII)V"⟩
abbrev cX0_both : ByteArray := prog_1_method_4_code
def yX0_both : MethodName := ⟨RX0, "both", "(II)J"⟩
abbrev cX0_crossAll : ByteArray := prog_1_method_10_code
def yX0_crossAll : MethodName := ⟨RX0, "crossAll", "()V"⟩
abbrev cX0_cross : ByteArray := prog_1_method_9_code
def yX0_cross : MethodName := ⟨RX0, "cross", "(IIII)V"⟩
abbrev cX0_plus : ByteArray := prog_1_method_2_code
def yX0_plus : MethodName := ⟨RX0, "plus", "(JJ)J"⟩
abbrev cX0_turned : ByteArray := prog_1_method_3_code
def yX0_turned : MethodName := ⟨RX0, "turned", "(JI)J"⟩
abbrev cX0_acrossA : ByteArray := prog_1_method_14_code
def yX0_acrossA : MethodName := ⟨RX0, "acrossA", "()V"⟩
abbrev cX0_shift : ByteArray := prog_1_method_7_code
def yX0_shift : MethodName := ⟨RX0, "shift", "(II)V"⟩
abbrev cX0_change : ByteArray := prog_1_method_8_code
def yX0_change : MethodName := ⟨RX0, "change", "(II)V"⟩
abbrev cX0_word : ByteArray := prog_1_method_6_code
def yX0_word : MethodName := ⟨RX0, "word", "(II)I"⟩
abbrev cX0_chacha : ByteArray := prog_1_method_18_code
def yX0_chacha : MethodName := ⟨RX0, "chacha", "(I)V"⟩
abbrev cX0_mixB : ByteArray := prog_1_method_15_code
def yX0_mixB : MethodName := ⟨RX0, "mixB", "([II)V"⟩
abbrev cX0_quarterAll : ByteArray := prog_1_method_12_code
def yX0_quarterAll : MethodName := ⟨RX0, "quarterAll", "()V"⟩
abbrev cX0_quarter : ByteArray := prog_1_method_11_code
def yX0_quarter : MethodName := ⟨RX0, "quarter", "(IIII)V"⟩
abbrev cX0_again : ByteArray := prog_1_method_19_code
def yX0_again : MethodName := ⟨RX0, "again", "()V"⟩
abbrev cX0_out : ByteArray := prog_1_method_20_code
def yX0_out : MethodName := ⟨RX0, "out", "(I)I"⟩
abbrev cX0_key : ByteArray := prog_1_method_21_code
def yX0_key : MethodName := ⟨RX0, "key", "(IIIII)V"⟩
abbrev cX0_nonce : ByteArray := prog_1_method_22_code
def yX0_nonce : MethodName := ⟨RX0, "nonce", "(III)V"⟩
abbrev cX0_block : ByteArray := prog_1_method_23_code
def yX0_block : MethodName := ⟨RX0, "block", "()Z"⟩
abbrev cX0_stream : ByteArray := prog_1_method_24_code
def yX0_stream : MethodName := ⟨RX0, "stream", "(I)I"⟩
theorem q16 : (Jvm.Cond.initialized "RoundCores") ∈ lw_all := lw_g (lw_at lw_m0 1 rfl) rfl
theorem q19 : (Jvm.Cond.instantiable "RoundCores" (7 : Nat)) ∈ lw_all := lw_g (lw_at lw_m0 4 rfl) rfl
theorem q21 : (Jvm.Cond.instanceMethod ({ cls := "RoundCores", name := "<init>", desc := "()V" } : Jvm.MethodName)) ∈ lw_all := lw_g (lw_at lw_m0 6 rfl) rfl
theorem q22 : (Jvm.Cond.code ({ cls := "RoundCores", name := "<init>", desc := "()V" } : Jvm.MethodName) prog_1_method_1_code (1 : Nat) (Option.none : Option Jvm.ClassFile.FieldType)) ∈ lw_all := lw_g (lw_at lw_m0 7 rfl) rfl
theorem q23 : (Jvm.Cond.methodLink "RoundCores" (3 : Nat) ({ cls := "java/lang/Object", name := "<init>", desc := "()V" } : Jvm.MethodName)) ∈ lw_all := lw_g (lw_at lw_m0 8 rfl) rfl
theorem q26 : (Jvm.Cond.fieldLink "RoundCores" (9 : Nat) "RoundCores" "in" "[I") ∈ lw_all := lw_g (lw_at lw_m0 11 rfl) rfl
theorem q27 : (Jvm.Cond.fieldLink "RoundCores" (13 : Nat) "RoundCores" "out" "[I") ∈ lw_all := lw_g (lw_at lw_m0 12 rfl) rfl
theorem q28 : (Jvm.Cond.fieldLink "RoundCores" (16 : Nat) "RoundCores" "key" "[I") ∈ lw_all := lw_g (lw_at lw_m0 13 rfl) rfl
theorem q29 : (Jvm.Cond.fieldLink "RoundCores" (19 : Nat) "RoundCores" "state" "[I") ∈ lw_all := lw_g (lw_at lw_m0 14 rfl) rfl
theorem q30 : (Jvm.Cond.fieldLink "RoundCores" (92 : Nat) "RoundCores" "on" "Z") ∈ lw_all := lw_g (lw_at lw_m0 15 rfl) rfl
theorem q31 : (Jvm.Cond.fieldLink "RoundCores" (22 : Nat) "RoundCores" "kept" "[B") ∈ lw_all := lw_g (lw_at lw_m0 16 rfl) rfl
theorem q32 : (Jvm.Cond.fieldLink "RoundCores" (26 : Nat) "RoundCores" "row" "[J") ∈ lw_all := lw_g (lw_at lw_m0 17 rfl) rfl
theorem q33 : (Jvm.Cond.laysFinal "RoundCores" "RoundCores" "in" "[I") ∈ lw_all := lw_g (lw_at lw_m0 18 rfl) rfl
theorem q34 : (Jvm.Cond.soleField "RoundCores" "in") ∈ lw_all := lw_g (lw_at lw_m0 19 rfl) rfl
theorem q35 : (Jvm.Cond.laysFinal "RoundCores" "RoundCores" "out" "[I") ∈ lw_all := lw_g (lw_at lw_m0 20 rfl) rfl
theorem q36 : (Jvm.Cond.soleField "RoundCores" "out") ∈ lw_all := lw_g (lw_at lw_m0 21 rfl) rfl
theorem q37 : (Jvm.Cond.laysFinal "RoundCores" "RoundCores" "key" "[I") ∈ lw_all := lw_g (lw_at lw_m0 22 rfl) rfl
theorem q38 : (Jvm.Cond.soleField "RoundCores" "key") ∈ lw_all := lw_g (lw_at lw_m0 23 rfl) rfl
theorem q39 : (Jvm.Cond.laysFinal "RoundCores" "RoundCores" "state" "[I") ∈ lw_all := lw_g (lw_at lw_m0 24 rfl) rfl
theorem q40 : (Jvm.Cond.soleField "RoundCores" "state") ∈ lw_all := lw_g (lw_at lw_m0 25 rfl) rfl
theorem q41 : (Jvm.Cond.lays "RoundCores" "RoundCores" "on" "Z") ∈ lw_all := lw_g (lw_at lw_m0 26 rfl) rfl
theorem q42 : (Jvm.Cond.soleField "RoundCores" "on") ∈ lw_all := lw_g (lw_at lw_m0 27 rfl) rfl
theorem q43 : (Jvm.Cond.laysFinal "RoundCores" "RoundCores" "kept" "[B") ∈ lw_all := lw_g (lw_at lw_m0 28 rfl) rfl
theorem q44 : (Jvm.Cond.soleField "RoundCores" "kept") ∈ lw_all := lw_g (lw_at lw_m0 29 rfl) rfl
theorem q45 : (Jvm.Cond.laysFinal "RoundCores" "RoundCores" "row" "[J") ∈ lw_all := lw_g (lw_at lw_m0 30 rfl) rfl
theorem q46 : (Jvm.Cond.soleField "RoundCores" "row") ∈ lw_all := lw_g (lw_at lw_m0 31 rfl) rfl
theorem q47 : (Jvm.Cond.superclass "RoundCores" "java/lang/Object") ∈ lw_all := lw_g (lw_at lw_m0 32 rfl) rfl
theorem q52 : (Jvm.Cond.instanceMethod ({ cls := "RoundCores", name := "put", desc := "(IIIII)V" } : Jvm.MethodName)) ∈ lw_all := lw_g (lw_at lw_m0 37 rfl) rfl
theorem q53 : (Jvm.Cond.selects "RoundCores" ({ cls := "RoundCores", name := "put", desc := "(IIIII)V" } : Jvm.MethodName) ({ cls := "RoundCores", name := "put", desc := "(IIIII)V" } : Jvm.MethodName)) ∈ lw_all := lw_g (lw_at lw_m0 38 rfl) rfl
theorem q54 : (Jvm.Cond.code ({ cls := "RoundCores", name := "put", desc := "(IIIII)V" } : Jvm.MethodName) prog_1_method_16_code (7 : Nat) (Option.none : Option Jvm.ClassFile.FieldType)) ∈ lw_all := lw_g (lw_at lw_m0 39 rfl) rfl
theorem q56 : (Jvm.Cond.instanceMethod ({ cls := "RoundCores", name := "salsa", desc := "(I)V" } : Jvm.MethodName)) ∈ lw_all := lw_g (lw_at lw_m0 41 rfl) rfl
theorem q57 : (Jvm.Cond.selects "RoundCores" ({ cls := "RoundCores", name := "salsa", desc := "(I)V" } : Jvm.MethodName) ({ cls := "RoundCores", name := "salsa", desc := "(I)V" } : Jvm.MethodName)) ∈ lw_all := lw_g (lw_at lw_m0 42 rfl) rfl
theorem q58 : (Jvm.Cond.code ({ cls := "RoundCores", name := "salsa", desc := "(I)V" } : Jvm.MethodName) prog_1_method_17_code (2 : Nat) (Option.none : Option Jvm.ClassFile.FieldType)) ∈ lw_all := lw_g (lw_at lw_m0 43 rfl) rfl
theorem q59 : (Jvm.Cond.methodLink "RoundCores" (81 : Nat) ({ cls := "RoundCores", name := "mixA", desc := "([II)V" } : Jvm.MethodName)) ∈ lw_all := lw_g (lw_at lw_m0 44 rfl) rfl
theorem q60 : (Jvm.Cond.privateMethod ({ cls := "RoundCores", name := "mixA", desc := "([II)V" } : Jvm.MethodName)) ∈ lw_tbl := lw_at lw_m0 45 rfl
theorem q61 : (Jvm.Cond.instanceMethod ({ cls := "RoundCores", name := "mixA", desc := "([II)V" } : Jvm.MethodName)) ∈ lw_all := lw_g (lw_at lw_m0 46 rfl) rfl
theorem q62 : (Jvm.Cond.code ({ cls := "RoundCores", name := "mixA", desc := "([II)V" } : Jvm.MethodName) prog_1_method_13_code (4 : Nat) (Option.none : Option Jvm.ClassFile.FieldType)) ∈ lw_all := lw_g (lw_at lw_m0 47 rfl) rfl
theorem q63 : (Jvm.Cond.methodLink "RoundCores" (57 : Nat) ({ cls := "RoundCores", name := "lay", desc := "(IIIII)V" } : Jvm.MethodName)) ∈ lw_all := lw_g (lw_at lw_m0 48 rfl) rfl
theorem q64 : (Jvm.Cond.privateMethod ({ cls := "RoundCores", name := "lay", desc := "(IIIII)V" } : Jvm.MethodName)) ∈ lw_tbl := lw_at lw_m0 49 rfl
theorem q65 : (Jvm.Cond.instanceMethod ({ cls := "RoundCores", name := "lay", desc := "(IIIII)V" } : Jvm.MethodName)) ∈ lw_all := lw_g (lw_at lw_m0 50 rfl) rfl
theorem q66 : (Jvm.Cond.code ({ cls := "RoundCores", name := "lay", desc := "(IIIII)V" } : Jvm.MethodName) prog_1_method_5_code (6 : Nat) (Option.none : Option Jvm.ClassFile.FieldType)) ∈ lw_all := lw_g (lw_at lw_m0 51 rfl) rfl
theorem q67 : (Jvm.Cond.methodLink "RoundCores" (38 : Nat) ({ cls := "RoundCores", name := "both", desc := "(II)J" } : Jvm.MethodName)) ∈ lw_all := lw_g (lw_at lw_m0 52 rfl) rfl
theorem q68 : (Jvm.Cond.static ({ cls := "RoundCores", name := "both", desc := "(II)J" } : Jvm.MethodName)) ∈ lw_all := lw_g (lw_at lw_m0 53 rfl) rfl
theorem q69 : (Jvm.Cond.code ({ cls := "RoundCores", name := "both", desc := "(II)J" } : Jvm.MethodName) prog_1_method_4_code (2 : Nat) (Option.some Jvm.ClassFile.FieldType.long)) ∈ lw_all := lw_g (lw_at lw_m0 54 rfl) rfl
theorem q70 : (Jvm.Cond.constantLong "RoundCores" (36 : Nat) (4294967295 : Int64)) ∈ lw_all := lw_g (lw_at lw_m0 55 rfl) rfl
theorem q71 : (Jvm.Cond.methodLink "RoundCores" (61 : Nat) ({ cls := "RoundCores", name := "crossAll", desc := "()V" } : Jvm.MethodName)) ∈ lw_all := lw_g (lw_at lw_m0 56 rfl) rfl
theorem q72 : (Jvm.Cond.privateMethod ({ cls := "RoundCores", name := "crossAll", desc := "()V" } : Jvm.MethodName)) ∈ lw_tbl := lw_at lw_m0 57 rfl
theorem q73 : (Jvm.Cond.instanceMethod ({ cls := "RoundCores", name := "crossAll", desc := "()V" } : Jvm.MethodName)) ∈ lw_all := lw_g (lw_at lw_m0 58 rfl) rfl
theorem q74 : (Jvm.Cond.code ({ cls := "RoundCores", name := "crossAll", desc := "()V" } : Jvm.MethodName) prog_1_method_10_code (1 : Nat) (Option.none : Option Jvm.ClassFile.FieldType)) ∈ lw_all := lw_g (lw_at lw_m0 59 rfl) rfl
theorem q75 : (Jvm.Cond.methodLink "RoundCores" (50 : Nat) ({ cls := "RoundCores", name := "cross", desc := "(IIII)V" } : Jvm.MethodName)) ∈ lw_all := lw_g (lw_at lw_m0 60 rfl) rfl
theorem q76 : (Jvm.Cond.privateMethod ({ cls := "RoundCores", name := "cross", desc := "(IIII)V" } : Jvm.MethodName)) ∈ lw_tbl := lw_at lw_m0 61 rfl
theorem q77 : (Jvm.Cond.instanceMethod ({ cls := "RoundCores", name := "cross", desc := "(IIII)V" } : Jvm.MethodName)) ∈ lw_all := lw_g (lw_at lw_m0 62 rfl) rfl
theorem q78 : (Jvm.Cond.code ({ cls := "RoundCores", name := "cross", desc := "(IIII)V" } : Jvm.MethodName) prog_1_method_9_code (6 : Nat) (Option.none : Option Jvm.ClassFile.FieldType)) ∈ lw_all := lw_g (lw_at lw_m0 63 rfl) rfl
theorem q79 : (Jvm.Cond.methodLink "RoundCores" (42 : Nat) ({ cls := "RoundCores", name := "plus", desc := "(JJ)J" } : Jvm.MethodName)) ∈ lw_all := lw_g (lw_at lw_m0 64 rfl) rfl
theorem q80 : (Jvm.Cond.static ({ cls := "RoundCores", name := "plus", desc := "(JJ)J" } : Jvm.MethodName)) ∈ lw_all := lw_g (lw_at lw_m0 65 rfl) rfl
theorem q81 : (Jvm.Cond.code ({ cls := "RoundCores", name := "plus", desc := "(JJ)J" } : Jvm.MethodName) prog_1_method_2_code (4 : Nat) (Option.some Jvm.ClassFile.FieldType.long)) ∈ lw_all := lw_g (lw_at lw_m0 66 rfl) rfl
theorem q82 : (Jvm.Cond.constantLong "RoundCores" (30 : Nat) (9223372034707292159 : Int64)) ∈ lw_all := lw_g (lw_at lw_m0 67 rfl) rfl
theorem q83 : (Jvm.Cond.constantLong "RoundCores" (32 : Nat) (-9223372034707292160 : Int64)) ∈ lw_all := lw_g (lw_at lw_m0 68 rfl) rfl
theorem q84 : (Jvm.Cond.methodLink "RoundCores" (46 : Nat) ({ cls := "RoundCores", name := "turned", desc := "(JI)J" } : Jvm.MethodName)) ∈ lw_all := lw_g (lw_at lw_m0 69 rfl) rfl
theorem q85 : (Jvm.Cond.static ({ cls := "RoundCores", name := "turned", desc := "(JI)J" } : Jvm.MethodName)) ∈ lw_all := lw_g (lw_at lw_m0 70 rfl) rfl
theorem q86 : (Jvm.Cond.code ({ cls := "RoundCores", name := "turned", desc := "(JI)J" } : Jvm.MethodName) prog_1_method_3_code (5 : Nat) (Option.some Jvm.ClassFile.FieldType.long)) ∈ lw_all := lw_g (lw_at lw_m0 71 rfl) rfl
theorem q87 : (Jvm.Cond.constantLong "RoundCores" (34 : Nat) (-1 : Int64)) ∈ lw_all := lw_g (lw_at lw_m0 72 rfl) rfl
theorem q88 : (Jvm.Cond.methodLink "RoundCores" (64 : Nat) ({ cls := "RoundCores", name := "acrossA", desc := "()V" } : Jvm.MethodName)) ∈ lw_all := lw_g (lw_at lw_m0 73 rfl) rfl
theorem q89 : (Jvm.Cond.privateMethod ({ cls := "RoundCores", name := "acrossA", desc := "()V" } : Jvm.MethodName)) ∈ lw_tbl := lw_at lw_m0 74 rfl
theorem q90 : (Jvm.Cond.instanceMethod ({ cls := "RoundCores", name := "acrossA", desc := "()V" } : Jvm.MethodName)) ∈ lw_all := lw_g (lw_at lw_m0 75 rfl) rfl
theorem q91 : (Jvm.Cond.code ({ cls := "RoundCores", name := "acrossA", desc := "()V" } : Jvm.MethodName) prog_1_method_14_code (1 : Nat) (Option.none : Option Jvm.ClassFile.FieldType)) ∈ lw_all := lw_g (lw_at lw_m0 76 rfl) rfl
theorem q92 : (Jvm.Cond.methodLink "RoundCores" (71 : Nat) ({ cls := "RoundCores", name := "shift", desc := "(II)V" } : Jvm.MethodName)) ∈ lw_all := lw_g (lw_at lw_m0 77 rfl) rfl
theorem q93 : (Jvm.Cond.privateMethod ({ cls := "RoundCores", name := "shift", desc := "(II)V" } : Jvm.MethodName)) ∈ lw_tbl := lw_at lw_m0 78 rfl
theorem q94 : (Jvm.Cond.instanceMethod ({ cls := "RoundCores", name := "shift", desc := "(II)V" } : Jvm.MethodName)) ∈ lw_all := lw_g (lw_at lw_m0 79 rfl) rfl
theorem q95 : (Jvm.Cond.code ({ cls := "RoundCores", name := "shift", desc := "(II)V" } : Jvm.MethodName) prog_1_method_7_code (9 : Nat) (Option.none : Option Jvm.ClassFile.FieldType)) ∈ lw_all := lw_g (lw_at lw_m0 80 rfl) rfl
theorem q96 : (Jvm.Cond.methodLink "RoundCores" (75 : Nat) ({ cls := "RoundCores", name := "change", desc := "(II)V" } : Jvm.MethodName)) ∈ lw_all := lw_g (lw_at lw_m0 81 rfl) rfl
theorem q97 : (Jvm.Cond.privateMethod ({ cls := "RoundCores", name := "change", desc := "(II)V" } : Jvm.MethodName)) ∈ lw_tbl := lw_at lw_m0 82 rfl
theorem q98 : (Jvm.Cond.instanceMethod ({ cls := "RoundCores", name := "change", desc := "(II)V" } : Jvm.MethodName)) ∈ lw_all := lw_g (lw_at lw_m0 83 rfl) rfl
theorem q99 : (Jvm.Cond.code ({ cls := "RoundCores", name := "change", desc := "(II)V" } : Jvm.MethodName) prog_1_method_8_code (6 : Nat) (Option.none : Option Jvm.ClassFile.FieldType)) ∈ lw_all := lw_g (lw_at lw_m0 84 rfl) rfl
theorem q100 : (Jvm.Cond.methodLink "RoundCores" (67 : Nat) ({ cls := "RoundCores", name := "word", desc := "(II)I" } : Jvm.MethodName)) ∈ lw_all := lw_g (lw_at lw_m0 85 rfl) rfl
theorem q101 : (Jvm.Cond.privateMethod ({ cls := "RoundCores", name := "word", desc := "(II)I" } : Jvm.MethodName)) ∈ lw_tbl := lw_at lw_m0 86 rfl
theorem q102 : (Jvm.Cond.instanceMethod ({ cls := "RoundCores", name := "word", desc := "(II)I" } : Jvm.MethodName)) ∈ lw_all := lw_g (lw_at lw_m0 87 rfl) rfl
theorem q103 : (Jvm.Cond.code ({ cls := "RoundCores", name := "word", desc := "(II)I" } : Jvm.MethodName) prog_1_method_6_code (3 : Nat) (Option.some Jvm.ClassFile.FieldType.int)) ∈ lw_all := lw_g (lw_at lw_m0 88 rfl) rfl
theorem q105 : (Jvm.Cond.instanceMethod ({ cls := "RoundCores", name := "chacha", desc := "(I)V" } : Jvm.MethodName)) ∈ lw_all := lw_g (lw_at lw_m0 90 rfl) rfl
theorem q106 : (Jvm.Cond.selects "RoundCores" ({ cls := "RoundCores", name := "chacha", desc := "(I)V" } : Jvm.MethodName) ({ cls := "RoundCores", name := "chacha", desc := "(I)V" } : Jvm.MethodName)) ∈ lw_all := lw_g (lw_at lw_m0 91 rfl) rfl
theorem q107 : (Jvm.Cond.code ({ cls := "RoundCores", name := "chacha", desc := "(I)V" } : Jvm.MethodName) prog_1_method_18_code (3 : Nat) (Option.none : Option Jvm.ClassFile.FieldType)) ∈ lw_all := lw_g (lw_at lw_m0 92 rfl) rfl
theorem q108 : (Jvm.Cond.methodLink "RoundCores" (85 : Nat) ({ cls := "RoundCores", name := "mixB", desc := "([II)V" } : Jvm.MethodName)) ∈ lw_all := lw_g (lw_at lw_m0 93 rfl) rfl
theorem q109 : (Jvm.Cond.privateMethod ({ cls := "RoundCores", name := "mixB", desc := "([II)V" } : Jvm.MethodName)) ∈ lw_tbl := lw_at lw_m0 94 rfl
theorem q110 : (Jvm.Cond.instanceMethod ({ cls := "RoundCores", name := "mixB", desc := "([II)V" } : Jvm.MethodName)) ∈ lw_all := lw_g (lw_at lw_m0 95 rfl) rfl
theorem q111 : (Jvm.Cond.code ({ cls := "RoundCores", name := "mixB", desc := "([II)V" } : Jvm.MethodName) prog_1_method_15_code (5 : Nat) (Option.none : Option Jvm.ClassFile.FieldType)) ∈ lw_all := lw_g (lw_at lw_m0 96 rfl) rfl
theorem q112 : (Jvm.Cond.methodLink "RoundCores" (78 : Nat) ({ cls := "RoundCores", name := "quarterAll", desc := "()V" } : Jvm.MethodName)) ∈ lw_all := lw_g (lw_at lw_m0 97 rfl) rfl
theorem q113 : (Jvm.Cond.privateMethod ({ cls := "RoundCores", name := "quarterAll", desc := "()V" } : Jvm.MethodName)) ∈ lw_tbl := lw_at lw_m0 98 rfl
theorem q114 : (Jvm.Cond.instanceMethod ({ cls := "RoundCores", name := "quarterAll", desc := "()V" } : Jvm.MethodName)) ∈ lw_all := lw_g (lw_at lw_m0 99 rfl) rfl
theorem q115 : (Jvm.Cond.code ({ cls := "RoundCores", name := "quarterAll", desc := "()V" } : Jvm.MethodName) prog_1_method_12_code (1 : Nat) (Option.none : Option Jvm.ClassFile.FieldType)) ∈ lw_all := lw_g (lw_at lw_m0 100 rfl) rfl
theorem q116 : (Jvm.Cond.methodLink "RoundCores" (54 : Nat) ({ cls := "RoundCores", name := "quarter", desc := "(IIII)V" } : Jvm.MethodName)) ∈ lw_all := lw_g (lw_at lw_m0 101 rfl) rfl
theorem q117 : (Jvm.Cond.privateMethod ({ cls := "RoundCores", name := "quarter", desc := "(IIII)V" } : Jvm.MethodName)) ∈ lw_tbl := lw_at lw_m0 102 rfl
theorem q118 : (Jvm.Cond.instanceMethod ({ cls := "RoundCores", name := "quarter", desc := "(IIII)V" } : Jvm.MethodName)) ∈ lw_all := lw_g (lw_at lw_m0 103 rfl) rfl
theorem q119 : (Jvm.Cond.code ({ cls := "RoundCores", name := "quarter", desc := "(IIII)V" } : Jvm.MethodName) prog_1_method_11_code (6 : Nat) (Option.none : Option Jvm.ClassFile.FieldType)) ∈ lw_all := lw_g (lw_at lw_m0 104 rfl) rfl
theorem q121 : (Jvm.Cond.instanceMethod ({ cls := "RoundCores", name := "again", desc := "()V" } : Jvm.MethodName)) ∈ lw_all := lw_g (lw_at lw_m0 106 rfl) rfl
theorem q122 : (Jvm.Cond.selects "RoundCores" ({ cls := "RoundCores", name := "again", desc := "()V" } : Jvm.MethodName) ({ cls := "RoundCores", name := "again", desc := "()V" } : Jvm.MethodName)) ∈ lw_all := lw_g (lw_at lw_m0 107 rfl) rfl
theorem q123 : (Jvm.Cond.code ({ cls := "RoundCores", name := "again", desc := "()V" } : Jvm.MethodName) prog_1_method_19_code (2 : Nat) (Option.none : Option Jvm.ClassFile.FieldType)) ∈ lw_all := lw_g (lw_at lw_m0 108 rfl) rfl
theorem q125 : (Jvm.Cond.instanceMethod ({ cls := "RoundCores", name := "out", desc := "(I)I" } : Jvm.MethodName)) ∈ lw_all := lw_g (lw_at lw_m0 110 rfl) rfl
theorem q126 : (Jvm.Cond.selects "RoundCores" ({ cls := "RoundCores", name := "out", desc := "(I)I" } : Jvm.MethodName) ({ cls := "RoundCores", name := "out", desc := "(I)I" } : Jvm.MethodName)) ∈ lw_all := lw_g (lw_at lw_m0 111 rfl) rfl
theorem q127 : (Jvm.Cond.code ({ cls := "RoundCores", name := "out", desc := "(I)I" } : Jvm.MethodName) prog_1_method_20_code (2 : Nat) (Option.some Jvm.ClassFile.FieldType.int)) ∈ lw_all := lw_g (lw_at lw_m0 112 rfl) rfl
theorem q129 : (Jvm.Cond.instanceMethod ({ cls := "RoundCores", name := "key", desc := "(IIIII)V" } : Jvm.MethodName)) ∈ lw_all := lw_g (lw_at lw_m0 114 rfl) rfl
theorem q130 : (Jvm.Cond.selects "RoundCores" ({ cls := "RoundCores", name := "key", desc := "(IIIII)V" } : Jvm.MethodName) ({ cls := "RoundCores", name := "key", desc := "(IIIII)V" } : Jvm.MethodName)) ∈ lw_all := lw_g (lw_at lw_m0 115 rfl) rfl
theorem q131 : (Jvm.Cond.code ({ cls := "RoundCores", name := "key", desc := "(IIIII)V" } : Jvm.MethodName) prog_1_method_21_code (7 : Nat) (Option.none : Option Jvm.ClassFile.FieldType)) ∈ lw_all := lw_g (lw_at lw_m0 116 rfl) rfl
theorem q133 : (Jvm.Cond.instanceMethod ({ cls := "RoundCores", name := "nonce", desc := "(III)V" } : Jvm.MethodName)) ∈ lw_all := lw_g (lw_at lw_m0 118 rfl) rfl
theorem q134 : (Jvm.Cond.selects "RoundCores" ({ cls := "RoundCores", name := "nonce", desc := "(III)V" } : Jvm.MethodName) ({ cls := "RoundCores", name := "nonce", desc := "(III)V" } : Jvm.MethodName)) ∈ lw_all := lw_g (lw_at lw_m0 119 rfl) rfl
theorem q135 : (Jvm.Cond.code ({ cls := "RoundCores", name := "nonce", desc := "(III)V" } : Jvm.MethodName) prog_1_method_22_code (5 : Nat) (Option.none : Option Jvm.ClassFile.FieldType)) ∈ lw_all := lw_g (lw_at lw_m0 120 rfl) rfl
theorem q136 : (Jvm.Cond.constant "RoundCores" (88 : Nat) (1634760805 : Int32)) ∈ lw_all := lw_g (lw_at lw_m0 121 rfl) rfl
theorem q137 : (Jvm.Cond.constant "RoundCores" (89 : Nat) (857760878 : Int32)) ∈ lw_all := lw_g (lw_at lw_m0 122 rfl) rfl
theorem q138 : (Jvm.Cond.constant "RoundCores" (90 : Nat) (2036477234 : Int32)) ∈ lw_all := lw_g (lw_at lw_m0 123 rfl) rfl
theorem q139 : (Jvm.Cond.constant "RoundCores" (91 : Nat) (1797285236 : Int32)) ∈ lw_all := lw_g (lw_at lw_m0 124 rfl) rfl
theorem q141 : (Jvm.Cond.instanceMethod ({ cls := "RoundCores", name := "block", desc := "()Z" } : Jvm.MethodName)) ∈ lw_all := lw_g (lw_at lw_m0 126 rfl) rfl
theorem q142 : (Jvm.Cond.selects "RoundCores" ({ cls := "RoundCores", name := "block", desc := "()Z" } : Jvm.MethodName) ({ cls := "RoundCores", name := "block", desc := "()Z" } : Jvm.MethodName)) ∈ lw_all := lw_g (lw_at lw_m0 127 rfl) rfl
theorem q143 : (Jvm.Cond.code ({ cls := "RoundCores", name := "block", desc := "()Z" } : Jvm.MethodName) prog_1_method_23_code (4 : Nat) (Option.some Jvm.ClassFile.FieldType.boolean)) ∈ lw_all := lw_g (lw_at lw_m0 128 rfl) rfl
theorem q145 : (Jvm.Cond.instanceMethod ({ cls := "RoundCores", name := "stream", desc := "(I)I" } : Jvm.MethodName)) ∈ lw_all := lw_g (lw_at lw_m0 130 rfl) rfl
theorem q146 : (Jvm.Cond.selects "RoundCores" ({ cls := "RoundCores", name := "stream", desc := "(I)I" } : Jvm.MethodName) ({ cls := "RoundCores", name := "stream", desc := "(I)I" } : Jvm.MethodName)) ∈ lw_all := lw_g (lw_at lw_m0 131 rfl) rfl
theorem q147 : (Jvm.Cond.code ({ cls := "RoundCores", name := "stream", desc := "(I)I" } : Jvm.MethodName) prog_1_method_24_code (2 : Nat) (Option.some Jvm.ClassFile.FieldType.int)) ∈ lw_all := lw_g (lw_at lw_m0 132 rfl) rfl
theorem in_X0 : ∀ w ∈ wsX00, w ∈ lw_all := lw_in wsX00 [33, 35, 37, 39, 41, 43, 45] (by decide +kernel) (by decide +kernel)

/-! RoundCoresModel -/
def RX1 : String := "RoundCoresModel"
def TX1 : u_T := fun k => match k with
  | 0 => ("RoundCoresModel", "in", "[I", true)
  | 1 => ("RoundCoresModel", "out", "[I", true)
  | 2 => ("RoundCoresModel", "x", "[I", true)
  | 3 => ("RoundCoresModel", "s", "[I", true)
  | 4 => ("RoundCoresModel", "key", "[I", true)
  | 5 => ("RoundCoresModel", "state", "[I", true)
  | 6 => ("RoundCoresModel", "stream", "[I", true)
  | _ => ("RoundCoresModel", "set", "Z", false)
def tyX1 : Nat → FieldType := fun k => match k with
  | 0 => .array .int
  | 1 => .array .int
  | 2 => .array .int
  | 3 => .array .int
  | 4 => .array .int
  | 5 => .array .int
  | 6 => .array .int
  | _ => .boolean
abbrev wsX10 : List Cond := u_ws RX1 TX1 8
theorem nmX1 : ∀ a, a < 8 → ∀ b, b < 8 → a ≠ b → (TX1 a).2.1 ≠ (TX1 b).2.1 := by decide +kernel
theorem tyX1_ok : ∀ k, k < 8 → parseFieldDescriptor (TX1 k).2.2.1 = some (tyX1 k) := by decide +kernel
abbrev cX1_init : ByteArray := prog_3_method_1_code
def yX1_init : MethodName := ⟨RX1, "<init>", "()V"⟩
abbrev cX1_put : ByteArray := prog_3_method_2_code
def yX1_put : MethodName := ⟨RX1, "put", "(IIIII)V"⟩
abbrev cX1_salsa : ByteArray := prog_3_method_8_code
def yX1_salsa : MethodName := ⟨RX1, "salsa", "(I)V"⟩
abbrev cX1_turnIn : ByteArray := prog_3_method_7_code
def yX1_turnIn : MethodName := ⟨RX1, "turnIn", "(IZ)V"⟩
abbrev cX1_core : ByteArray := prog_3_method_6_code
def yX1_core : MethodName := ⟨RX1, "core", "(IZ)V"⟩
abbrev cX1_salsaQuarter : ByteArray := prog_3_method_5_code
def yX1_salsaQuarter : MethodName := ⟨RX1, "salsaQuarter", "(IIII)V"⟩
abbrev cX1_turn : ByteArray := prog_3_method_3_code
def yX1_turn : MethodName := ⟨RX1, "turn", "(II)I"⟩
abbrev cX1_quarter : ByteArray := prog_3_method_4_code
def yX1_quarter : MethodName := ⟨RX1, "quarter", "(IIII)V"⟩
abbrev cX1_chacha : ByteArray := prog_3_method_9_code
def yX1_chacha : MethodName := ⟨RX1, "chacha", "(I)V"⟩
abbrev cX1_again : ByteArray := prog_3_method_10_code
def yX1_again : MethodName := ⟨RX1, "again", "()V"⟩
abbrev cX1_out : ByteArray := prog_3_method_11_code
def yX1_out : MethodName := ⟨RX1, "out", "(I)I"⟩
abbrev cX1_key : ByteArray := prog_3_method_12_code
def yX1_key : MethodName := ⟨RX1, "key", "(IIIII)V"⟩
abbrev cX1_nonce : ByteArray := prog_3_method_13_code
def yX1_nonce : MethodName := ⟨RX1, "nonce", "(III)V"⟩
abbrev cX1_block : ByteArray := prog_3_method_14_code
def yX1_block : MethodName := ⟨RX1, "block", "()Z"⟩
abbrev cX1_stream : ByteArray := prog_3_method_15_code
def yX1_stream : MethodName := ⟨RX1, "stream", "(I)I"⟩
theorem q17 : (Jvm.Cond.initialized "RoundCoresModel") ∈ lw_all := lw_g (lw_at lw_m0 2 rfl) rfl
theorem q149 : (Jvm.Cond.instantiable "RoundCoresModel" (8 : Nat)) ∈ lw_all := lw_g (lw_at lw_m0 134 rfl) rfl
theorem q151 : (Jvm.Cond.instanceMethod ({ cls := "RoundCoresModel", name := "<init>", desc := "()V" } : Jvm.MethodName)) ∈ lw_all := lw_g (lw_at lw_m0 136 rfl) rfl
theorem q152 : (Jvm.Cond.code ({ cls := "RoundCoresModel", name := "<init>", desc := "()V" } : Jvm.MethodName) prog_3_method_1_code (1 : Nat) (Option.none : Option Jvm.ClassFile.FieldType)) ∈ lw_all := lw_g (lw_at lw_m0 137 rfl) rfl
theorem q153 : (Jvm.Cond.methodLink "RoundCoresModel" (1 : Nat) ({ cls := "java/lang/Object", name := "<init>", desc := "()V" } : Jvm.MethodName)) ∈ lw_all := lw_g (lw_at lw_m0 138 rfl) rfl
theorem q154 : (Jvm.Cond.fieldLink "RoundCoresModel" (7 : Nat) "RoundCoresModel" "in" "[I") ∈ lw_all := lw_g (lw_at lw_m0 139 rfl) rfl
theorem q155 : (Jvm.Cond.fieldLink "RoundCoresModel" (13 : Nat) "RoundCoresModel" "out" "[I") ∈ lw_all := lw_g (lw_at lw_m0 140 rfl) rfl
theorem q156 : (Jvm.Cond.fieldLink "RoundCoresModel" (16 : Nat) "RoundCoresModel" "x" "[I") ∈ lw_all := lw_g (lw_at lw_m0 141 rfl) rfl
theorem q157 : (Jvm.Cond.fieldLink "RoundCoresModel" (19 : Nat) "RoundCoresModel" "s" "[I") ∈ lw_all := lw_g (lw_at lw_m0 142 rfl) rfl
theorem q158 : (Jvm.Cond.fieldLink "RoundCoresModel" (22 : Nat) "RoundCoresModel" "key" "[I") ∈ lw_all := lw_g (lw_at lw_m0 143 rfl) rfl
theorem q159 : (Jvm.Cond.fieldLink "RoundCoresModel" (25 : Nat) "RoundCoresModel" "state" "[I") ∈ lw_all := lw_g (lw_at lw_m0 144 rfl) rfl
theorem q160 : (Jvm.Cond.fieldLink "RoundCoresModel" (28 : Nat) "RoundCoresModel" "stream" "[I") ∈ lw_all := lw_g (lw_at lw_m0 145 rfl) rfl
theorem q161 : (Jvm.Cond.fieldLink "RoundCoresModel" (53 : Nat) "RoundCoresModel" "set" "Z") ∈ lw_all := lw_g (lw_at lw_m0 146 rfl) rfl
theorem q162 : (Jvm.Cond.laysFinal "RoundCoresModel" "RoundCoresModel" "in" "[I") ∈ lw_all := lw_g (lw_at lw_m0 147 rfl) rfl
theorem q163 : (Jvm.Cond.soleField "RoundCoresModel" "in") ∈ lw_all := lw_g (lw_at lw_m0 148 rfl) rfl
theorem q164 : (Jvm.Cond.laysFinal "RoundCoresModel" "RoundCoresModel" "out" "[I") ∈ lw_all := lw_g (lw_at lw_m0 149 rfl) rfl
theorem q165 : (Jvm.Cond.soleField "RoundCoresModel" "out") ∈ lw_all := lw_g (lw_at lw_m0 150 rfl) rfl
theorem q166 : (Jvm.Cond.laysFinal "RoundCoresModel" "RoundCoresModel" "x" "[I") ∈ lw_all := lw_g (lw_at lw_m0 151 rfl) rfl
theorem q167 : (Jvm.Cond.soleField "RoundCoresModel" "x") ∈ lw_all := lw_g (lw_at lw_m0 152 rfl) rfl
theorem q168 : (Jvm.Cond.laysFinal "RoundCoresModel" "RoundCoresModel" "s" "[I") ∈ lw_all := lw_g (lw_at lw_m0 153 rfl) rfl
theorem q169 : (Jvm.Cond.soleField "RoundCoresModel" "s") ∈ lw_all := lw_g (lw_at lw_m0 154 rfl) rfl
theorem q170 : (Jvm.Cond.laysFinal "RoundCoresModel" "RoundCoresModel" "key" "[I") ∈ lw_all := lw_g (lw_at lw_m0 155 rfl) rfl
theorem q171 : (Jvm.Cond.soleField "RoundCoresModel" "key") ∈ lw_all := lw_g (lw_at lw_m0 156 rfl) rfl
theorem q172 : (Jvm.Cond.laysFinal "RoundCoresModel" "RoundCoresModel" "state" "[I") ∈ lw_all := lw_g (lw_at lw_m0 157 rfl) rfl
theorem q173 : (Jvm.Cond.soleField "RoundCoresModel" "state") ∈ lw_all := lw_g (lw_at lw_m0 158 rfl) rfl
theorem q174 : (Jvm.Cond.laysFinal "RoundCoresModel" "RoundCoresModel" "stream" "[I") ∈ lw_all := lw_g (lw_at lw_m0 159 rfl) rfl
theorem q175 : (Jvm.Cond.soleField "RoundCoresModel" "stream") ∈ lw_all := lw_g (lw_at lw_m0 160 rfl) rfl
theorem q176 : (Jvm.Cond.lays "RoundCoresModel" "RoundCoresModel" "set" "Z") ∈ lw_all := lw_g (lw_at lw_m0 161 rfl) rfl
theorem q177 : (Jvm.Cond.soleField "RoundCoresModel" "set") ∈ lw_all := lw_g (lw_at lw_m0 162 rfl) rfl
theorem q178 : (Jvm.Cond.superclass "RoundCoresModel" "java/lang/Object") ∈ lw_all := lw_g (lw_at lw_m0 163 rfl) rfl
theorem q180 : (Jvm.Cond.instanceMethod ({ cls := "RoundCoresModel", name := "put", desc := "(IIIII)V" } : Jvm.MethodName)) ∈ lw_all := lw_g (lw_at lw_m0 165 rfl) rfl
theorem q181 : (Jvm.Cond.selects "RoundCoresModel" ({ cls := "RoundCoresModel", name := "put", desc := "(IIIII)V" } : Jvm.MethodName) ({ cls := "RoundCoresModel", name := "put", desc := "(IIIII)V" } : Jvm.MethodName)) ∈ lw_all := lw_g (lw_at lw_m0 166 rfl) rfl
theorem q182 : (Jvm.Cond.code ({ cls := "RoundCoresModel", name := "put", desc := "(IIIII)V" } : Jvm.MethodName) prog_3_method_2_code (7 : Nat) (Option.none : Option Jvm.ClassFile.FieldType)) ∈ lw_all := lw_g (lw_at lw_m0 167 rfl) rfl
theorem q184 : (Jvm.Cond.instanceMethod ({ cls := "RoundCoresModel", name := "salsa", desc := "(I)V" } : Jvm.MethodName)) ∈ lw_all := lw_g (lw_at lw_m0 169 rfl) rfl
theorem q185 : (Jvm.Cond.selects "RoundCoresModel" ({ cls := "RoundCoresModel", name := "salsa", desc := "(I)V" } : Jvm.MethodName) ({ cls := "RoundCoresModel", name := "salsa", desc := "(I)V" } : Jvm.MethodName)) ∈ lw_all := lw_g (lw_at lw_m0 170 rfl) rfl
theorem q186 : (Jvm.Cond.code ({ cls := "RoundCoresModel", name := "salsa", desc := "(I)V" } : Jvm.MethodName) prog_3_method_8_code (2 : Nat) (Option.none : Option Jvm.ClassFile.FieldType)) ∈ lw_all := lw_g (lw_at lw_m0 171 rfl) rfl
theorem q187 : (Jvm.Cond.methodLink "RoundCoresModel" (46 : Nat) ({ cls := "RoundCoresModel", name := "turnIn", desc := "(IZ)V" } : Jvm.MethodName)) ∈ lw_all := lw_g (lw_at lw_m0 172 rfl) rfl
theorem q188 : (Jvm.Cond.privateMethod ({ cls := "RoundCoresModel", name := "turnIn", desc := "(IZ)V" } : Jvm.MethodName)) ∈ lw_tbl := lw_at lw_m0 173 rfl
theorem q189 : (Jvm.Cond.instanceMethod ({ cls := "RoundCoresModel", name := "turnIn", desc := "(IZ)V" } : Jvm.MethodName)) ∈ lw_all := lw_g (lw_at lw_m0 174 rfl) rfl
theorem q190 : (Jvm.Cond.code ({ cls := "RoundCoresModel", name := "turnIn", desc := "(IZ)V" } : Jvm.MethodName) prog_3_method_7_code (4 : Nat) (Option.none : Option Jvm.ClassFile.FieldType)) ∈ lw_all := lw_g (lw_at lw_m0 175 rfl) rfl
theorem q191 : (Jvm.Cond.methodLink "RoundCoresModel" (42 : Nat) ({ cls := "RoundCoresModel", name := "core", desc := "(IZ)V" } : Jvm.MethodName)) ∈ lw_all := lw_g (lw_at lw_m0 176 rfl) rfl
theorem q192 : (Jvm.Cond.privateMethod ({ cls := "RoundCoresModel", name := "core", desc := "(IZ)V" } : Jvm.MethodName)) ∈ lw_tbl := lw_at lw_m0 177 rfl
theorem q193 : (Jvm.Cond.instanceMethod ({ cls := "RoundCoresModel", name := "core", desc := "(IZ)V" } : Jvm.MethodName)) ∈ lw_all := lw_g (lw_at lw_m0 178 rfl) rfl
theorem q194 : (Jvm.Cond.code ({ cls := "RoundCoresModel", name := "core", desc := "(IZ)V" } : Jvm.MethodName) prog_3_method_6_code (5 : Nat) (Option.none : Option Jvm.ClassFile.FieldType)) ∈ lw_all := lw_g (lw_at lw_m0 179 rfl) rfl
theorem q195 : (Jvm.Cond.methodLink "RoundCoresModel" (35 : Nat) ({ cls := "RoundCoresModel", name := "salsaQuarter", desc := "(IIII)V" } : Jvm.MethodName)) ∈ lw_all := lw_g (lw_at lw_m0 180 rfl) rfl
theorem q196 : (Jvm.Cond.privateMethod ({ cls := "RoundCoresModel", name := "salsaQuarter", desc := "(IIII)V" } : Jvm.MethodName)) ∈ lw_tbl := lw_at lw_m0 181 rfl
theorem q197 : (Jvm.Cond.instanceMethod ({ cls := "RoundCoresModel", name := "salsaQuarter", desc := "(IIII)V" } : Jvm.MethodName)) ∈ lw_all := lw_g (lw_at lw_m0 182 rfl) rfl
theorem q198 : (Jvm.Cond.code ({ cls := "RoundCoresModel", name := "salsaQuarter", desc := "(IIII)V" } : Jvm.MethodName) prog_3_method_5_code (5 : Nat) (Option.none : Option Jvm.ClassFile.FieldType)) ∈ lw_all := lw_g (lw_at lw_m0 183 rfl) rfl
theorem q199 : (Jvm.Cond.methodLink "RoundCoresModel" (31 : Nat) ({ cls := "RoundCoresModel", name := "turn", desc := "(II)I" } : Jvm.MethodName)) ∈ lw_all := lw_g (lw_at lw_m0 184 rfl) rfl
theorem q200 : (Jvm.Cond.static ({ cls := "RoundCoresModel", name := "turn", desc := "(II)I" } : Jvm.MethodName)) ∈ lw_all := lw_g (lw_at lw_m0 185 rfl) rfl
theorem q201 : (Jvm.Cond.code ({ cls := "RoundCoresModel", name := "turn", desc := "(II)I" } : Jvm.MethodName) prog_3_method_3_code (2 : Nat) (Option.some Jvm.ClassFile.FieldType.int)) ∈ lw_all := lw_g (lw_at lw_m0 186 rfl) rfl
theorem q202 : (Jvm.Cond.methodLink "RoundCoresModel" (39 : Nat) ({ cls := "RoundCoresModel", name := "quarter", desc := "(IIII)V" } : Jvm.MethodName)) ∈ lw_all := lw_g (lw_at lw_m0 187 rfl) rfl
theorem q203 : (Jvm.Cond.privateMethod ({ cls := "RoundCoresModel", name := "quarter", desc := "(IIII)V" } : Jvm.MethodName)) ∈ lw_tbl := lw_at lw_m0 188 rfl
theorem q204 : (Jvm.Cond.instanceMethod ({ cls := "RoundCoresModel", name := "quarter", desc := "(IIII)V" } : Jvm.MethodName)) ∈ lw_all := lw_g (lw_at lw_m0 189 rfl) rfl
theorem q205 : (Jvm.Cond.code ({ cls := "RoundCoresModel", name := "quarter", desc := "(IIII)V" } : Jvm.MethodName) prog_3_method_4_code (5 : Nat) (Option.none : Option Jvm.ClassFile.FieldType)) ∈ lw_all := lw_g (lw_at lw_m0 190 rfl) rfl
theorem q207 : (Jvm.Cond.instanceMethod ({ cls := "RoundCoresModel", name := "chacha", desc := "(I)V" } : Jvm.MethodName)) ∈ lw_all := lw_g (lw_at lw_m0 192 rfl) rfl
theorem q208 : (Jvm.Cond.selects "RoundCoresModel" ({ cls := "RoundCoresModel", name := "chacha", desc := "(I)V" } : Jvm.MethodName) ({ cls := "RoundCoresModel", name := "chacha", desc := "(I)V" } : Jvm.MethodName)) ∈ lw_all := lw_g (lw_at lw_m0 193 rfl) rfl
theorem q209 : (Jvm.Cond.code ({ cls := "RoundCoresModel", name := "chacha", desc := "(I)V" } : Jvm.MethodName) prog_3_method_9_code (2 : Nat) (Option.none : Option Jvm.ClassFile.FieldType)) ∈ lw_all := lw_g (lw_at lw_m0 194 rfl) rfl
theorem q211 : (Jvm.Cond.instanceMethod ({ cls := "RoundCoresModel", name := "again", desc := "()V" } : Jvm.MethodName)) ∈ lw_all := lw_g (lw_at lw_m0 196 rfl) rfl
theorem q212 : (Jvm.Cond.selects "RoundCoresModel" ({ cls := "RoundCoresModel", name := "again", desc := "()V" } : Jvm.MethodName) ({ cls := "RoundCoresModel", name := "again", desc := "()V" } : Jvm.MethodName)) ∈ lw_all := lw_g (lw_at lw_m0 197 rfl) rfl
theorem q213 : (Jvm.Cond.code ({ cls := "RoundCoresModel", name := "again", desc := "()V" } : Jvm.MethodName) prog_3_method_10_code (2 : Nat) (Option.none : Option Jvm.ClassFile.FieldType)) ∈ lw_all := lw_g (lw_at lw_m0 198 rfl) rfl
theorem q215 : (Jvm.Cond.instanceMethod ({ cls := "RoundCoresModel", name := "out", desc := "(I)I" } : Jvm.MethodName)) ∈ lw_all := lw_g (lw_at lw_m0 200 rfl) rfl
theorem q216 : (Jvm.Cond.selects "RoundCoresModel" ({ cls := "RoundCoresModel", name := "out", desc := "(I)I" } : Jvm.MethodName) ({ cls := "RoundCoresModel", name := "out", desc := "(I)I" } : Jvm.MethodName)) ∈ lw_all := lw_g (lw_at lw_m0 201 rfl) rfl
theorem q217 : (Jvm.Cond.code ({ cls := "RoundCoresModel", name := "out", desc := "(I)I" } : Jvm.MethodName) prog_3_method_11_code (2 : Nat) (Option.some Jvm.ClassFile.FieldType.int)) ∈ lw_all := lw_g (lw_at lw_m0 202 rfl) rfl
theorem q219 : (Jvm.Cond.instanceMethod ({ cls := "RoundCoresModel", name := "key", desc := "(IIIII)V" } : Jvm.MethodName)) ∈ lw_all := lw_g (lw_at lw_m0 204 rfl) rfl
theorem q220 : (Jvm.Cond.selects "RoundCoresModel" ({ cls := "RoundCoresModel", name := "key", desc := "(IIIII)V" } : Jvm.MethodName) ({ cls := "RoundCoresModel", name := "key", desc := "(IIIII)V" } : Jvm.MethodName)) ∈ lw_all := lw_g (lw_at lw_m0 205 rfl) rfl
theorem q221 : (Jvm.Cond.code ({ cls := "RoundCoresModel", name := "key", desc := "(IIIII)V" } : Jvm.MethodName) prog_3_method_12_code (7 : Nat) (Option.none : Option Jvm.ClassFile.FieldType)) ∈ lw_all := lw_g (lw_at lw_m0 206 rfl) rfl
theorem q223 : (Jvm.Cond.instanceMethod ({ cls := "RoundCoresModel", name := "nonce", desc := "(III)V" } : Jvm.MethodName)) ∈ lw_all := lw_g (lw_at lw_m0 208 rfl) rfl
theorem q224 : (Jvm.Cond.selects "RoundCoresModel" ({ cls := "RoundCoresModel", name := "nonce", desc := "(III)V" } : Jvm.MethodName) ({ cls := "RoundCoresModel", name := "nonce", desc := "(III)V" } : Jvm.MethodName)) ∈ lw_all := lw_g (lw_at lw_m0 209 rfl) rfl
theorem q225 : (Jvm.Cond.code ({ cls := "RoundCoresModel", name := "nonce", desc := "(III)V" } : Jvm.MethodName) prog_3_method_13_code (5 : Nat) (Option.none : Option Jvm.ClassFile.FieldType)) ∈ lw_all := lw_g (lw_at lw_m0 210 rfl) rfl
theorem q226 : (Jvm.Cond.constant "RoundCoresModel" (49 : Nat) (1634760805 : Int32)) ∈ lw_all := lw_g (lw_at lw_m0 211 rfl) rfl
theorem q227 : (Jvm.Cond.constant "RoundCoresModel" (50 : Nat) (857760878 : Int32)) ∈ lw_all := lw_g (lw_at lw_m0 212 rfl) rfl
theorem q228 : (Jvm.Cond.constant "RoundCoresModel" (51 : Nat) (2036477234 : Int32)) ∈ lw_all := lw_g (lw_at lw_m0 213 rfl) rfl
theorem q229 : (Jvm.Cond.constant "RoundCoresModel" (52 : Nat) (1797285236 : Int32)) ∈ lw_all := lw_g (lw_at lw_m0 214 rfl) rfl
theorem q231 : (Jvm.Cond.instanceMethod ({ cls := "RoundCoresModel", name := "block", desc := "()Z" } : Jvm.MethodName)) ∈ lw_all := lw_g (lw_at lw_m0 216 rfl) rfl
theorem q232 : (Jvm.Cond.selects "RoundCoresModel" ({ cls := "RoundCoresModel", name := "block", desc := "()Z" } : Jvm.MethodName) ({ cls := "RoundCoresModel", name := "block", desc := "()Z" } : Jvm.MethodName)) ∈ lw_all := lw_g (lw_at lw_m0 217 rfl) rfl
theorem q233 : (Jvm.Cond.code ({ cls := "RoundCoresModel", name := "block", desc := "()Z" } : Jvm.MethodName) prog_3_method_14_code (2 : Nat) (Option.some Jvm.ClassFile.FieldType.boolean)) ∈ lw_all := lw_g (lw_at lw_m0 218 rfl) rfl
theorem q235 : (Jvm.Cond.instanceMethod ({ cls := "RoundCoresModel", name := "stream", desc := "(I)I" } : Jvm.MethodName)) ∈ lw_all := lw_g (lw_at lw_m0 220 rfl) rfl
theorem q236 : (Jvm.Cond.selects "RoundCoresModel" ({ cls := "RoundCoresModel", name := "stream", desc := "(I)I" } : Jvm.MethodName) ({ cls := "RoundCoresModel", name := "stream", desc := "(I)I" } : Jvm.MethodName)) ∈ lw_all := lw_g (lw_at lw_m0 221 rfl) rfl
theorem q237 : (Jvm.Cond.code ({ cls := "RoundCoresModel", name := "stream", desc := "(I)I" } : Jvm.MethodName) prog_3_method_15_code (2 : Nat) (Option.some Jvm.ClassFile.FieldType.int)) ∈ lw_all := lw_g (lw_at lw_m0 222 rfl) rfl
theorem in_X1 : ∀ w ∈ wsX10, w ∈ lw_all := lw_in wsX10 [162, 164, 166, 168, 170, 172, 174, 176] (by decide +kernel) (by decide +kernel)

/-! the law's own entry -/
abbrev cL_law : ByteArray := code

/-! java/lang/Object -/
def RJ0 : String := "java/lang/Object"
abbrev cJ0_init : ByteArray := object_method_1_code
def yJ0_init : MethodName := ⟨RJ0, "<init>", "()V"⟩
theorem dJ0_init_0 : decode cJ0_init 0 = .ok (.return_, 1) := by decide +kernel
theorem q24 : (Jvm.Cond.instanceMethod ({ cls := "java/lang/Object", name := "<init>", desc := "()V" } : Jvm.MethodName)) ∈ lw_all := lw_g (lw_at lw_m0 9 rfl) rfl
theorem q25 : (Jvm.Cond.code ({ cls := "java/lang/Object", name := "<init>", desc := "()V" } : Jvm.MethodName) object_method_1_code (1 : Nat) (Option.none : Option Jvm.ClassFile.FieldType)) ∈ lw_all := lw_g (lw_at lw_m0 10 rfl) rfl

theorem q48 : (Jvm.Cond.arrayClass Jvm.ClassFile.FieldType.int) ∈ lw_all := lw_g (lw_at lw_m0 33 rfl) rfl
theorem q49 : (Jvm.Cond.arrayClass Jvm.ClassFile.FieldType.byte) ∈ lw_all := lw_g (lw_at lw_m0 34 rfl) rfl
theorem q50 : (Jvm.Cond.arrayClass Jvm.ClassFile.FieldType.long) ∈ lw_all := lw_g (lw_at lw_m0 35 rfl) rfl

theorem q15 : (Jvm.Cond.initialized "RoundCoresLaw") ∈ lw_all := lw_g (lw_at lw_m0 0 rfl) rfl
theorem q18 : (Jvm.Cond.classLink "RoundCoresLaw" (7 : Nat) "RoundCores") ∈ lw_all := lw_g (lw_at lw_m0 3 rfl) rfl
theorem q20 : (Jvm.Cond.methodLink "RoundCoresLaw" (9 : Nat) ({ cls := "RoundCores", name := "<init>", desc := "()V" } : Jvm.MethodName)) ∈ lw_all := lw_g (lw_at lw_m0 5 rfl) rfl
theorem q51 : (Jvm.Cond.methodLink "RoundCoresLaw" (13 : Nat) ({ cls := "RoundCores", name := "put", desc := "(IIIII)V" } : Jvm.MethodName)) ∈ lw_all := lw_g (lw_at lw_m0 36 rfl) rfl
theorem q55 : (Jvm.Cond.methodLink "RoundCoresLaw" (18 : Nat) ({ cls := "RoundCores", name := "salsa", desc := "(I)V" } : Jvm.MethodName)) ∈ lw_all := lw_g (lw_at lw_m0 40 rfl) rfl
theorem q104 : (Jvm.Cond.methodLink "RoundCoresLaw" (23 : Nat) ({ cls := "RoundCores", name := "chacha", desc := "(I)V" } : Jvm.MethodName)) ∈ lw_all := lw_g (lw_at lw_m0 89 rfl) rfl
theorem q120 : (Jvm.Cond.methodLink "RoundCoresLaw" (27 : Nat) ({ cls := "RoundCores", name := "again", desc := "()V" } : Jvm.MethodName)) ∈ lw_all := lw_g (lw_at lw_m0 105 rfl) rfl
theorem q124 : (Jvm.Cond.methodLink "RoundCoresLaw" (31 : Nat) ({ cls := "RoundCores", name := "out", desc := "(I)I" } : Jvm.MethodName)) ∈ lw_all := lw_g (lw_at lw_m0 109 rfl) rfl
theorem q128 : (Jvm.Cond.methodLink "RoundCoresLaw" (36 : Nat) ({ cls := "RoundCores", name := "key", desc := "(IIIII)V" } : Jvm.MethodName)) ∈ lw_all := lw_g (lw_at lw_m0 113 rfl) rfl
theorem q132 : (Jvm.Cond.methodLink "RoundCoresLaw" (40 : Nat) ({ cls := "RoundCores", name := "nonce", desc := "(III)V" } : Jvm.MethodName)) ∈ lw_all := lw_g (lw_at lw_m0 117 rfl) rfl
theorem q140 : (Jvm.Cond.methodLink "RoundCoresLaw" (45 : Nat) ({ cls := "RoundCores", name := "block", desc := "()Z" } : Jvm.MethodName)) ∈ lw_all := lw_g (lw_at lw_m0 125 rfl) rfl
theorem q144 : (Jvm.Cond.methodLink "RoundCoresLaw" (50 : Nat) ({ cls := "RoundCores", name := "stream", desc := "(I)I" } : Jvm.MethodName)) ∈ lw_all := lw_g (lw_at lw_m0 129 rfl) rfl
theorem q148 : (Jvm.Cond.classLink "RoundCoresLaw" (10 : Nat) "RoundCoresModel") ∈ lw_all := lw_g (lw_at lw_m0 133 rfl) rfl
theorem q150 : (Jvm.Cond.methodLink "RoundCoresLaw" (12 : Nat) ({ cls := "RoundCoresModel", name := "<init>", desc := "()V" } : Jvm.MethodName)) ∈ lw_all := lw_g (lw_at lw_m0 135 rfl) rfl
theorem q179 : (Jvm.Cond.methodLink "RoundCoresLaw" (17 : Nat) ({ cls := "RoundCoresModel", name := "put", desc := "(IIIII)V" } : Jvm.MethodName)) ∈ lw_all := lw_g (lw_at lw_m0 164 rfl) rfl
theorem q183 : (Jvm.Cond.methodLink "RoundCoresLaw" (22 : Nat) ({ cls := "RoundCoresModel", name := "salsa", desc := "(I)V" } : Jvm.MethodName)) ∈ lw_all := lw_g (lw_at lw_m0 168 rfl) rfl
theorem q206 : (Jvm.Cond.methodLink "RoundCoresLaw" (26 : Nat) ({ cls := "RoundCoresModel", name := "chacha", desc := "(I)V" } : Jvm.MethodName)) ∈ lw_all := lw_g (lw_at lw_m0 191 rfl) rfl
theorem q210 : (Jvm.Cond.methodLink "RoundCoresLaw" (30 : Nat) ({ cls := "RoundCoresModel", name := "again", desc := "()V" } : Jvm.MethodName)) ∈ lw_all := lw_g (lw_at lw_m0 195 rfl) rfl
theorem q214 : (Jvm.Cond.methodLink "RoundCoresLaw" (35 : Nat) ({ cls := "RoundCoresModel", name := "out", desc := "(I)I" } : Jvm.MethodName)) ∈ lw_all := lw_g (lw_at lw_m0 199 rfl) rfl
theorem q218 : (Jvm.Cond.methodLink "RoundCoresLaw" (39 : Nat) ({ cls := "RoundCoresModel", name := "key", desc := "(IIIII)V" } : Jvm.MethodName)) ∈ lw_all := lw_g (lw_at lw_m0 203 rfl) rfl
theorem q222 : (Jvm.Cond.methodLink "RoundCoresLaw" (44 : Nat) ({ cls := "RoundCoresModel", name := "nonce", desc := "(III)V" } : Jvm.MethodName)) ∈ lw_all := lw_g (lw_at lw_m0 207 rfl) rfl
theorem q230 : (Jvm.Cond.methodLink "RoundCoresLaw" (49 : Nat) ({ cls := "RoundCoresModel", name := "block", desc := "()Z" } : Jvm.MethodName)) ∈ lw_all := lw_g (lw_at lw_m0 215 rfl) rfl
theorem q234 : (Jvm.Cond.methodLink "RoundCoresLaw" (53 : Nat) ({ cls := "RoundCoresModel", name := "stream", desc := "(I)I" } : Jvm.MethodName)) ∈ lw_all := lw_g (lw_at lw_m0 219 rfl) rfl
end
section
set_option maxRecDepth 100000
theorem dX0_init_0 : decode cX0_init 0 = .ok (.aload_n 0, 1) := by decide +kernel
theorem dX0_init_1 : decode cX0_init 1 = .ok (.invokespecial 3, 3) := by decide +kernel
theorem dX0_init_4 : decode cX0_init 4 = .ok (.aload_n 0, 1) := by decide +kernel
theorem dX0_init_5 : decode cX0_init 5 = .ok (.bipush 16, 2) := by decide +kernel
theorem dX0_init_7 : decode cX0_init 7 = .ok (.newarray .int, 2) := by decide +kernel
theorem dX0_init_9 : decode cX0_init 9 = .ok (.putfield 9, 3) := by decide +kernel
theorem dX0_init_12 : decode cX0_init 12 = .ok (.aload_n 0, 1) := by decide +kernel
theorem dX0_init_13 : decode cX0_init 13 = .ok (.bipush 16, 2) := by decide +kernel
theorem dX0_init_15 : decode cX0_init 15 = .ok (.newarray .int, 2) := by decide +kernel
theorem dX0_init_17 : decode cX0_init 17 = .ok (.putfield 13, 3) := by decide +kernel
theorem dX0_init_20 : decode cX0_init 20 = .ok (.aload_n 0, 1) := by decide +kernel
theorem dX0_init_21 : decode cX0_init 21 = .ok (.bipush 8, 2) := by decide +kernel
theorem dX0_init_23 : decode cX0_init 23 = .ok (.newarray .int, 2) := by decide +kernel
theorem dX0_init_25 : decode cX0_init 25 = .ok (.putfield 16, 3) := by decide +kernel
theorem dX0_init_28 : decode cX0_init 28 = .ok (.aload_n 0, 1) := by decide +kernel
theorem dX0_init_29 : decode cX0_init 29 = .ok (.bipush 16, 2) := by decide +kernel
theorem dX0_init_31 : decode cX0_init 31 = .ok (.newarray .int, 2) := by decide +kernel
theorem dX0_init_33 : decode cX0_init 33 = .ok (.putfield 19, 3) := by decide +kernel
theorem dX0_init_36 : decode cX0_init 36 = .ok (.aload_n 0, 1) := by decide +kernel
theorem dX0_init_37 : decode cX0_init 37 = .ok (.bipush 64, 2) := by decide +kernel
theorem dX0_init_39 : decode cX0_init 39 = .ok (.newarray .byte, 2) := by decide +kernel
theorem dX0_init_41 : decode cX0_init 41 = .ok (.putfield 22, 3) := by decide +kernel
theorem dX0_init_44 : decode cX0_init 44 = .ok (.aload_n 0, 1) := by decide +kernel
theorem dX0_init_45 : decode cX0_init 45 = .ok (.bipush 8, 2) := by decide +kernel
theorem dX0_init_47 : decode cX0_init 47 = .ok (.newarray .long, 2) := by decide +kernel
theorem dX0_init_49 : decode cX0_init 49 = .ok (.putfield 26, 3) := by decide +kernel
theorem dX0_init_52 : decode cX0_init 52 = .ok (.return_, 1) := by decide +kernel
theorem dX0_put_0 : decode cX0_put 0 = .ok (.iconst 4, 1) := by decide +kernel
theorem dX0_put_1 : decode cX0_put 1 = .ok (.iload_n 1, 1) := by decide +kernel
theorem dX0_put_2 : decode cX0_put 2 = .ok (.iconst 3, 1) := by decide +kernel
theorem dX0_put_3 : decode cX0_put 3 = .ok (.iand, 1) := by decide +kernel
theorem dX0_put_4 : decode cX0_put 4 = .ok (.imul, 1) := by decide +kernel
theorem dX0_put_5 : decode cX0_put 5 = .ok (.istore 6, 2) := by decide +kernel
theorem dX0_put_7 : decode cX0_put 7 = .ok (.aload_n 0, 1) := by decide +kernel
theorem dX0_put_8 : decode cX0_put 8 = .ok (.getfield 9, 3) := by decide +kernel
theorem dX0_put_11 : decode cX0_put 11 = .ok (.iload 6, 2) := by decide +kernel
theorem dX0_put_13 : decode cX0_put 13 = .ok (.iload_n 2, 1) := by decide +kernel
theorem dX0_put_14 : decode cX0_put 14 = .ok (.iastore, 1) := by decide +kernel
theorem dX0_put_15 : decode cX0_put 15 = .ok (.aload_n 0, 1) := by decide +kernel
theorem dX0_put_16 : decode cX0_put 16 = .ok (.getfield 9, 3) := by decide +kernel
theorem dX0_put_19 : decode cX0_put 19 = .ok (.iload 6, 2) := by decide +kernel
theorem dX0_put_21 : decode cX0_put 21 = .ok (.iconst 1, 1) := by decide +kernel
theorem dX0_put_22 : decode cX0_put 22 = .ok (.iadd, 1) := by decide +kernel
theorem dX0_put_23 : decode cX0_put 23 = .ok (.iload_n 3, 1) := by decide +kernel
theorem dX0_put_24 : decode cX0_put 24 = .ok (.iastore, 1) := by decide +kernel
theorem dX0_put_25 : decode cX0_put 25 = .ok (.aload_n 0, 1) := by decide +kernel
theorem dX0_put_26 : decode cX0_put 26 = .ok (.getfield 9, 3) := by decide +kernel
theorem dX0_put_29 : decode cX0_put 29 = .ok (.iload 6, 2) := by decide +kernel
theorem dX0_put_31 : decode cX0_put 31 = .ok (.iconst 2, 1) := by decide +kernel
theorem dX0_put_32 : decode cX0_put 32 = .ok (.iadd, 1) := by decide +kernel
theorem dX0_put_33 : decode cX0_put 33 = .ok (.iload 4, 2) := by decide +kernel
theorem dX0_put_35 : decode cX0_put 35 = .ok (.iastore, 1) := by decide +kernel
theorem dX0_put_36 : decode cX0_put 36 = .ok (.aload_n 0, 1) := by decide +kernel
theorem dX0_put_37 : decode cX0_put 37 = .ok (.getfield 9, 3) := by decide +kernel
theorem dX0_put_40 : decode cX0_put 40 = .ok (.iload 6, 2) := by decide +kernel
theorem dX0_put_42 : decode cX0_put 42 = .ok (.iconst 3, 1) := by decide +kernel
theorem dX0_put_43 : decode cX0_put 43 = .ok (.iadd, 1) := by decide +kernel
theorem dX0_put_44 : decode cX0_put 44 = .ok (.iload 5, 2) := by decide +kernel
theorem dX0_put_46 : decode cX0_put 46 = .ok (.iastore, 1) := by decide +kernel
theorem dX0_put_47 : decode cX0_put 47 = .ok (.return_, 1) := by decide +kernel
theorem dX0_salsa_0 : decode cX0_salsa 0 = .ok (.aload_n 0, 1) := by decide +kernel
theorem dX0_salsa_1 : decode cX0_salsa 1 = .ok (.aload_n 0, 1) := by decide +kernel
theorem dX0_salsa_2 : decode cX0_salsa 2 = .ok (.getfield 9, 3) := by decide +kernel
theorem dX0_salsa_5 : decode cX0_salsa 5 = .ok (.iconst 2, 1) := by decide +kernel
theorem dX0_salsa_6 : decode cX0_salsa 6 = .ok (.iconst 2, 1) := by decide +kernel
theorem dX0_salsa_7 : decode cX0_salsa 7 = .ok (.iload_n 1, 1) := by decide +kernel
theorem dX0_salsa_8 : decode cX0_salsa 8 = .ok (.bipush 15, 2) := by decide +kernel
theorem dX0_salsa_10 : decode cX0_salsa 10 = .ok (.iand, 1) := by decide +kernel
theorem dX0_salsa_11 : decode cX0_salsa 11 = .ok (.imul, 1) := by decide +kernel
theorem dX0_salsa_12 : decode cX0_salsa 12 = .ok (.iadd, 1) := by decide +kernel
theorem dX0_salsa_13 : decode cX0_salsa 13 = .ok (.invokevirtual 81, 3) := by decide +kernel
theorem dX0_salsa_16 : decode cX0_salsa 16 = .ok (.return_, 1) := by decide +kernel
theorem dX0_mixA_0 : decode cX0_mixA 0 = .ok (.aload_n 0, 1) := by decide +kernel
theorem dX0_mixA_1 : decode cX0_mixA 1 = .ok (.iconst 0, 1) := by decide +kernel
theorem dX0_mixA_2 : decode cX0_mixA 2 = .ok (.aload_n 1, 1) := by decide +kernel
theorem dX0_mixA_3 : decode cX0_mixA 3 = .ok (.iconst 0, 1) := by decide +kernel
theorem dX0_mixA_4 : decode cX0_mixA 4 = .ok (.iaload, 1) := by decide +kernel
theorem dX0_mixA_5 : decode cX0_mixA 5 = .ok (.aload_n 1, 1) := by decide +kernel
theorem dX0_mixA_6 : decode cX0_mixA 6 = .ok (.iconst 5, 1) := by decide +kernel
theorem dX0_mixA_7 : decode cX0_mixA 7 = .ok (.iaload, 1) := by decide +kernel
theorem dX0_mixA_8 : decode cX0_mixA 8 = .ok (.aload_n 1, 1) := by decide +kernel
theorem dX0_mixA_9 : decode cX0_mixA 9 = .ok (.bipush 10, 2) := by decide +kernel
theorem dX0_mixA_11 : decode cX0_mixA 11 = .ok (.iaload, 1) := by decide +kernel
theorem dX0_mixA_12 : decode cX0_mixA 12 = .ok (.aload_n 1, 1) := by decide +kernel
theorem dX0_mixA_13 : decode cX0_mixA 13 = .ok (.bipush 15, 2) := by decide +kernel
theorem dX0_mixA_15 : decode cX0_mixA 15 = .ok (.iaload, 1) := by decide +kernel
theorem dX0_mixA_16 : decode cX0_mixA 16 = .ok (.invokevirtual 57, 3) := by decide +kernel
theorem dX0_mixA_19 : decode cX0_mixA 19 = .ok (.aload_n 0, 1) := by decide +kernel
theorem dX0_mixA_20 : decode cX0_mixA 20 = .ok (.iconst 1, 1) := by decide +kernel
theorem dX0_mixA_21 : decode cX0_mixA 21 = .ok (.aload_n 1, 1) := by decide +kernel
theorem dX0_mixA_22 : decode cX0_mixA 22 = .ok (.iconst 4, 1) := by decide +kernel
theorem dX0_mixA_23 : decode cX0_mixA 23 = .ok (.iaload, 1) := by decide +kernel
theorem dX0_mixA_24 : decode cX0_mixA 24 = .ok (.aload_n 1, 1) := by decide +kernel
theorem dX0_mixA_25 : decode cX0_mixA 25 = .ok (.bipush 9, 2) := by decide +kernel
theorem dX0_mixA_27 : decode cX0_mixA 27 = .ok (.iaload, 1) := by decide +kernel
theorem dX0_mixA_28 : decode cX0_mixA 28 = .ok (.aload_n 1, 1) := by decide +kernel
theorem dX0_mixA_29 : decode cX0_mixA 29 = .ok (.bipush 14, 2) := by decide +kernel
theorem dX0_mixA_31 : decode cX0_mixA 31 = .ok (.iaload, 1) := by decide +kernel
theorem dX0_mixA_32 : decode cX0_mixA 32 = .ok (.aload_n 1, 1) := by decide +kernel
theorem dX0_mixA_33 : decode cX0_mixA 33 = .ok (.iconst 3, 1) := by decide +kernel
theorem dX0_mixA_34 : decode cX0_mixA 34 = .ok (.iaload, 1) := by decide +kernel
theorem dX0_mixA_35 : decode cX0_mixA 35 = .ok (.invokevirtual 57, 3) := by decide +kernel
theorem dX0_mixA_38 : decode cX0_mixA 38 = .ok (.aload_n 0, 1) := by decide +kernel
theorem dX0_mixA_39 : decode cX0_mixA 39 = .ok (.iconst 2, 1) := by decide +kernel
theorem dX0_mixA_40 : decode cX0_mixA 40 = .ok (.aload_n 1, 1) := by decide +kernel
theorem dX0_mixA_41 : decode cX0_mixA 41 = .ok (.bipush 8, 2) := by decide +kernel
theorem dX0_mixA_43 : decode cX0_mixA 43 = .ok (.iaload, 1) := by decide +kernel
theorem dX0_mixA_44 : decode cX0_mixA 44 = .ok (.aload_n 1, 1) := by decide +kernel
theorem dX0_mixA_45 : decode cX0_mixA 45 = .ok (.bipush 13, 2) := by decide +kernel
theorem dX0_mixA_47 : decode cX0_mixA 47 = .ok (.iaload, 1) := by decide +kernel
theorem dX0_mixA_48 : decode cX0_mixA 48 = .ok (.aload_n 1, 1) := by decide +kernel
theorem dX0_mixA_49 : decode cX0_mixA 49 = .ok (.iconst 2, 1) := by decide +kernel
theorem dX0_mixA_50 : decode cX0_mixA 50 = .ok (.iaload, 1) := by decide +kernel
theorem dX0_mixA_51 : decode cX0_mixA 51 = .ok (.aload_n 1, 1) := by decide +kernel
theorem dX0_mixA_52 : decode cX0_mixA 52 = .ok (.bipush 7, 2) := by decide +kernel
theorem dX0_mixA_54 : decode cX0_mixA 54 = .ok (.iaload, 1) := by decide +kernel
theorem dX0_mixA_55 : decode cX0_mixA 55 = .ok (.invokevirtual 57, 3) := by decide +kernel
theorem dX0_mixA_58 : decode cX0_mixA 58 = .ok (.aload_n 0, 1) := by decide +kernel
theorem dX0_mixA_59 : decode cX0_mixA 59 = .ok (.iconst 3, 1) := by decide +kernel
theorem dX0_mixA_60 : decode cX0_mixA 60 = .ok (.aload_n 1, 1) := by decide +kernel
theorem dX0_mixA_61 : decode cX0_mixA 61 = .ok (.bipush 12, 2) := by decide +kernel
theorem dX0_mixA_63 : decode cX0_mixA 63 = .ok (.iaload, 1) := by decide +kernel
theorem dX0_mixA_64 : decode cX0_mixA 64 = .ok (.aload_n 1, 1) := by decide +kernel
theorem dX0_mixA_65 : decode cX0_mixA 65 = .ok (.iconst 1, 1) := by decide +kernel
theorem dX0_mixA_66 : decode cX0_mixA 66 = .ok (.iaload, 1) := by decide +kernel
theorem dX0_mixA_67 : decode cX0_mixA 67 = .ok (.aload_n 1, 1) := by decide +kernel
theorem dX0_mixA_68 : decode cX0_mixA 68 = .ok (.bipush 6, 2) := by decide +kernel
theorem dX0_mixA_70 : decode cX0_mixA 70 = .ok (.iaload, 1) := by decide +kernel
theorem dX0_mixA_71 : decode cX0_mixA 71 = .ok (.aload_n 1, 1) := by decide +kernel
theorem dX0_mixA_72 : decode cX0_mixA 72 = .ok (.bipush 11, 2) := by decide +kernel
theorem dX0_mixA_74 : decode cX0_mixA 74 = .ok (.iaload, 1) := by decide +kernel
theorem dX0_mixA_75 : decode cX0_mixA 75 = .ok (.invokevirtual 57, 3) := by decide +kernel
theorem dX0_mixA_78 : decode cX0_mixA 78 = .ok (.iconst 0, 1) := by decide +kernel
theorem dX0_mixA_79 : decode cX0_mixA 79 = .ok (.istore_n 3, 1) := by decide +kernel
theorem dX0_mixA_80 : decode cX0_mixA 80 = .ok (.iload_n 3, 1) := by decide +kernel
theorem dX0_mixA_81 : decode cX0_mixA 81 = .ok (.iload_n 2, 1) := by decide +kernel
theorem dX0_mixA_82 : decode cX0_mixA 82 = .ok (.if_icmp .ge 25, 3) := by decide +kernel
theorem dX0_mixA_85 : decode cX0_mixA 85 = .ok (.aload_n 0, 1) := by decide +kernel
theorem dX0_mixA_86 : decode cX0_mixA 86 = .ok (.invokevirtual 61, 3) := by decide +kernel
theorem dX0_mixA_89 : decode cX0_mixA 89 = .ok (.aload_n 0, 1) := by decide +kernel
theorem dX0_mixA_90 : decode cX0_mixA 90 = .ok (.invokevirtual 64, 3) := by decide +kernel
theorem dX0_mixA_93 : decode cX0_mixA 93 = .ok (.aload_n 0, 1) := by decide +kernel
theorem dX0_mixA_94 : decode cX0_mixA 94 = .ok (.invokevirtual 61, 3) := by decide +kernel
theorem dX0_mixA_97 : decode cX0_mixA 97 = .ok (.aload_n 0, 1) := by decide +kernel
theorem dX0_mixA_98 : decode cX0_mixA 98 = .ok (.invokevirtual 64, 3) := by decide +kernel
theorem dX0_mixA_101 : decode cX0_mixA 101 = .ok (.iinc 3 2, 3) := by decide +kernel
theorem dX0_mixA_104 : decode cX0_mixA 104 = .ok (.goto (-24), 3) := by decide +kernel
theorem dX0_mixA_107 : decode cX0_mixA 107 = .ok (.iconst 0, 1) := by decide +kernel
theorem dX0_mixA_108 : decode cX0_mixA 108 = .ok (.istore_n 3, 1) := by decide +kernel
theorem dX0_mixA_109 : decode cX0_mixA 109 = .ok (.iload_n 3, 1) := by decide +kernel
theorem dX0_mixA_110 : decode cX0_mixA 110 = .ok (.iconst 4, 1) := by decide +kernel
theorem dX0_mixA_111 : decode cX0_mixA 111 = .ok (.if_icmp .ge 129, 3) := by decide +kernel
theorem dX0_mixA_114 : decode cX0_mixA 114 = .ok (.aload_n 0, 1) := by decide +kernel
theorem dX0_mixA_115 : decode cX0_mixA 115 = .ok (.getfield 13, 3) := by decide +kernel
theorem dX0_mixA_118 : decode cX0_mixA 118 = .ok (.iconst 5, 1) := by decide +kernel
theorem dX0_mixA_119 : decode cX0_mixA 119 = .ok (.iload_n 3, 1) := by decide +kernel
theorem dX0_mixA_120 : decode cX0_mixA 120 = .ok (.imul, 1) := by decide +kernel
theorem dX0_mixA_121 : decode cX0_mixA 121 = .ok (.bipush 15, 2) := by decide +kernel
theorem dX0_mixA_123 : decode cX0_mixA 123 = .ok (.iand, 1) := by decide +kernel
theorem dX0_mixA_124 : decode cX0_mixA 124 = .ok (.aload_n 1, 1) := by decide +kernel
theorem dX0_mixA_125 : decode cX0_mixA 125 = .ok (.iconst 5, 1) := by decide +kernel
theorem dX0_mixA_126 : decode cX0_mixA 126 = .ok (.iload_n 3, 1) := by decide +kernel
theorem dX0_mixA_127 : decode cX0_mixA 127 = .ok (.imul, 1) := by decide +kernel
theorem dX0_mixA_128 : decode cX0_mixA 128 = .ok (.bipush 15, 2) := by decide +kernel
theorem dX0_mixA_130 : decode cX0_mixA 130 = .ok (.iand, 1) := by decide +kernel
theorem dX0_mixA_131 : decode cX0_mixA 131 = .ok (.iaload, 1) := by decide +kernel
theorem dX0_mixA_132 : decode cX0_mixA 132 = .ok (.aload_n 0, 1) := by decide +kernel
theorem dX0_mixA_133 : decode cX0_mixA 133 = .ok (.iconst 0, 1) := by decide +kernel
theorem dX0_mixA_134 : decode cX0_mixA 134 = .ok (.iload_n 3, 1) := by decide +kernel
theorem dX0_mixA_135 : decode cX0_mixA 135 = .ok (.invokevirtual 67, 3) := by decide +kernel
theorem dX0_mixA_138 : decode cX0_mixA 138 = .ok (.iadd, 1) := by decide +kernel
theorem dX0_mixA_139 : decode cX0_mixA 139 = .ok (.iastore, 1) := by decide +kernel
theorem dX0_mixA_140 : decode cX0_mixA 140 = .ok (.aload_n 0, 1) := by decide +kernel
theorem dX0_mixA_141 : decode cX0_mixA 141 = .ok (.getfield 13, 3) := by decide +kernel
theorem dX0_mixA_144 : decode cX0_mixA 144 = .ok (.iconst 4, 1) := by decide +kernel
theorem dX0_mixA_145 : decode cX0_mixA 145 = .ok (.iconst 5, 1) := by decide +kernel
theorem dX0_mixA_146 : decode cX0_mixA 146 = .ok (.iload_n 3, 1) := by decide +kernel
theorem dX0_mixA_147 : decode cX0_mixA 147 = .ok (.imul, 1) := by decide +kernel
theorem dX0_mixA_148 : decode cX0_mixA 148 = .ok (.iadd, 1) := by decide +kernel
theorem dX0_mixA_149 : decode cX0_mixA 149 = .ok (.bipush 15, 2) := by decide +kernel
theorem dX0_mixA_151 : decode cX0_mixA 151 = .ok (.iand, 1) := by decide +kernel
theorem dX0_mixA_152 : decode cX0_mixA 152 = .ok (.aload_n 1, 1) := by decide +kernel
theorem dX0_mixA_153 : decode cX0_mixA 153 = .ok (.iconst 4, 1) := by decide +kernel
theorem dX0_mixA_154 : decode cX0_mixA 154 = .ok (.iconst 5, 1) := by decide +kernel
theorem dX0_mixA_155 : decode cX0_mixA 155 = .ok (.iload_n 3, 1) := by decide +kernel
theorem dX0_mixA_156 : decode cX0_mixA 156 = .ok (.imul, 1) := by decide +kernel
theorem dX0_mixA_157 : decode cX0_mixA 157 = .ok (.iadd, 1) := by decide +kernel
theorem dX0_mixA_158 : decode cX0_mixA 158 = .ok (.bipush 15, 2) := by decide +kernel
theorem dX0_mixA_160 : decode cX0_mixA 160 = .ok (.iand, 1) := by decide +kernel
theorem dX0_mixA_161 : decode cX0_mixA 161 = .ok (.iaload, 1) := by decide +kernel
theorem dX0_mixA_162 : decode cX0_mixA 162 = .ok (.aload_n 0, 1) := by decide +kernel
theorem dX0_mixA_163 : decode cX0_mixA 163 = .ok (.iconst 1, 1) := by decide +kernel
theorem dX0_mixA_164 : decode cX0_mixA 164 = .ok (.iload_n 3, 1) := by decide +kernel
theorem dX0_mixA_165 : decode cX0_mixA 165 = .ok (.invokevirtual 67, 3) := by decide +kernel
theorem dX0_mixA_168 : decode cX0_mixA 168 = .ok (.iadd, 1) := by decide +kernel
theorem dX0_mixA_169 : decode cX0_mixA 169 = .ok (.iastore, 1) := by decide +kernel
theorem dX0_mixA_170 : decode cX0_mixA 170 = .ok (.aload_n 0, 1) := by decide +kernel
theorem dX0_mixA_171 : decode cX0_mixA 171 = .ok (.getfield 13, 3) := by decide +kernel
theorem dX0_mixA_174 : decode cX0_mixA 174 = .ok (.bipush 8, 2) := by decide +kernel
theorem dX0_mixA_176 : decode cX0_mixA 176 = .ok (.iconst 5, 1) := by decide +kernel
theorem dX0_mixA_177 : decode cX0_mixA 177 = .ok (.iload_n 3, 1) := by decide +kernel
theorem dX0_mixA_178 : decode cX0_mixA 178 = .ok (.imul, 1) := by decide +kernel
theorem dX0_mixA_179 : decode cX0_mixA 179 = .ok (.iadd, 1) := by decide +kernel
theorem dX0_mixA_180 : decode cX0_mixA 180 = .ok (.bipush 15, 2) := by decide +kernel
theorem dX0_mixA_182 : decode cX0_mixA 182 = .ok (.iand, 1) := by decide +kernel
theorem dX0_mixA_183 : decode cX0_mixA 183 = .ok (.aload_n 1, 1) := by decide +kernel
theorem dX0_mixA_184 : decode cX0_mixA 184 = .ok (.bipush 8, 2) := by decide +kernel
theorem dX0_mixA_186 : decode cX0_mixA 186 = .ok (.iconst 5, 1) := by decide +kernel
theorem dX0_mixA_187 : decode cX0_mixA 187 = .ok (.iload_n 3, 1) := by decide +kernel
theorem dX0_mixA_188 : decode cX0_mixA 188 = .ok (.imul, 1) := by decide +kernel
theorem dX0_mixA_189 : decode cX0_mixA 189 = .ok (.iadd, 1) := by decide +kernel
theorem dX0_mixA_190 : decode cX0_mixA 190 = .ok (.bipush 15, 2) := by decide +kernel
theorem dX0_mixA_192 : decode cX0_mixA 192 = .ok (.iand, 1) := by decide +kernel
theorem dX0_mixA_193 : decode cX0_mixA 193 = .ok (.iaload, 1) := by decide +kernel
theorem dX0_mixA_194 : decode cX0_mixA 194 = .ok (.aload_n 0, 1) := by decide +kernel
theorem dX0_mixA_195 : decode cX0_mixA 195 = .ok (.iconst 2, 1) := by decide +kernel
theorem dX0_mixA_196 : decode cX0_mixA 196 = .ok (.iload_n 3, 1) := by decide +kernel
theorem dX0_mixA_197 : decode cX0_mixA 197 = .ok (.invokevirtual 67, 3) := by decide +kernel
theorem dX0_mixA_200 : decode cX0_mixA 200 = .ok (.iadd, 1) := by decide +kernel
theorem dX0_mixA_201 : decode cX0_mixA 201 = .ok (.iastore, 1) := by decide +kernel
theorem dX0_mixA_202 : decode cX0_mixA 202 = .ok (.aload_n 0, 1) := by decide +kernel
theorem dX0_mixA_203 : decode cX0_mixA 203 = .ok (.getfield 13, 3) := by decide +kernel
theorem dX0_mixA_206 : decode cX0_mixA 206 = .ok (.bipush 12, 2) := by decide +kernel
theorem dX0_mixA_208 : decode cX0_mixA 208 = .ok (.iconst 5, 1) := by decide +kernel
theorem dX0_mixA_209 : decode cX0_mixA 209 = .ok (.iload_n 3, 1) := by decide +kernel
theorem dX0_mixA_210 : decode cX0_mixA 210 = .ok (.imul, 1) := by decide +kernel
theorem dX0_mixA_211 : decode cX0_mixA 211 = .ok (.iadd, 1) := by decide +kernel
theorem dX0_mixA_212 : decode cX0_mixA 212 = .ok (.bipush 15, 2) := by decide +kernel
theorem dX0_mixA_214 : decode cX0_mixA 214 = .ok (.iand, 1) := by decide +kernel
theorem dX0_mixA_215 : decode cX0_mixA 215 = .ok (.aload_n 1, 1) := by decide +kernel
theorem dX0_mixA_216 : decode cX0_mixA 216 = .ok (.bipush 12, 2) := by decide +kernel
theorem dX0_mixA_218 : decode cX0_mixA 218 = .ok (.iconst 5, 1) := by decide +kernel
theorem dX0_mixA_219 : decode cX0_mixA 219 = .ok (.iload_n 3, 1) := by decide +kernel
theorem dX0_mixA_220 : decode cX0_mixA 220 = .ok (.imul, 1) := by decide +kernel
theorem dX0_mixA_221 : decode cX0_mixA 221 = .ok (.iadd, 1) := by decide +kernel
theorem dX0_mixA_222 : decode cX0_mixA 222 = .ok (.bipush 15, 2) := by decide +kernel
theorem dX0_mixA_224 : decode cX0_mixA 224 = .ok (.iand, 1) := by decide +kernel
theorem dX0_mixA_225 : decode cX0_mixA 225 = .ok (.iaload, 1) := by decide +kernel
theorem dX0_mixA_226 : decode cX0_mixA 226 = .ok (.aload_n 0, 1) := by decide +kernel
theorem dX0_mixA_227 : decode cX0_mixA 227 = .ok (.iconst 3, 1) := by decide +kernel
theorem dX0_mixA_228 : decode cX0_mixA 228 = .ok (.iload_n 3, 1) := by decide +kernel
theorem dX0_mixA_229 : decode cX0_mixA 229 = .ok (.invokevirtual 67, 3) := by decide +kernel
theorem dX0_mixA_232 : decode cX0_mixA 232 = .ok (.iadd, 1) := by decide +kernel
theorem dX0_mixA_233 : decode cX0_mixA 233 = .ok (.iastore, 1) := by decide +kernel
theorem dX0_mixA_234 : decode cX0_mixA 234 = .ok (.iinc 3 1, 3) := by decide +kernel
theorem dX0_mixA_237 : decode cX0_mixA 237 = .ok (.goto (-128), 3) := by decide +kernel
theorem dX0_mixA_240 : decode cX0_mixA 240 = .ok (.return_, 1) := by decide +kernel
theorem dX0_lay_0 : decode cX0_lay 0 = .ok (.aload_n 0, 1) := by decide +kernel
theorem dX0_lay_1 : decode cX0_lay 1 = .ok (.getfield 26, 3) := by decide +kernel
theorem dX0_lay_4 : decode cX0_lay 4 = .ok (.iconst 2, 1) := by decide +kernel
theorem dX0_lay_5 : decode cX0_lay 5 = .ok (.iload_n 1, 1) := by decide +kernel
theorem dX0_lay_6 : decode cX0_lay 6 = .ok (.imul, 1) := by decide +kernel
theorem dX0_lay_7 : decode cX0_lay 7 = .ok (.iload_n 3, 1) := by decide +kernel
theorem dX0_lay_8 : decode cX0_lay 8 = .ok (.iload_n 2, 1) := by decide +kernel
theorem dX0_lay_9 : decode cX0_lay 9 = .ok (.invokestatic 38, 3) := by decide +kernel
theorem dX0_lay_12 : decode cX0_lay 12 = .ok (.lastore, 1) := by decide +kernel
theorem dX0_lay_13 : decode cX0_lay 13 = .ok (.aload_n 0, 1) := by decide +kernel
theorem dX0_lay_14 : decode cX0_lay 14 = .ok (.getfield 26, 3) := by decide +kernel
theorem dX0_lay_17 : decode cX0_lay 17 = .ok (.iconst 2, 1) := by decide +kernel
theorem dX0_lay_18 : decode cX0_lay 18 = .ok (.iload_n 1, 1) := by decide +kernel
theorem dX0_lay_19 : decode cX0_lay 19 = .ok (.imul, 1) := by decide +kernel
theorem dX0_lay_20 : decode cX0_lay 20 = .ok (.iconst 1, 1) := by decide +kernel
theorem dX0_lay_21 : decode cX0_lay 21 = .ok (.iadd, 1) := by decide +kernel
theorem dX0_lay_22 : decode cX0_lay 22 = .ok (.iload 5, 2) := by decide +kernel
theorem dX0_lay_24 : decode cX0_lay 24 = .ok (.iload 4, 2) := by decide +kernel
theorem dX0_lay_26 : decode cX0_lay 26 = .ok (.invokestatic 38, 3) := by decide +kernel
theorem dX0_lay_29 : decode cX0_lay 29 = .ok (.lastore, 1) := by decide +kernel
theorem dX0_lay_30 : decode cX0_lay 30 = .ok (.return_, 1) := by decide +kernel
theorem dX0_both_0 : decode cX0_both 0 = .ok (.iload_n 0, 1) := by decide +kernel
theorem dX0_both_1 : decode cX0_both 1 = .ok (.i2l, 1) := by decide +kernel
theorem dX0_both_2 : decode cX0_both 2 = .ok (.bipush 32, 2) := by decide +kernel
theorem dX0_both_4 : decode cX0_both 4 = .ok (.lshl, 1) := by decide +kernel
theorem dX0_both_5 : decode cX0_both 5 = .ok (.iload_n 1, 1) := by decide +kernel
theorem dX0_both_6 : decode cX0_both 6 = .ok (.i2l, 1) := by decide +kernel
theorem dX0_both_7 : decode cX0_both 7 = .ok (.ldc2_w 36, 3) := by decide +kernel
theorem dX0_both_10 : decode cX0_both 10 = .ok (.land, 1) := by decide +kernel
theorem dX0_both_11 : decode cX0_both 11 = .ok (.lor, 1) := by decide +kernel
theorem dX0_both_12 : decode cX0_both 12 = .ok (.lreturn, 1) := by decide +kernel
theorem dX0_crossAll_0 : decode cX0_crossAll 0 = .ok (.aload_n 0, 1) := by decide +kernel
theorem dX0_crossAll_1 : decode cX0_crossAll 1 = .ok (.iconst 1, 1) := by decide +kernel
theorem dX0_crossAll_2 : decode cX0_crossAll 2 = .ok (.iconst 0, 1) := by decide +kernel
theorem dX0_crossAll_3 : decode cX0_crossAll 3 = .ok (.iconst 3, 1) := by decide +kernel
theorem dX0_crossAll_4 : decode cX0_crossAll 4 = .ok (.bipush 7, 2) := by decide +kernel
theorem dX0_crossAll_6 : decode cX0_crossAll 6 = .ok (.invokevirtual 50, 3) := by decide +kernel
theorem dX0_crossAll_9 : decode cX0_crossAll 9 = .ok (.aload_n 0, 1) := by decide +kernel
theorem dX0_crossAll_10 : decode cX0_crossAll 10 = .ok (.iconst 2, 1) := by decide +kernel
theorem dX0_crossAll_11 : decode cX0_crossAll 11 = .ok (.iconst 1, 1) := by decide +kernel
theorem dX0_crossAll_12 : decode cX0_crossAll 12 = .ok (.iconst 0, 1) := by decide +kernel
theorem dX0_crossAll_13 : decode cX0_crossAll 13 = .ok (.bipush 9, 2) := by decide +kernel
theorem dX0_crossAll_15 : decode cX0_crossAll 15 = .ok (.invokevirtual 50, 3) := by decide +kernel
theorem dX0_crossAll_18 : decode cX0_crossAll 18 = .ok (.aload_n 0, 1) := by decide +kernel
theorem dX0_crossAll_19 : decode cX0_crossAll 19 = .ok (.iconst 3, 1) := by decide +kernel
theorem dX0_crossAll_20 : decode cX0_crossAll 20 = .ok (.iconst 2, 1) := by decide +kernel
theorem dX0_crossAll_21 : decode cX0_crossAll 21 = .ok (.iconst 1, 1) := by decide +kernel
theorem dX0_crossAll_22 : decode cX0_crossAll 22 = .ok (.bipush 13, 2) := by decide +kernel
theorem dX0_crossAll_24 : decode cX0_crossAll 24 = .ok (.invokevirtual 50, 3) := by decide +kernel
theorem dX0_crossAll_27 : decode cX0_crossAll 27 = .ok (.aload_n 0, 1) := by decide +kernel
theorem dX0_crossAll_28 : decode cX0_crossAll 28 = .ok (.iconst 0, 1) := by decide +kernel
theorem dX0_crossAll_29 : decode cX0_crossAll 29 = .ok (.iconst 3, 1) := by decide +kernel
theorem dX0_crossAll_30 : decode cX0_crossAll 30 = .ok (.iconst 2, 1) := by decide +kernel
theorem dX0_crossAll_31 : decode cX0_crossAll 31 = .ok (.bipush 18, 2) := by decide +kernel
theorem dX0_crossAll_33 : decode cX0_crossAll 33 = .ok (.invokevirtual 50, 3) := by decide +kernel
theorem dX0_crossAll_36 : decode cX0_crossAll 36 = .ok (.return_, 1) := by decide +kernel
theorem dX0_cross_0 : decode cX0_cross 0 = .ok (.iconst 0, 1) := by decide +kernel
theorem dX0_cross_1 : decode cX0_cross 1 = .ok (.istore 5, 2) := by decide +kernel
theorem dX0_cross_3 : decode cX0_cross 3 = .ok (.iload 5, 2) := by decide +kernel
theorem dX0_cross_5 : decode cX0_cross 5 = .ok (.iconst 2, 1) := by decide +kernel
theorem dX0_cross_6 : decode cX0_cross 6 = .ok (.if_icmp .ge 53, 3) := by decide +kernel
theorem dX0_cross_9 : decode cX0_cross 9 = .ok (.aload_n 0, 1) := by decide +kernel
theorem dX0_cross_10 : decode cX0_cross 10 = .ok (.getfield 26, 3) := by decide +kernel
end
section
set_option maxRecDepth 100000
theorem dX0_cross_13 : decode cX0_cross 13 = .ok (.iconst 2, 1) := by decide +kernel
theorem dX0_cross_14 : decode cX0_cross 14 = .ok (.iload_n 1, 1) := by decide +kernel
theorem dX0_cross_15 : decode cX0_cross 15 = .ok (.imul, 1) := by decide +kernel
theorem dX0_cross_16 : decode cX0_cross 16 = .ok (.iload 5, 2) := by decide +kernel
theorem dX0_cross_18 : decode cX0_cross 18 = .ok (.iadd, 1) := by decide +kernel
theorem dX0_cross_19 : decode cX0_cross 19 = .ok (.dup2, 1) := by decide +kernel
theorem dX0_cross_20 : decode cX0_cross 20 = .ok (.laload, 1) := by decide +kernel
theorem dX0_cross_21 : decode cX0_cross 21 = .ok (.aload_n 0, 1) := by decide +kernel
theorem dX0_cross_22 : decode cX0_cross 22 = .ok (.getfield 26, 3) := by decide +kernel
theorem dX0_cross_25 : decode cX0_cross 25 = .ok (.iconst 2, 1) := by decide +kernel
theorem dX0_cross_26 : decode cX0_cross 26 = .ok (.iload_n 2, 1) := by decide +kernel
theorem dX0_cross_27 : decode cX0_cross 27 = .ok (.imul, 1) := by decide +kernel
theorem dX0_cross_28 : decode cX0_cross 28 = .ok (.iload 5, 2) := by decide +kernel
theorem dX0_cross_30 : decode cX0_cross 30 = .ok (.iadd, 1) := by decide +kernel
theorem dX0_cross_31 : decode cX0_cross 31 = .ok (.laload, 1) := by decide +kernel
theorem dX0_cross_32 : decode cX0_cross 32 = .ok (.aload_n 0, 1) := by decide +kernel
theorem dX0_cross_33 : decode cX0_cross 33 = .ok (.getfield 26, 3) := by decide +kernel
theorem dX0_cross_36 : decode cX0_cross 36 = .ok (.iconst 2, 1) := by decide +kernel
theorem dX0_cross_37 : decode cX0_cross 37 = .ok (.iload_n 3, 1) := by decide +kernel
theorem dX0_cross_38 : decode cX0_cross 38 = .ok (.imul, 1) := by decide +kernel
theorem dX0_cross_39 : decode cX0_cross 39 = .ok (.iload 5, 2) := by decide +kernel
theorem dX0_cross_41 : decode cX0_cross 41 = .ok (.iadd, 1) := by decide +kernel
theorem dX0_cross_42 : decode cX0_cross 42 = .ok (.laload, 1) := by decide +kernel
theorem dX0_cross_43 : decode cX0_cross 43 = .ok (.invokestatic 42, 3) := by decide +kernel
theorem dX0_cross_46 : decode cX0_cross 46 = .ok (.iload 4, 2) := by decide +kernel
theorem dX0_cross_48 : decode cX0_cross 48 = .ok (.invokestatic 46, 3) := by decide +kernel
theorem dX0_cross_51 : decode cX0_cross 51 = .ok (.lxor, 1) := by decide +kernel
theorem dX0_cross_52 : decode cX0_cross 52 = .ok (.lastore, 1) := by decide +kernel
theorem dX0_cross_53 : decode cX0_cross 53 = .ok (.iinc 5 1, 3) := by decide +kernel
theorem dX0_cross_56 : decode cX0_cross 56 = .ok (.goto (-53), 3) := by decide +kernel
theorem dX0_cross_59 : decode cX0_cross 59 = .ok (.return_, 1) := by decide +kernel
theorem dX0_plus_0 : decode cX0_plus 0 = .ok (.lload_n 0, 1) := by decide +kernel
theorem dX0_plus_1 : decode cX0_plus 1 = .ok (.ldc2_w 30, 3) := by decide +kernel
theorem dX0_plus_4 : decode cX0_plus 4 = .ok (.land, 1) := by decide +kernel
theorem dX0_plus_5 : decode cX0_plus 5 = .ok (.lload_n 2, 1) := by decide +kernel
theorem dX0_plus_6 : decode cX0_plus 6 = .ok (.ldc2_w 30, 3) := by decide +kernel
theorem dX0_plus_9 : decode cX0_plus 9 = .ok (.land, 1) := by decide +kernel
theorem dX0_plus_10 : decode cX0_plus 10 = .ok (.ladd, 1) := by decide +kernel
theorem dX0_plus_11 : decode cX0_plus 11 = .ok (.lload_n 0, 1) := by decide +kernel
theorem dX0_plus_12 : decode cX0_plus 12 = .ok (.lload_n 2, 1) := by decide +kernel
theorem dX0_plus_13 : decode cX0_plus 13 = .ok (.lxor, 1) := by decide +kernel
theorem dX0_plus_14 : decode cX0_plus 14 = .ok (.ldc2_w 32, 3) := by decide +kernel
theorem dX0_plus_17 : decode cX0_plus 17 = .ok (.land, 1) := by decide +kernel
theorem dX0_plus_18 : decode cX0_plus 18 = .ok (.lxor, 1) := by decide +kernel
theorem dX0_plus_19 : decode cX0_plus 19 = .ok (.lreturn, 1) := by decide +kernel
theorem dX0_turned_0 : decode cX0_turned 0 = .ok (.lconst 1, 1) := by decide +kernel
theorem dX0_turned_1 : decode cX0_turned 1 = .ok (.iload_n 2, 1) := by decide +kernel
theorem dX0_turned_2 : decode cX0_turned 2 = .ok (.lshl, 1) := by decide +kernel
theorem dX0_turned_3 : decode cX0_turned 3 = .ok (.lconst 1, 1) := by decide +kernel
theorem dX0_turned_4 : decode cX0_turned 4 = .ok (.lsub, 1) := by decide +kernel
theorem dX0_turned_5 : decode cX0_turned 5 = .ok (.lstore_n 3, 1) := by decide +kernel
theorem dX0_turned_6 : decode cX0_turned 6 = .ok (.lload_n 3, 1) := by decide +kernel
theorem dX0_turned_7 : decode cX0_turned 7 = .ok (.lload_n 3, 1) := by decide +kernel
theorem dX0_turned_8 : decode cX0_turned 8 = .ok (.bipush 32, 2) := by decide +kernel
theorem dX0_turned_10 : decode cX0_turned 10 = .ok (.lshl, 1) := by decide +kernel
theorem dX0_turned_11 : decode cX0_turned 11 = .ok (.lor, 1) := by decide +kernel
theorem dX0_turned_12 : decode cX0_turned 12 = .ok (.lstore_n 3, 1) := by decide +kernel
theorem dX0_turned_13 : decode cX0_turned 13 = .ok (.lload_n 0, 1) := by decide +kernel
theorem dX0_turned_14 : decode cX0_turned 14 = .ok (.iload_n 2, 1) := by decide +kernel
theorem dX0_turned_15 : decode cX0_turned 15 = .ok (.lshl, 1) := by decide +kernel
theorem dX0_turned_16 : decode cX0_turned 16 = .ok (.lload_n 3, 1) := by decide +kernel
theorem dX0_turned_17 : decode cX0_turned 17 = .ok (.ldc2_w 34, 3) := by decide +kernel
theorem dX0_turned_20 : decode cX0_turned 20 = .ok (.lxor, 1) := by decide +kernel
theorem dX0_turned_21 : decode cX0_turned 21 = .ok (.land, 1) := by decide +kernel
theorem dX0_turned_22 : decode cX0_turned 22 = .ok (.lload_n 0, 1) := by decide +kernel
theorem dX0_turned_23 : decode cX0_turned 23 = .ok (.bipush 32, 2) := by decide +kernel
theorem dX0_turned_25 : decode cX0_turned 25 = .ok (.iload_n 2, 1) := by decide +kernel
theorem dX0_turned_26 : decode cX0_turned 26 = .ok (.isub, 1) := by decide +kernel
theorem dX0_turned_27 : decode cX0_turned 27 = .ok (.lushr, 1) := by decide +kernel
theorem dX0_turned_28 : decode cX0_turned 28 = .ok (.lload_n 3, 1) := by decide +kernel
theorem dX0_turned_29 : decode cX0_turned 29 = .ok (.land, 1) := by decide +kernel
theorem dX0_turned_30 : decode cX0_turned 30 = .ok (.lor, 1) := by decide +kernel
theorem dX0_turned_31 : decode cX0_turned 31 = .ok (.lreturn, 1) := by decide +kernel
theorem dX0_acrossA_0 : decode cX0_acrossA 0 = .ok (.aload_n 0, 1) := by decide +kernel
theorem dX0_acrossA_1 : decode cX0_acrossA 1 = .ok (.iconst 1, 1) := by decide +kernel
theorem dX0_acrossA_2 : decode cX0_acrossA 2 = .ok (.iconst 3, 1) := by decide +kernel
theorem dX0_acrossA_3 : decode cX0_acrossA 3 = .ok (.invokevirtual 71, 3) := by decide +kernel
theorem dX0_acrossA_6 : decode cX0_acrossA 6 = .ok (.aload_n 0, 1) := by decide +kernel
theorem dX0_acrossA_7 : decode cX0_acrossA 7 = .ok (.iconst 2, 1) := by decide +kernel
theorem dX0_acrossA_8 : decode cX0_acrossA 8 = .ok (.iconst 2, 1) := by decide +kernel
theorem dX0_acrossA_9 : decode cX0_acrossA 9 = .ok (.invokevirtual 71, 3) := by decide +kernel
theorem dX0_acrossA_12 : decode cX0_acrossA 12 = .ok (.aload_n 0, 1) := by decide +kernel
theorem dX0_acrossA_13 : decode cX0_acrossA 13 = .ok (.iconst 3, 1) := by decide +kernel
theorem dX0_acrossA_14 : decode cX0_acrossA 14 = .ok (.iconst 1, 1) := by decide +kernel
theorem dX0_acrossA_15 : decode cX0_acrossA 15 = .ok (.invokevirtual 71, 3) := by decide +kernel
theorem dX0_acrossA_18 : decode cX0_acrossA 18 = .ok (.aload_n 0, 1) := by decide +kernel
theorem dX0_acrossA_19 : decode cX0_acrossA 19 = .ok (.iconst 1, 1) := by decide +kernel
theorem dX0_acrossA_20 : decode cX0_acrossA 20 = .ok (.iconst 3, 1) := by decide +kernel
theorem dX0_acrossA_21 : decode cX0_acrossA 21 = .ok (.invokevirtual 75, 3) := by decide +kernel
theorem dX0_acrossA_24 : decode cX0_acrossA 24 = .ok (.return_, 1) := by decide +kernel
theorem dX0_shift_0 : decode cX0_shift 0 = .ok (.aload_n 0, 1) := by decide +kernel
theorem dX0_shift_1 : decode cX0_shift 1 = .ok (.getfield 26, 3) := by decide +kernel
theorem dX0_shift_4 : decode cX0_shift 4 = .ok (.iconst 2, 1) := by decide +kernel
theorem dX0_shift_5 : decode cX0_shift 5 = .ok (.iload_n 1, 1) := by decide +kernel
theorem dX0_shift_6 : decode cX0_shift 6 = .ok (.imul, 1) := by decide +kernel
theorem dX0_shift_7 : decode cX0_shift 7 = .ok (.laload, 1) := by decide +kernel
theorem dX0_shift_8 : decode cX0_shift 8 = .ok (.lstore_n 3, 1) := by decide +kernel
theorem dX0_shift_9 : decode cX0_shift 9 = .ok (.aload_n 0, 1) := by decide +kernel
theorem dX0_shift_10 : decode cX0_shift 10 = .ok (.getfield 26, 3) := by decide +kernel
theorem dX0_shift_13 : decode cX0_shift 13 = .ok (.iconst 2, 1) := by decide +kernel
theorem dX0_shift_14 : decode cX0_shift 14 = .ok (.iload_n 1, 1) := by decide +kernel
theorem dX0_shift_15 : decode cX0_shift 15 = .ok (.imul, 1) := by decide +kernel
theorem dX0_shift_16 : decode cX0_shift 16 = .ok (.iconst 1, 1) := by decide +kernel
theorem dX0_shift_17 : decode cX0_shift 17 = .ok (.iadd, 1) := by decide +kernel
theorem dX0_shift_18 : decode cX0_shift 18 = .ok (.laload, 1) := by decide +kernel
theorem dX0_shift_19 : decode cX0_shift 19 = .ok (.lstore 5, 2) := by decide +kernel
theorem dX0_shift_21 : decode cX0_shift 21 = .ok (.iload_n 2, 1) := by decide +kernel
theorem dX0_shift_22 : decode cX0_shift 22 = .ok (.iconst 2, 1) := by decide +kernel
theorem dX0_shift_23 : decode cX0_shift 23 = .ok (.iand, 1) := by decide +kernel
theorem dX0_shift_24 : decode cX0_shift 24 = .ok (.ifCond .eq 13, 3) := by decide +kernel
theorem dX0_shift_27 : decode cX0_shift 27 = .ok (.lload_n 3, 1) := by decide +kernel
theorem dX0_shift_28 : decode cX0_shift 28 = .ok (.lstore 7, 2) := by decide +kernel
theorem dX0_shift_30 : decode cX0_shift 30 = .ok (.lload 5, 2) := by decide +kernel
theorem dX0_shift_32 : decode cX0_shift 32 = .ok (.lstore_n 3, 1) := by decide +kernel
theorem dX0_shift_33 : decode cX0_shift 33 = .ok (.lload 7, 2) := by decide +kernel
theorem dX0_shift_35 : decode cX0_shift 35 = .ok (.lstore 5, 2) := by decide +kernel
theorem dX0_shift_37 : decode cX0_shift 37 = .ok (.iload_n 2, 1) := by decide +kernel
theorem dX0_shift_38 : decode cX0_shift 38 = .ok (.iconst 1, 1) := by decide +kernel
theorem dX0_shift_39 : decode cX0_shift 39 = .ok (.iand, 1) := by decide +kernel
theorem dX0_shift_40 : decode cX0_shift 40 = .ok (.ifCond .eq 30, 3) := by decide +kernel
theorem dX0_shift_43 : decode cX0_shift 43 = .ok (.lload_n 3, 1) := by decide +kernel
theorem dX0_shift_44 : decode cX0_shift 44 = .ok (.bipush 32, 2) := by decide +kernel
theorem dX0_shift_46 : decode cX0_shift 46 = .ok (.lushr, 1) := by decide +kernel
theorem dX0_shift_47 : decode cX0_shift 47 = .ok (.lload 5, 2) := by decide +kernel
theorem dX0_shift_49 : decode cX0_shift 49 = .ok (.bipush 32, 2) := by decide +kernel
theorem dX0_shift_51 : decode cX0_shift 51 = .ok (.lshl, 1) := by decide +kernel
theorem dX0_shift_52 : decode cX0_shift 52 = .ok (.lor, 1) := by decide +kernel
theorem dX0_shift_53 : decode cX0_shift 53 = .ok (.lstore 7, 2) := by decide +kernel
theorem dX0_shift_55 : decode cX0_shift 55 = .ok (.lload 5, 2) := by decide +kernel
theorem dX0_shift_57 : decode cX0_shift 57 = .ok (.bipush 32, 2) := by decide +kernel
theorem dX0_shift_59 : decode cX0_shift 59 = .ok (.lushr, 1) := by decide +kernel
theorem dX0_shift_60 : decode cX0_shift 60 = .ok (.lload_n 3, 1) := by decide +kernel
theorem dX0_shift_61 : decode cX0_shift 61 = .ok (.bipush 32, 2) := by decide +kernel
theorem dX0_shift_63 : decode cX0_shift 63 = .ok (.lshl, 1) := by decide +kernel
theorem dX0_shift_64 : decode cX0_shift 64 = .ok (.lor, 1) := by decide +kernel
theorem dX0_shift_65 : decode cX0_shift 65 = .ok (.lstore 5, 2) := by decide +kernel
theorem dX0_shift_67 : decode cX0_shift 67 = .ok (.lload 7, 2) := by decide +kernel
theorem dX0_shift_69 : decode cX0_shift 69 = .ok (.lstore_n 3, 1) := by decide +kernel
theorem dX0_shift_70 : decode cX0_shift 70 = .ok (.aload_n 0, 1) := by decide +kernel
theorem dX0_shift_71 : decode cX0_shift 71 = .ok (.getfield 26, 3) := by decide +kernel
theorem dX0_shift_74 : decode cX0_shift 74 = .ok (.iconst 2, 1) := by decide +kernel
theorem dX0_shift_75 : decode cX0_shift 75 = .ok (.iload_n 1, 1) := by decide +kernel
theorem dX0_shift_76 : decode cX0_shift 76 = .ok (.imul, 1) := by decide +kernel
theorem dX0_shift_77 : decode cX0_shift 77 = .ok (.lload_n 3, 1) := by decide +kernel
theorem dX0_shift_78 : decode cX0_shift 78 = .ok (.lastore, 1) := by decide +kernel
theorem dX0_shift_79 : decode cX0_shift 79 = .ok (.aload_n 0, 1) := by decide +kernel
theorem dX0_shift_80 : decode cX0_shift 80 = .ok (.getfield 26, 3) := by decide +kernel
theorem dX0_shift_83 : decode cX0_shift 83 = .ok (.iconst 2, 1) := by decide +kernel
theorem dX0_shift_84 : decode cX0_shift 84 = .ok (.iload_n 1, 1) := by decide +kernel
theorem dX0_shift_85 : decode cX0_shift 85 = .ok (.imul, 1) := by decide +kernel
theorem dX0_shift_86 : decode cX0_shift 86 = .ok (.iconst 1, 1) := by decide +kernel
theorem dX0_shift_87 : decode cX0_shift 87 = .ok (.iadd, 1) := by decide +kernel
theorem dX0_shift_88 : decode cX0_shift 88 = .ok (.lload 5, 2) := by decide +kernel
theorem dX0_shift_90 : decode cX0_shift 90 = .ok (.lastore, 1) := by decide +kernel
theorem dX0_shift_91 : decode cX0_shift 91 = .ok (.return_, 1) := by decide +kernel
theorem dX0_change_0 : decode cX0_change 0 = .ok (.iconst 0, 1) := by decide +kernel
theorem dX0_change_1 : decode cX0_change 1 = .ok (.istore_n 3, 1) := by decide +kernel
theorem dX0_change_2 : decode cX0_change 2 = .ok (.iload_n 3, 1) := by decide +kernel
theorem dX0_change_3 : decode cX0_change 3 = .ok (.iconst 2, 1) := by decide +kernel
theorem dX0_change_4 : decode cX0_change 4 = .ok (.if_icmp .ge 53, 3) := by decide +kernel
theorem dX0_change_7 : decode cX0_change 7 = .ok (.aload_n 0, 1) := by decide +kernel
theorem dX0_change_8 : decode cX0_change 8 = .ok (.getfield 26, 3) := by decide +kernel
theorem dX0_change_11 : decode cX0_change 11 = .ok (.iconst 2, 1) := by decide +kernel
theorem dX0_change_12 : decode cX0_change 12 = .ok (.iload_n 1, 1) := by decide +kernel
theorem dX0_change_13 : decode cX0_change 13 = .ok (.imul, 1) := by decide +kernel
theorem dX0_change_14 : decode cX0_change 14 = .ok (.iload_n 3, 1) := by decide +kernel
theorem dX0_change_15 : decode cX0_change 15 = .ok (.iadd, 1) := by decide +kernel
theorem dX0_change_16 : decode cX0_change 16 = .ok (.laload, 1) := by decide +kernel
theorem dX0_change_17 : decode cX0_change 17 = .ok (.lstore 4, 2) := by decide +kernel
theorem dX0_change_19 : decode cX0_change 19 = .ok (.aload_n 0, 1) := by decide +kernel
theorem dX0_change_20 : decode cX0_change 20 = .ok (.getfield 26, 3) := by decide +kernel
theorem dX0_change_23 : decode cX0_change 23 = .ok (.iconst 2, 1) := by decide +kernel
theorem dX0_change_24 : decode cX0_change 24 = .ok (.iload_n 1, 1) := by decide +kernel
theorem dX0_change_25 : decode cX0_change 25 = .ok (.imul, 1) := by decide +kernel
theorem dX0_change_26 : decode cX0_change 26 = .ok (.iload_n 3, 1) := by decide +kernel
theorem dX0_change_27 : decode cX0_change 27 = .ok (.iadd, 1) := by decide +kernel
theorem dX0_change_28 : decode cX0_change 28 = .ok (.aload_n 0, 1) := by decide +kernel
theorem dX0_change_29 : decode cX0_change 29 = .ok (.getfield 26, 3) := by decide +kernel
theorem dX0_change_32 : decode cX0_change 32 = .ok (.iconst 2, 1) := by decide +kernel
theorem dX0_change_33 : decode cX0_change 33 = .ok (.iload_n 2, 1) := by decide +kernel
theorem dX0_change_34 : decode cX0_change 34 = .ok (.imul, 1) := by decide +kernel
theorem dX0_change_35 : decode cX0_change 35 = .ok (.iload_n 3, 1) := by decide +kernel
theorem dX0_change_36 : decode cX0_change 36 = .ok (.iadd, 1) := by decide +kernel
theorem dX0_change_37 : decode cX0_change 37 = .ok (.laload, 1) := by decide +kernel
theorem dX0_change_38 : decode cX0_change 38 = .ok (.lastore, 1) := by decide +kernel
theorem dX0_change_39 : decode cX0_change 39 = .ok (.aload_n 0, 1) := by decide +kernel
theorem dX0_change_40 : decode cX0_change 40 = .ok (.getfield 26, 3) := by decide +kernel
theorem dX0_change_43 : decode cX0_change 43 = .ok (.iconst 2, 1) := by decide +kernel
theorem dX0_change_44 : decode cX0_change 44 = .ok (.iload_n 2, 1) := by decide +kernel
theorem dX0_change_45 : decode cX0_change 45 = .ok (.imul, 1) := by decide +kernel
theorem dX0_change_46 : decode cX0_change 46 = .ok (.iload_n 3, 1) := by decide +kernel
theorem dX0_change_47 : decode cX0_change 47 = .ok (.iadd, 1) := by decide +kernel
theorem dX0_change_48 : decode cX0_change 48 = .ok (.lload 4, 2) := by decide +kernel
theorem dX0_change_50 : decode cX0_change 50 = .ok (.lastore, 1) := by decide +kernel
theorem dX0_change_51 : decode cX0_change 51 = .ok (.iinc 3 1, 3) := by decide +kernel
theorem dX0_change_54 : decode cX0_change 54 = .ok (.goto (-52), 3) := by decide +kernel
theorem dX0_change_57 : decode cX0_change 57 = .ok (.return_, 1) := by decide +kernel
theorem dX0_word_0 : decode cX0_word 0 = .ok (.aload_n 0, 1) := by decide +kernel
theorem dX0_word_1 : decode cX0_word 1 = .ok (.getfield 26, 3) := by decide +kernel
theorem dX0_word_4 : decode cX0_word 4 = .ok (.iconst 2, 1) := by decide +kernel
theorem dX0_word_5 : decode cX0_word 5 = .ok (.iload_n 1, 1) := by decide +kernel
theorem dX0_word_6 : decode cX0_word 6 = .ok (.imul, 1) := by decide +kernel
theorem dX0_word_7 : decode cX0_word 7 = .ok (.iload_n 2, 1) := by decide +kernel
theorem dX0_word_8 : decode cX0_word 8 = .ok (.iconst 2, 1) := by decide +kernel
theorem dX0_word_9 : decode cX0_word 9 = .ok (.idiv, 1) := by decide +kernel
theorem dX0_word_10 : decode cX0_word 10 = .ok (.iadd, 1) := by decide +kernel
theorem dX0_word_11 : decode cX0_word 11 = .ok (.laload, 1) := by decide +kernel
theorem dX0_word_12 : decode cX0_word 12 = .ok (.bipush 32, 2) := by decide +kernel
theorem dX0_word_14 : decode cX0_word 14 = .ok (.iload_n 2, 1) := by decide +kernel
theorem dX0_word_15 : decode cX0_word 15 = .ok (.iconst 1, 1) := by decide +kernel
theorem dX0_word_16 : decode cX0_word 16 = .ok (.iand, 1) := by decide +kernel
theorem dX0_word_17 : decode cX0_word 17 = .ok (.imul, 1) := by decide +kernel
theorem dX0_word_18 : decode cX0_word 18 = .ok (.lushr, 1) := by decide +kernel
theorem dX0_word_19 : decode cX0_word 19 = .ok (.l2i, 1) := by decide +kernel
theorem dX0_word_20 : decode cX0_word 20 = .ok (.ireturn, 1) := by decide +kernel
theorem dX0_chacha_0 : decode cX0_chacha 0 = .ok (.aload_n 0, 1) := by decide +kernel
theorem dX0_chacha_1 : decode cX0_chacha 1 = .ok (.aload_n 0, 1) := by decide +kernel
theorem dX0_chacha_2 : decode cX0_chacha 2 = .ok (.getfield 9, 3) := by decide +kernel
theorem dX0_chacha_5 : decode cX0_chacha 5 = .ok (.iconst 2, 1) := by decide +kernel
theorem dX0_chacha_6 : decode cX0_chacha 6 = .ok (.iconst 2, 1) := by decide +kernel
theorem dX0_chacha_7 : decode cX0_chacha 7 = .ok (.iload_n 1, 1) := by decide +kernel
theorem dX0_chacha_8 : decode cX0_chacha 8 = .ok (.bipush 15, 2) := by decide +kernel
theorem dX0_chacha_10 : decode cX0_chacha 10 = .ok (.iand, 1) := by decide +kernel
theorem dX0_chacha_11 : decode cX0_chacha 11 = .ok (.imul, 1) := by decide +kernel
theorem dX0_chacha_12 : decode cX0_chacha 12 = .ok (.iadd, 1) := by decide +kernel
theorem dX0_chacha_13 : decode cX0_chacha 13 = .ok (.invokevirtual 85, 3) := by decide +kernel
theorem dX0_chacha_16 : decode cX0_chacha 16 = .ok (.iconst 0, 1) := by decide +kernel
theorem dX0_chacha_17 : decode cX0_chacha 17 = .ok (.istore_n 2, 1) := by decide +kernel
theorem dX0_chacha_18 : decode cX0_chacha 18 = .ok (.iload_n 2, 1) := by decide +kernel
theorem dX0_chacha_19 : decode cX0_chacha 19 = .ok (.bipush 16, 2) := by decide +kernel
theorem dX0_chacha_21 : decode cX0_chacha 21 = .ok (.if_icmp .ge 32, 3) := by decide +kernel
theorem dX0_chacha_24 : decode cX0_chacha 24 = .ok (.aload_n 0, 1) := by decide +kernel
theorem dX0_chacha_25 : decode cX0_chacha 25 = .ok (.getfield 13, 3) := by decide +kernel
theorem dX0_chacha_28 : decode cX0_chacha 28 = .ok (.iload_n 2, 1) := by decide +kernel
theorem dX0_chacha_29 : decode cX0_chacha 29 = .ok (.aload_n 0, 1) := by decide +kernel
theorem dX0_chacha_30 : decode cX0_chacha 30 = .ok (.getfield 9, 3) := by decide +kernel
theorem dX0_chacha_33 : decode cX0_chacha 33 = .ok (.iload_n 2, 1) := by decide +kernel
theorem dX0_chacha_34 : decode cX0_chacha 34 = .ok (.iaload, 1) := by decide +kernel
theorem dX0_chacha_35 : decode cX0_chacha 35 = .ok (.aload_n 0, 1) := by decide +kernel
theorem dX0_chacha_36 : decode cX0_chacha 36 = .ok (.iload_n 2, 1) := by decide +kernel
theorem dX0_chacha_37 : decode cX0_chacha 37 = .ok (.iconst 4, 1) := by decide +kernel
theorem dX0_chacha_38 : decode cX0_chacha 38 = .ok (.idiv, 1) := by decide +kernel
theorem dX0_chacha_39 : decode cX0_chacha 39 = .ok (.iload_n 2, 1) := by decide +kernel
theorem dX0_chacha_40 : decode cX0_chacha 40 = .ok (.iconst 3, 1) := by decide +kernel
theorem dX0_chacha_41 : decode cX0_chacha 41 = .ok (.iand, 1) := by decide +kernel
theorem dX0_chacha_42 : decode cX0_chacha 42 = .ok (.invokevirtual 67, 3) := by decide +kernel
theorem dX0_chacha_45 : decode cX0_chacha 45 = .ok (.iadd, 1) := by decide +kernel
theorem dX0_chacha_46 : decode cX0_chacha 46 = .ok (.iastore, 1) := by decide +kernel
theorem dX0_chacha_47 : decode cX0_chacha 47 = .ok (.iinc 2 1, 3) := by decide +kernel
theorem dX0_chacha_50 : decode cX0_chacha 50 = .ok (.goto (-32), 3) := by decide +kernel
theorem dX0_chacha_53 : decode cX0_chacha 53 = .ok (.return_, 1) := by decide +kernel
theorem dX0_mixB_0 : decode cX0_mixB 0 = .ok (.iconst 0, 1) := by decide +kernel
theorem dX0_mixB_1 : decode cX0_mixB 1 = .ok (.istore_n 3, 1) := by decide +kernel
theorem dX0_mixB_2 : decode cX0_mixB 2 = .ok (.iload_n 3, 1) := by decide +kernel
theorem dX0_mixB_3 : decode cX0_mixB 3 = .ok (.iconst 4, 1) := by decide +kernel
theorem dX0_mixB_4 : decode cX0_mixB 4 = .ok (.if_icmp .ge 40, 3) := by decide +kernel
theorem dX0_mixB_7 : decode cX0_mixB 7 = .ok (.aload_n 0, 1) := by decide +kernel
theorem dX0_mixB_8 : decode cX0_mixB 8 = .ok (.iload_n 3, 1) := by decide +kernel
theorem dX0_mixB_9 : decode cX0_mixB 9 = .ok (.aload_n 1, 1) := by decide +kernel
theorem dX0_mixB_10 : decode cX0_mixB 10 = .ok (.iconst 4, 1) := by decide +kernel
theorem dX0_mixB_11 : decode cX0_mixB 11 = .ok (.iload_n 3, 1) := by decide +kernel
theorem dX0_mixB_12 : decode cX0_mixB 12 = .ok (.imul, 1) := by decide +kernel
theorem dX0_mixB_13 : decode cX0_mixB 13 = .ok (.iaload, 1) := by decide +kernel
theorem dX0_mixB_14 : decode cX0_mixB 14 = .ok (.aload_n 1, 1) := by decide +kernel
theorem dX0_mixB_15 : decode cX0_mixB 15 = .ok (.iconst 4, 1) := by decide +kernel
theorem dX0_mixB_16 : decode cX0_mixB 16 = .ok (.iload_n 3, 1) := by decide +kernel
theorem dX0_mixB_17 : decode cX0_mixB 17 = .ok (.imul, 1) := by decide +kernel
theorem dX0_mixB_18 : decode cX0_mixB 18 = .ok (.iconst 1, 1) := by decide +kernel
theorem dX0_mixB_19 : decode cX0_mixB 19 = .ok (.iadd, 1) := by decide +kernel
theorem dX0_mixB_20 : decode cX0_mixB 20 = .ok (.iaload, 1) := by decide +kernel
theorem dX0_mixB_21 : decode cX0_mixB 21 = .ok (.aload_n 1, 1) := by decide +kernel
theorem dX0_mixB_22 : decode cX0_mixB 22 = .ok (.iconst 4, 1) := by decide +kernel
theorem dX0_mixB_23 : decode cX0_mixB 23 = .ok (.iload_n 3, 1) := by decide +kernel
theorem dX0_mixB_24 : decode cX0_mixB 24 = .ok (.imul, 1) := by decide +kernel
theorem dX0_mixB_25 : decode cX0_mixB 25 = .ok (.iconst 2, 1) := by decide +kernel
theorem dX0_mixB_26 : decode cX0_mixB 26 = .ok (.iadd, 1) := by decide +kernel
theorem dX0_mixB_27 : decode cX0_mixB 27 = .ok (.iaload, 1) := by decide +kernel
theorem dX0_mixB_28 : decode cX0_mixB 28 = .ok (.aload_n 1, 1) := by decide +kernel
theorem dX0_mixB_29 : decode cX0_mixB 29 = .ok (.iconst 4, 1) := by decide +kernel
theorem dX0_mixB_30 : decode cX0_mixB 30 = .ok (.iload_n 3, 1) := by decide +kernel
theorem dX0_mixB_31 : decode cX0_mixB 31 = .ok (.imul, 1) := by decide +kernel
theorem dX0_mixB_32 : decode cX0_mixB 32 = .ok (.iconst 3, 1) := by decide +kernel
theorem dX0_mixB_33 : decode cX0_mixB 33 = .ok (.iadd, 1) := by decide +kernel
theorem dX0_mixB_34 : decode cX0_mixB 34 = .ok (.iaload, 1) := by decide +kernel
theorem dX0_mixB_35 : decode cX0_mixB 35 = .ok (.invokevirtual 57, 3) := by decide +kernel
theorem dX0_mixB_38 : decode cX0_mixB 38 = .ok (.iinc 3 1, 3) := by decide +kernel
theorem dX0_mixB_41 : decode cX0_mixB 41 = .ok (.goto (-39), 3) := by decide +kernel
theorem dX0_mixB_44 : decode cX0_mixB 44 = .ok (.iconst 0, 1) := by decide +kernel
theorem dX0_mixB_45 : decode cX0_mixB 45 = .ok (.istore_n 3, 1) := by decide +kernel
theorem dX0_mixB_46 : decode cX0_mixB 46 = .ok (.iload_n 3, 1) := by decide +kernel
theorem dX0_mixB_47 : decode cX0_mixB 47 = .ok (.iload_n 2, 1) := by decide +kernel
theorem dX0_mixB_48 : decode cX0_mixB 48 = .ok (.if_icmp .ge 65, 3) := by decide +kernel
theorem dX0_mixB_51 : decode cX0_mixB 51 = .ok (.aload_n 0, 1) := by decide +kernel
theorem dX0_mixB_52 : decode cX0_mixB 52 = .ok (.invokevirtual 78, 3) := by decide +kernel
theorem dX0_mixB_55 : decode cX0_mixB 55 = .ok (.iconst 1, 1) := by decide +kernel
theorem dX0_mixB_56 : decode cX0_mixB 56 = .ok (.istore 4, 2) := by decide +kernel
theorem dX0_mixB_58 : decode cX0_mixB 58 = .ok (.iload 4, 2) := by decide +kernel
theorem dX0_mixB_60 : decode cX0_mixB 60 = .ok (.iconst 4, 1) := by decide +kernel
theorem dX0_mixB_61 : decode cX0_mixB 61 = .ok (.if_icmp .ge 17, 3) := by decide +kernel
theorem dX0_mixB_64 : decode cX0_mixB 64 = .ok (.aload_n 0, 1) := by decide +kernel
theorem dX0_mixB_65 : decode cX0_mixB 65 = .ok (.iload 4, 2) := by decide +kernel
theorem dX0_mixB_67 : decode cX0_mixB 67 = .ok (.iload 4, 2) := by decide +kernel
theorem dX0_mixB_69 : decode cX0_mixB 69 = .ok (.invokevirtual 71, 3) := by decide +kernel
theorem dX0_mixB_72 : decode cX0_mixB 72 = .ok (.iinc 4 1, 3) := by decide +kernel
theorem dX0_mixB_75 : decode cX0_mixB 75 = .ok (.goto (-17), 3) := by decide +kernel
theorem dX0_mixB_78 : decode cX0_mixB 78 = .ok (.aload_n 0, 1) := by decide +kernel
theorem dX0_mixB_79 : decode cX0_mixB 79 = .ok (.invokevirtual 78, 3) := by decide +kernel
theorem dX0_mixB_82 : decode cX0_mixB 82 = .ok (.iconst 1, 1) := by decide +kernel
theorem dX0_mixB_83 : decode cX0_mixB 83 = .ok (.istore 4, 2) := by decide +kernel
theorem dX0_mixB_85 : decode cX0_mixB 85 = .ok (.iload 4, 2) := by decide +kernel
end
section
set_option maxRecDepth 100000
theorem dX0_mixB_87 : decode cX0_mixB 87 = .ok (.iconst 4, 1) := by decide +kernel
theorem dX0_mixB_88 : decode cX0_mixB 88 = .ok (.if_icmp .ge 19, 3) := by decide +kernel
theorem dX0_mixB_91 : decode cX0_mixB 91 = .ok (.aload_n 0, 1) := by decide +kernel
theorem dX0_mixB_92 : decode cX0_mixB 92 = .ok (.iload 4, 2) := by decide +kernel
theorem dX0_mixB_94 : decode cX0_mixB 94 = .ok (.iconst 4, 1) := by decide +kernel
theorem dX0_mixB_95 : decode cX0_mixB 95 = .ok (.iload 4, 2) := by decide +kernel
theorem dX0_mixB_97 : decode cX0_mixB 97 = .ok (.isub, 1) := by decide +kernel
theorem dX0_mixB_98 : decode cX0_mixB 98 = .ok (.invokevirtual 71, 3) := by decide +kernel
theorem dX0_mixB_101 : decode cX0_mixB 101 = .ok (.iinc 4 1, 3) := by decide +kernel
theorem dX0_mixB_104 : decode cX0_mixB 104 = .ok (.goto (-19), 3) := by decide +kernel
theorem dX0_mixB_107 : decode cX0_mixB 107 = .ok (.iinc 3 2, 3) := by decide +kernel
theorem dX0_mixB_110 : decode cX0_mixB 110 = .ok (.goto (-64), 3) := by decide +kernel
theorem dX0_mixB_113 : decode cX0_mixB 113 = .ok (.return_, 1) := by decide +kernel
theorem dX0_quarterAll_0 : decode cX0_quarterAll 0 = .ok (.aload_n 0, 1) := by decide +kernel
theorem dX0_quarterAll_1 : decode cX0_quarterAll 1 = .ok (.iconst 0, 1) := by decide +kernel
theorem dX0_quarterAll_2 : decode cX0_quarterAll 2 = .ok (.iconst 1, 1) := by decide +kernel
theorem dX0_quarterAll_3 : decode cX0_quarterAll 3 = .ok (.iconst 3, 1) := by decide +kernel
theorem dX0_quarterAll_4 : decode cX0_quarterAll 4 = .ok (.bipush 16, 2) := by decide +kernel
theorem dX0_quarterAll_6 : decode cX0_quarterAll 6 = .ok (.invokevirtual 54, 3) := by decide +kernel
theorem dX0_quarterAll_9 : decode cX0_quarterAll 9 = .ok (.aload_n 0, 1) := by decide +kernel
theorem dX0_quarterAll_10 : decode cX0_quarterAll 10 = .ok (.iconst 2, 1) := by decide +kernel
theorem dX0_quarterAll_11 : decode cX0_quarterAll 11 = .ok (.iconst 3, 1) := by decide +kernel
theorem dX0_quarterAll_12 : decode cX0_quarterAll 12 = .ok (.iconst 1, 1) := by decide +kernel
theorem dX0_quarterAll_13 : decode cX0_quarterAll 13 = .ok (.bipush 12, 2) := by decide +kernel
theorem dX0_quarterAll_15 : decode cX0_quarterAll 15 = .ok (.invokevirtual 54, 3) := by decide +kernel
theorem dX0_quarterAll_18 : decode cX0_quarterAll 18 = .ok (.aload_n 0, 1) := by decide +kernel
theorem dX0_quarterAll_19 : decode cX0_quarterAll 19 = .ok (.iconst 0, 1) := by decide +kernel
theorem dX0_quarterAll_20 : decode cX0_quarterAll 20 = .ok (.iconst 1, 1) := by decide +kernel
theorem dX0_quarterAll_21 : decode cX0_quarterAll 21 = .ok (.iconst 3, 1) := by decide +kernel
theorem dX0_quarterAll_22 : decode cX0_quarterAll 22 = .ok (.bipush 8, 2) := by decide +kernel
theorem dX0_quarterAll_24 : decode cX0_quarterAll 24 = .ok (.invokevirtual 54, 3) := by decide +kernel
theorem dX0_quarterAll_27 : decode cX0_quarterAll 27 = .ok (.aload_n 0, 1) := by decide +kernel
theorem dX0_quarterAll_28 : decode cX0_quarterAll 28 = .ok (.iconst 2, 1) := by decide +kernel
theorem dX0_quarterAll_29 : decode cX0_quarterAll 29 = .ok (.iconst 3, 1) := by decide +kernel
theorem dX0_quarterAll_30 : decode cX0_quarterAll 30 = .ok (.iconst 1, 1) := by decide +kernel
theorem dX0_quarterAll_31 : decode cX0_quarterAll 31 = .ok (.bipush 7, 2) := by decide +kernel
theorem dX0_quarterAll_33 : decode cX0_quarterAll 33 = .ok (.invokevirtual 54, 3) := by decide +kernel
theorem dX0_quarterAll_36 : decode cX0_quarterAll 36 = .ok (.return_, 1) := by decide +kernel
theorem dX0_quarter_0 : decode cX0_quarter 0 = .ok (.iconst 0, 1) := by decide +kernel
theorem dX0_quarter_1 : decode cX0_quarter 1 = .ok (.istore 5, 2) := by decide +kernel
theorem dX0_quarter_3 : decode cX0_quarter 3 = .ok (.iload 5, 2) := by decide +kernel
theorem dX0_quarter_5 : decode cX0_quarter 5 = .ok (.iconst 2, 1) := by decide +kernel
theorem dX0_quarter_6 : decode cX0_quarter 6 = .ok (.if_icmp .ge 84, 3) := by decide +kernel
theorem dX0_quarter_9 : decode cX0_quarter 9 = .ok (.aload_n 0, 1) := by decide +kernel
theorem dX0_quarter_10 : decode cX0_quarter 10 = .ok (.getfield 26, 3) := by decide +kernel
theorem dX0_quarter_13 : decode cX0_quarter 13 = .ok (.iconst 2, 1) := by decide +kernel
theorem dX0_quarter_14 : decode cX0_quarter 14 = .ok (.iload_n 1, 1) := by decide +kernel
theorem dX0_quarter_15 : decode cX0_quarter 15 = .ok (.imul, 1) := by decide +kernel
theorem dX0_quarter_16 : decode cX0_quarter 16 = .ok (.iload 5, 2) := by decide +kernel
theorem dX0_quarter_18 : decode cX0_quarter 18 = .ok (.iadd, 1) := by decide +kernel
theorem dX0_quarter_19 : decode cX0_quarter 19 = .ok (.aload_n 0, 1) := by decide +kernel
theorem dX0_quarter_20 : decode cX0_quarter 20 = .ok (.getfield 26, 3) := by decide +kernel
theorem dX0_quarter_23 : decode cX0_quarter 23 = .ok (.iconst 2, 1) := by decide +kernel
theorem dX0_quarter_24 : decode cX0_quarter 24 = .ok (.iload_n 1, 1) := by decide +kernel
theorem dX0_quarter_25 : decode cX0_quarter 25 = .ok (.imul, 1) := by decide +kernel
theorem dX0_quarter_26 : decode cX0_quarter 26 = .ok (.iload 5, 2) := by decide +kernel
theorem dX0_quarter_28 : decode cX0_quarter 28 = .ok (.iadd, 1) := by decide +kernel
theorem dX0_quarter_29 : decode cX0_quarter 29 = .ok (.laload, 1) := by decide +kernel
theorem dX0_quarter_30 : decode cX0_quarter 30 = .ok (.aload_n 0, 1) := by decide +kernel
theorem dX0_quarter_31 : decode cX0_quarter 31 = .ok (.getfield 26, 3) := by decide +kernel
theorem dX0_quarter_34 : decode cX0_quarter 34 = .ok (.iconst 2, 1) := by decide +kernel
theorem dX0_quarter_35 : decode cX0_quarter 35 = .ok (.iload_n 2, 1) := by decide +kernel
theorem dX0_quarter_36 : decode cX0_quarter 36 = .ok (.imul, 1) := by decide +kernel
theorem dX0_quarter_37 : decode cX0_quarter 37 = .ok (.iload 5, 2) := by decide +kernel
theorem dX0_quarter_39 : decode cX0_quarter 39 = .ok (.iadd, 1) := by decide +kernel
theorem dX0_quarter_40 : decode cX0_quarter 40 = .ok (.laload, 1) := by decide +kernel
theorem dX0_quarter_41 : decode cX0_quarter 41 = .ok (.invokestatic 42, 3) := by decide +kernel
theorem dX0_quarter_44 : decode cX0_quarter 44 = .ok (.lastore, 1) := by decide +kernel
theorem dX0_quarter_45 : decode cX0_quarter 45 = .ok (.aload_n 0, 1) := by decide +kernel
theorem dX0_quarter_46 : decode cX0_quarter 46 = .ok (.getfield 26, 3) := by decide +kernel
theorem dX0_quarter_49 : decode cX0_quarter 49 = .ok (.iconst 2, 1) := by decide +kernel
theorem dX0_quarter_50 : decode cX0_quarter 50 = .ok (.iload_n 3, 1) := by decide +kernel
theorem dX0_quarter_51 : decode cX0_quarter 51 = .ok (.imul, 1) := by decide +kernel
theorem dX0_quarter_52 : decode cX0_quarter 52 = .ok (.iload 5, 2) := by decide +kernel
theorem dX0_quarter_54 : decode cX0_quarter 54 = .ok (.iadd, 1) := by decide +kernel
theorem dX0_quarter_55 : decode cX0_quarter 55 = .ok (.aload_n 0, 1) := by decide +kernel
theorem dX0_quarter_56 : decode cX0_quarter 56 = .ok (.getfield 26, 3) := by decide +kernel
theorem dX0_quarter_59 : decode cX0_quarter 59 = .ok (.iconst 2, 1) := by decide +kernel
theorem dX0_quarter_60 : decode cX0_quarter 60 = .ok (.iload_n 3, 1) := by decide +kernel
theorem dX0_quarter_61 : decode cX0_quarter 61 = .ok (.imul, 1) := by decide +kernel
theorem dX0_quarter_62 : decode cX0_quarter 62 = .ok (.iload 5, 2) := by decide +kernel
theorem dX0_quarter_64 : decode cX0_quarter 64 = .ok (.iadd, 1) := by decide +kernel
theorem dX0_quarter_65 : decode cX0_quarter 65 = .ok (.laload, 1) := by decide +kernel
theorem dX0_quarter_66 : decode cX0_quarter 66 = .ok (.aload_n 0, 1) := by decide +kernel
theorem dX0_quarter_67 : decode cX0_quarter 67 = .ok (.getfield 26, 3) := by decide +kernel
theorem dX0_quarter_70 : decode cX0_quarter 70 = .ok (.iconst 2, 1) := by decide +kernel
theorem dX0_quarter_71 : decode cX0_quarter 71 = .ok (.iload_n 1, 1) := by decide +kernel
theorem dX0_quarter_72 : decode cX0_quarter 72 = .ok (.imul, 1) := by decide +kernel
theorem dX0_quarter_73 : decode cX0_quarter 73 = .ok (.iload 5, 2) := by decide +kernel
theorem dX0_quarter_75 : decode cX0_quarter 75 = .ok (.iadd, 1) := by decide +kernel
theorem dX0_quarter_76 : decode cX0_quarter 76 = .ok (.laload, 1) := by decide +kernel
theorem dX0_quarter_77 : decode cX0_quarter 77 = .ok (.lxor, 1) := by decide +kernel
theorem dX0_quarter_78 : decode cX0_quarter 78 = .ok (.iload 4, 2) := by decide +kernel
theorem dX0_quarter_80 : decode cX0_quarter 80 = .ok (.invokestatic 46, 3) := by decide +kernel
theorem dX0_quarter_83 : decode cX0_quarter 83 = .ok (.lastore, 1) := by decide +kernel
theorem dX0_quarter_84 : decode cX0_quarter 84 = .ok (.iinc 5 1, 3) := by decide +kernel
theorem dX0_quarter_87 : decode cX0_quarter 87 = .ok (.goto (-84), 3) := by decide +kernel
theorem dX0_quarter_90 : decode cX0_quarter 90 = .ok (.return_, 1) := by decide +kernel
theorem dX0_again_0 : decode cX0_again 0 = .ok (.iconst 0, 1) := by decide +kernel
theorem dX0_again_1 : decode cX0_again 1 = .ok (.istore_n 1, 1) := by decide +kernel
theorem dX0_again_2 : decode cX0_again 2 = .ok (.iload_n 1, 1) := by decide +kernel
theorem dX0_again_3 : decode cX0_again 3 = .ok (.bipush 16, 2) := by decide +kernel
theorem dX0_again_5 : decode cX0_again 5 = .ok (.if_icmp .ge 21, 3) := by decide +kernel
theorem dX0_again_8 : decode cX0_again 8 = .ok (.aload_n 0, 1) := by decide +kernel
theorem dX0_again_9 : decode cX0_again 9 = .ok (.getfield 9, 3) := by decide +kernel
theorem dX0_again_12 : decode cX0_again 12 = .ok (.iload_n 1, 1) := by decide +kernel
theorem dX0_again_13 : decode cX0_again 13 = .ok (.aload_n 0, 1) := by decide +kernel
theorem dX0_again_14 : decode cX0_again 14 = .ok (.getfield 13, 3) := by decide +kernel
theorem dX0_again_17 : decode cX0_again 17 = .ok (.iload_n 1, 1) := by decide +kernel
theorem dX0_again_18 : decode cX0_again 18 = .ok (.iaload, 1) := by decide +kernel
theorem dX0_again_19 : decode cX0_again 19 = .ok (.iastore, 1) := by decide +kernel
theorem dX0_again_20 : decode cX0_again 20 = .ok (.iinc 1 1, 3) := by decide +kernel
theorem dX0_again_23 : decode cX0_again 23 = .ok (.goto (-21), 3) := by decide +kernel
theorem dX0_again_26 : decode cX0_again 26 = .ok (.return_, 1) := by decide +kernel
theorem dX0_out_0 : decode cX0_out 0 = .ok (.aload_n 0, 1) := by decide +kernel
theorem dX0_out_1 : decode cX0_out 1 = .ok (.getfield 13, 3) := by decide +kernel
theorem dX0_out_4 : decode cX0_out 4 = .ok (.iload_n 1, 1) := by decide +kernel
theorem dX0_out_5 : decode cX0_out 5 = .ok (.bipush 15, 2) := by decide +kernel
theorem dX0_out_7 : decode cX0_out 7 = .ok (.iand, 1) := by decide +kernel
theorem dX0_out_8 : decode cX0_out 8 = .ok (.iaload, 1) := by decide +kernel
theorem dX0_out_9 : decode cX0_out 9 = .ok (.ireturn, 1) := by decide +kernel
theorem dX0_key_0 : decode cX0_key 0 = .ok (.iconst 4, 1) := by decide +kernel
theorem dX0_key_1 : decode cX0_key 1 = .ok (.iload_n 1, 1) := by decide +kernel
theorem dX0_key_2 : decode cX0_key 2 = .ok (.iconst 1, 1) := by decide +kernel
theorem dX0_key_3 : decode cX0_key 3 = .ok (.iand, 1) := by decide +kernel
theorem dX0_key_4 : decode cX0_key 4 = .ok (.imul, 1) := by decide +kernel
theorem dX0_key_5 : decode cX0_key 5 = .ok (.istore 6, 2) := by decide +kernel
theorem dX0_key_7 : decode cX0_key 7 = .ok (.aload_n 0, 1) := by decide +kernel
theorem dX0_key_8 : decode cX0_key 8 = .ok (.getfield 16, 3) := by decide +kernel
theorem dX0_key_11 : decode cX0_key 11 = .ok (.iload 6, 2) := by decide +kernel
theorem dX0_key_13 : decode cX0_key 13 = .ok (.iload_n 2, 1) := by decide +kernel
theorem dX0_key_14 : decode cX0_key 14 = .ok (.iastore, 1) := by decide +kernel
theorem dX0_key_15 : decode cX0_key 15 = .ok (.aload_n 0, 1) := by decide +kernel
theorem dX0_key_16 : decode cX0_key 16 = .ok (.getfield 16, 3) := by decide +kernel
theorem dX0_key_19 : decode cX0_key 19 = .ok (.iload 6, 2) := by decide +kernel
theorem dX0_key_21 : decode cX0_key 21 = .ok (.iconst 1, 1) := by decide +kernel
theorem dX0_key_22 : decode cX0_key 22 = .ok (.iadd, 1) := by decide +kernel
theorem dX0_key_23 : decode cX0_key 23 = .ok (.iload_n 3, 1) := by decide +kernel
theorem dX0_key_24 : decode cX0_key 24 = .ok (.iastore, 1) := by decide +kernel
theorem dX0_key_25 : decode cX0_key 25 = .ok (.aload_n 0, 1) := by decide +kernel
theorem dX0_key_26 : decode cX0_key 26 = .ok (.getfield 16, 3) := by decide +kernel
theorem dX0_key_29 : decode cX0_key 29 = .ok (.iload 6, 2) := by decide +kernel
theorem dX0_key_31 : decode cX0_key 31 = .ok (.iconst 2, 1) := by decide +kernel
theorem dX0_key_32 : decode cX0_key 32 = .ok (.iadd, 1) := by decide +kernel
theorem dX0_key_33 : decode cX0_key 33 = .ok (.iload 4, 2) := by decide +kernel
theorem dX0_key_35 : decode cX0_key 35 = .ok (.iastore, 1) := by decide +kernel
theorem dX0_key_36 : decode cX0_key 36 = .ok (.aload_n 0, 1) := by decide +kernel
theorem dX0_key_37 : decode cX0_key 37 = .ok (.getfield 16, 3) := by decide +kernel
theorem dX0_key_40 : decode cX0_key 40 = .ok (.iload 6, 2) := by decide +kernel
theorem dX0_key_42 : decode cX0_key 42 = .ok (.iconst 3, 1) := by decide +kernel
theorem dX0_key_43 : decode cX0_key 43 = .ok (.iadd, 1) := by decide +kernel
theorem dX0_key_44 : decode cX0_key 44 = .ok (.iload 5, 2) := by decide +kernel
theorem dX0_key_46 : decode cX0_key 46 = .ok (.iastore, 1) := by decide +kernel
theorem dX0_key_47 : decode cX0_key 47 = .ok (.return_, 1) := by decide +kernel
theorem dX0_nonce_0 : decode cX0_nonce 0 = .ok (.aload_n 0, 1) := by decide +kernel
theorem dX0_nonce_1 : decode cX0_nonce 1 = .ok (.getfield 19, 3) := by decide +kernel
theorem dX0_nonce_4 : decode cX0_nonce 4 = .ok (.iconst 0, 1) := by decide +kernel
theorem dX0_nonce_5 : decode cX0_nonce 5 = .ok (.ldc 88, 2) := by decide +kernel
theorem dX0_nonce_7 : decode cX0_nonce 7 = .ok (.iastore, 1) := by decide +kernel
theorem dX0_nonce_8 : decode cX0_nonce 8 = .ok (.aload_n 0, 1) := by decide +kernel
theorem dX0_nonce_9 : decode cX0_nonce 9 = .ok (.getfield 19, 3) := by decide +kernel
theorem dX0_nonce_12 : decode cX0_nonce 12 = .ok (.iconst 1, 1) := by decide +kernel
theorem dX0_nonce_13 : decode cX0_nonce 13 = .ok (.ldc 89, 2) := by decide +kernel
theorem dX0_nonce_15 : decode cX0_nonce 15 = .ok (.iastore, 1) := by decide +kernel
theorem dX0_nonce_16 : decode cX0_nonce 16 = .ok (.aload_n 0, 1) := by decide +kernel
theorem dX0_nonce_17 : decode cX0_nonce 17 = .ok (.getfield 19, 3) := by decide +kernel
theorem dX0_nonce_20 : decode cX0_nonce 20 = .ok (.iconst 2, 1) := by decide +kernel
theorem dX0_nonce_21 : decode cX0_nonce 21 = .ok (.ldc 90, 2) := by decide +kernel
theorem dX0_nonce_23 : decode cX0_nonce 23 = .ok (.iastore, 1) := by decide +kernel
theorem dX0_nonce_24 : decode cX0_nonce 24 = .ok (.aload_n 0, 1) := by decide +kernel
theorem dX0_nonce_25 : decode cX0_nonce 25 = .ok (.getfield 19, 3) := by decide +kernel
theorem dX0_nonce_28 : decode cX0_nonce 28 = .ok (.iconst 3, 1) := by decide +kernel
theorem dX0_nonce_29 : decode cX0_nonce 29 = .ok (.ldc 91, 2) := by decide +kernel
theorem dX0_nonce_31 : decode cX0_nonce 31 = .ok (.iastore, 1) := by decide +kernel
theorem dX0_nonce_32 : decode cX0_nonce 32 = .ok (.iconst 0, 1) := by decide +kernel
theorem dX0_nonce_33 : decode cX0_nonce 33 = .ok (.istore 4, 2) := by decide +kernel
theorem dX0_nonce_35 : decode cX0_nonce 35 = .ok (.iload 4, 2) := by decide +kernel
theorem dX0_nonce_37 : decode cX0_nonce 37 = .ok (.bipush 8, 2) := by decide +kernel
theorem dX0_nonce_39 : decode cX0_nonce 39 = .ok (.if_icmp .ge 25, 3) := by decide +kernel
theorem dX0_nonce_42 : decode cX0_nonce 42 = .ok (.aload_n 0, 1) := by decide +kernel
theorem dX0_nonce_43 : decode cX0_nonce 43 = .ok (.getfield 19, 3) := by decide +kernel
theorem dX0_nonce_46 : decode cX0_nonce 46 = .ok (.iconst 4, 1) := by decide +kernel
theorem dX0_nonce_47 : decode cX0_nonce 47 = .ok (.iload 4, 2) := by decide +kernel
theorem dX0_nonce_49 : decode cX0_nonce 49 = .ok (.iadd, 1) := by decide +kernel
theorem dX0_nonce_50 : decode cX0_nonce 50 = .ok (.aload_n 0, 1) := by decide +kernel
theorem dX0_nonce_51 : decode cX0_nonce 51 = .ok (.getfield 16, 3) := by decide +kernel
theorem dX0_nonce_54 : decode cX0_nonce 54 = .ok (.iload 4, 2) := by decide +kernel
theorem dX0_nonce_56 : decode cX0_nonce 56 = .ok (.iaload, 1) := by decide +kernel
theorem dX0_nonce_57 : decode cX0_nonce 57 = .ok (.iastore, 1) := by decide +kernel
theorem dX0_nonce_58 : decode cX0_nonce 58 = .ok (.iinc 4 1, 3) := by decide +kernel
theorem dX0_nonce_61 : decode cX0_nonce 61 = .ok (.goto (-26), 3) := by decide +kernel
theorem dX0_nonce_64 : decode cX0_nonce 64 = .ok (.aload_n 0, 1) := by decide +kernel
theorem dX0_nonce_65 : decode cX0_nonce 65 = .ok (.getfield 19, 3) := by decide +kernel
theorem dX0_nonce_68 : decode cX0_nonce 68 = .ok (.bipush 12, 2) := by decide +kernel
theorem dX0_nonce_70 : decode cX0_nonce 70 = .ok (.iconst 0, 1) := by decide +kernel
theorem dX0_nonce_71 : decode cX0_nonce 71 = .ok (.iastore, 1) := by decide +kernel
theorem dX0_nonce_72 : decode cX0_nonce 72 = .ok (.aload_n 0, 1) := by decide +kernel
theorem dX0_nonce_73 : decode cX0_nonce 73 = .ok (.getfield 19, 3) := by decide +kernel
theorem dX0_nonce_76 : decode cX0_nonce 76 = .ok (.bipush 13, 2) := by decide +kernel
theorem dX0_nonce_78 : decode cX0_nonce 78 = .ok (.iload_n 1, 1) := by decide +kernel
theorem dX0_nonce_79 : decode cX0_nonce 79 = .ok (.iastore, 1) := by decide +kernel
theorem dX0_nonce_80 : decode cX0_nonce 80 = .ok (.aload_n 0, 1) := by decide +kernel
theorem dX0_nonce_81 : decode cX0_nonce 81 = .ok (.getfield 19, 3) := by decide +kernel
theorem dX0_nonce_84 : decode cX0_nonce 84 = .ok (.bipush 14, 2) := by decide +kernel
theorem dX0_nonce_86 : decode cX0_nonce 86 = .ok (.iload_n 2, 1) := by decide +kernel
theorem dX0_nonce_87 : decode cX0_nonce 87 = .ok (.iastore, 1) := by decide +kernel
theorem dX0_nonce_88 : decode cX0_nonce 88 = .ok (.aload_n 0, 1) := by decide +kernel
theorem dX0_nonce_89 : decode cX0_nonce 89 = .ok (.getfield 19, 3) := by decide +kernel
theorem dX0_nonce_92 : decode cX0_nonce 92 = .ok (.bipush 15, 2) := by decide +kernel
theorem dX0_nonce_94 : decode cX0_nonce 94 = .ok (.iload_n 3, 1) := by decide +kernel
theorem dX0_nonce_95 : decode cX0_nonce 95 = .ok (.iastore, 1) := by decide +kernel
theorem dX0_nonce_96 : decode cX0_nonce 96 = .ok (.aload_n 0, 1) := by decide +kernel
theorem dX0_nonce_97 : decode cX0_nonce 97 = .ok (.iconst 1, 1) := by decide +kernel
theorem dX0_nonce_98 : decode cX0_nonce 98 = .ok (.putfield 92, 3) := by decide +kernel
theorem dX0_nonce_101 : decode cX0_nonce 101 = .ok (.return_, 1) := by decide +kernel
theorem dX0_block_0 : decode cX0_block 0 = .ok (.aload_n 0, 1) := by decide +kernel
theorem dX0_block_1 : decode cX0_block 1 = .ok (.getfield 92, 3) := by decide +kernel
theorem dX0_block_4 : decode cX0_block 4 = .ok (.ifCond .ne 5, 3) := by decide +kernel
theorem dX0_block_7 : decode cX0_block 7 = .ok (.iconst 0, 1) := by decide +kernel
theorem dX0_block_8 : decode cX0_block 8 = .ok (.ireturn, 1) := by decide +kernel
theorem dX0_block_9 : decode cX0_block 9 = .ok (.aload_n 0, 1) := by decide +kernel
theorem dX0_block_10 : decode cX0_block 10 = .ok (.aload_n 0, 1) := by decide +kernel
theorem dX0_block_11 : decode cX0_block 11 = .ok (.getfield 19, 3) := by decide +kernel
theorem dX0_block_14 : decode cX0_block 14 = .ok (.bipush 20, 2) := by decide +kernel
theorem dX0_block_16 : decode cX0_block 16 = .ok (.invokevirtual 85, 3) := by decide +kernel
theorem dX0_block_19 : decode cX0_block 19 = .ok (.iconst 0, 1) := by decide +kernel
theorem dX0_block_20 : decode cX0_block 20 = .ok (.istore_n 1, 1) := by decide +kernel
theorem dX0_block_21 : decode cX0_block 21 = .ok (.iload_n 1, 1) := by decide +kernel
theorem dX0_block_22 : decode cX0_block 22 = .ok (.bipush 16, 2) := by decide +kernel
theorem dX0_block_24 : decode cX0_block 24 = .ok (.if_icmp .ge 57, 3) := by decide +kernel
theorem dX0_block_27 : decode cX0_block 27 = .ok (.aload_n 0, 1) := by decide +kernel
theorem dX0_block_28 : decode cX0_block 28 = .ok (.getfield 19, 3) := by decide +kernel
theorem dX0_block_31 : decode cX0_block 31 = .ok (.iload_n 1, 1) := by decide +kernel
theorem dX0_block_32 : decode cX0_block 32 = .ok (.iaload, 1) := by decide +kernel
theorem dX0_block_33 : decode cX0_block 33 = .ok (.aload_n 0, 1) := by decide +kernel
theorem dX0_block_34 : decode cX0_block 34 = .ok (.iload_n 1, 1) := by decide +kernel
theorem dX0_block_35 : decode cX0_block 35 = .ok (.iconst 4, 1) := by decide +kernel
theorem dX0_block_36 : decode cX0_block 36 = .ok (.idiv, 1) := by decide +kernel
theorem dX0_block_37 : decode cX0_block 37 = .ok (.iload_n 1, 1) := by decide +kernel
theorem dX0_block_38 : decode cX0_block 38 = .ok (.iconst 3, 1) := by decide +kernel
theorem dX0_block_39 : decode cX0_block 39 = .ok (.iand, 1) := by decide +kernel
theorem dX0_block_40 : decode cX0_block 40 = .ok (.invokevirtual 67, 3) := by decide +kernel
theorem dX0_block_43 : decode cX0_block 43 = .ok (.iadd, 1) := by decide +kernel
theorem dX0_block_44 : decode cX0_block 44 = .ok (.istore_n 2, 1) := by decide +kernel
theorem dX0_block_45 : decode cX0_block 45 = .ok (.iconst 0, 1) := by decide +kernel
theorem dX0_block_46 : decode cX0_block 46 = .ok (.istore_n 3, 1) := by decide +kernel
theorem dX0_block_47 : decode cX0_block 47 = .ok (.iload_n 3, 1) := by decide +kernel
theorem dX0_block_48 : decode cX0_block 48 = .ok (.iconst 4, 1) := by decide +kernel
theorem dX0_block_49 : decode cX0_block 49 = .ok (.if_icmp .ge 26, 3) := by decide +kernel
theorem dX0_block_52 : decode cX0_block 52 = .ok (.aload_n 0, 1) := by decide +kernel
theorem dX0_block_53 : decode cX0_block 53 = .ok (.getfield 22, 3) := by decide +kernel
theorem dX0_block_56 : decode cX0_block 56 = .ok (.iconst 4, 1) := by decide +kernel
theorem dX0_block_57 : decode cX0_block 57 = .ok (.iload_n 1, 1) := by decide +kernel
theorem dX0_block_58 : decode cX0_block 58 = .ok (.imul, 1) := by decide +kernel
theorem dX0_block_59 : decode cX0_block 59 = .ok (.iload_n 3, 1) := by decide +kernel
theorem dX0_block_60 : decode cX0_block 60 = .ok (.iadd, 1) := by decide +kernel
theorem dX0_block_61 : decode cX0_block 61 = .ok (.iload_n 2, 1) := by decide +kernel
theorem dX0_block_62 : decode cX0_block 62 = .ok (.bipush 8, 2) := by decide +kernel
theorem dX0_block_64 : decode cX0_block 64 = .ok (.iload_n 3, 1) := by decide +kernel
theorem dX0_block_65 : decode cX0_block 65 = .ok (.imul, 1) := by decide +kernel
theorem dX0_block_66 : decode cX0_block 66 = .ok (.ishr, 1) := by decide +kernel
theorem dX0_block_67 : decode cX0_block 67 = .ok (.i2b, 1) := by decide +kernel
theorem dX0_block_68 : decode cX0_block 68 = .ok (.bastore, 1) := by decide +kernel
theorem dX0_block_69 : decode cX0_block 69 = .ok (.iinc 3 1, 3) := by decide +kernel
theorem dX0_block_72 : decode cX0_block 72 = .ok (.goto (-25), 3) := by decide +kernel
theorem dX0_block_75 : decode cX0_block 75 = .ok (.iinc 1 1, 3) := by decide +kernel
theorem dX0_block_78 : decode cX0_block 78 = .ok (.goto (-57), 3) := by decide +kernel
theorem dX0_block_81 : decode cX0_block 81 = .ok (.aload_n 0, 1) := by decide +kernel
theorem dX0_block_82 : decode cX0_block 82 = .ok (.getfield 19, 3) := by decide +kernel
theorem dX0_block_85 : decode cX0_block 85 = .ok (.bipush 12, 2) := by decide +kernel
theorem dX0_block_87 : decode cX0_block 87 = .ok (.dup2, 1) := by decide +kernel
theorem dX0_block_88 : decode cX0_block 88 = .ok (.iaload, 1) := by decide +kernel
theorem dX0_block_89 : decode cX0_block 89 = .ok (.iconst 1, 1) := by decide +kernel
theorem dX0_block_90 : decode cX0_block 90 = .ok (.iadd, 1) := by decide +kernel
theorem dX0_block_91 : decode cX0_block 91 = .ok (.iastore, 1) := by decide +kernel
theorem dX0_block_92 : decode cX0_block 92 = .ok (.iconst 1, 1) := by decide +kernel
theorem dX0_block_93 : decode cX0_block 93 = .ok (.ireturn, 1) := by decide +kernel
theorem dX0_stream_0 : decode cX0_stream 0 = .ok (.aload_n 0, 1) := by decide +kernel
theorem dX0_stream_1 : decode cX0_stream 1 = .ok (.getfield 22, 3) := by decide +kernel
theorem dX0_stream_4 : decode cX0_stream 4 = .ok (.iload_n 1, 1) := by decide +kernel
theorem dX0_stream_5 : decode cX0_stream 5 = .ok (.bipush 63, 2) := by decide +kernel
theorem dX0_stream_7 : decode cX0_stream 7 = .ok (.iand, 1) := by decide +kernel
theorem dX0_stream_8 : decode cX0_stream 8 = .ok (.baload, 1) := by decide +kernel
theorem dX0_stream_9 : decode cX0_stream 9 = .ok (.sipush 255, 3) := by decide +kernel
theorem dX0_stream_12 : decode cX0_stream 12 = .ok (.iand, 1) := by decide +kernel
theorem dX0_stream_13 : decode cX0_stream 13 = .ok (.ireturn, 1) := by decide +kernel
end
section
set_option maxRecDepth 100000
theorem dX1_init_0 : decode cX1_init 0 = .ok (.aload_n 0, 1) := by decide +kernel
theorem dX1_init_1 : decode cX1_init 1 = .ok (.invokespecial 1, 3) := by decide +kernel
theorem dX1_init_4 : decode cX1_init 4 = .ok (.aload_n 0, 1) := by decide +kernel
theorem dX1_init_5 : decode cX1_init 5 = .ok (.bipush 16, 2) := by decide +kernel
theorem dX1_init_7 : decode cX1_init 7 = .ok (.newarray .int, 2) := by decide +kernel
theorem dX1_init_9 : decode cX1_init 9 = .ok (.putfield 7, 3) := by decide +kernel
theorem dX1_init_12 : decode cX1_init 12 = .ok (.aload_n 0, 1) := by decide +kernel
theorem dX1_init_13 : decode cX1_init 13 = .ok (.bipush 16, 2) := by decide +kernel
theorem dX1_init_15 : decode cX1_init 15 = .ok (.newarray .int, 2) := by decide +kernel
theorem dX1_init_17 : decode cX1_init 17 = .ok (.putfield 13, 3) := by decide +kernel
theorem dX1_init_20 : decode cX1_init 20 = .ok (.aload_n 0, 1) := by decide +kernel
theorem dX1_init_21 : decode cX1_init 21 = .ok (.bipush 16, 2) := by decide +kernel
theorem dX1_init_23 : decode cX1_init 23 = .ok (.newarray .int, 2) := by decide +kernel
theorem dX1_init_25 : decode cX1_init 25 = .ok (.putfield 16, 3) := by decide +kernel
theorem dX1_init_28 : decode cX1_init 28 = .ok (.aload_n 0, 1) := by decide +kernel
theorem dX1_init_29 : decode cX1_init 29 = .ok (.bipush 16, 2) := by decide +kernel
theorem dX1_init_31 : decode cX1_init 31 = .ok (.newarray .int, 2) := by decide +kernel
theorem dX1_init_33 : decode cX1_init 33 = .ok (.putfield 19, 3) := by decide +kernel
theorem dX1_init_36 : decode cX1_init 36 = .ok (.aload_n 0, 1) := by decide +kernel
theorem dX1_init_37 : decode cX1_init 37 = .ok (.bipush 8, 2) := by decide +kernel
theorem dX1_init_39 : decode cX1_init 39 = .ok (.newarray .int, 2) := by decide +kernel
theorem dX1_init_41 : decode cX1_init 41 = .ok (.putfield 22, 3) := by decide +kernel
theorem dX1_init_44 : decode cX1_init 44 = .ok (.aload_n 0, 1) := by decide +kernel
theorem dX1_init_45 : decode cX1_init 45 = .ok (.bipush 16, 2) := by decide +kernel
theorem dX1_init_47 : decode cX1_init 47 = .ok (.newarray .int, 2) := by decide +kernel
theorem dX1_init_49 : decode cX1_init 49 = .ok (.putfield 25, 3) := by decide +kernel
theorem dX1_init_52 : decode cX1_init 52 = .ok (.aload_n 0, 1) := by decide +kernel
theorem dX1_init_53 : decode cX1_init 53 = .ok (.bipush 64, 2) := by decide +kernel
theorem dX1_init_55 : decode cX1_init 55 = .ok (.newarray .int, 2) := by decide +kernel
theorem dX1_init_57 : decode cX1_init 57 = .ok (.putfield 28, 3) := by decide +kernel
theorem dX1_init_60 : decode cX1_init 60 = .ok (.return_, 1) := by decide +kernel
theorem dX1_put_0 : decode cX1_put 0 = .ok (.iload_n 1, 1) := by decide +kernel
theorem dX1_put_1 : decode cX1_put 1 = .ok (.iconst 3, 1) := by decide +kernel
theorem dX1_put_2 : decode cX1_put 2 = .ok (.iand, 1) := by decide +kernel
theorem dX1_put_3 : decode cX1_put 3 = .ok (.iconst 4, 1) := by decide +kernel
theorem dX1_put_4 : decode cX1_put 4 = .ok (.imul, 1) := by decide +kernel
theorem dX1_put_5 : decode cX1_put 5 = .ok (.istore 6, 2) := by decide +kernel
theorem dX1_put_7 : decode cX1_put 7 = .ok (.aload_n 0, 1) := by decide +kernel
theorem dX1_put_8 : decode cX1_put 8 = .ok (.getfield 7, 3) := by decide +kernel
theorem dX1_put_11 : decode cX1_put 11 = .ok (.iload 6, 2) := by decide +kernel
theorem dX1_put_13 : decode cX1_put 13 = .ok (.iload_n 2, 1) := by decide +kernel
theorem dX1_put_14 : decode cX1_put 14 = .ok (.iastore, 1) := by decide +kernel
theorem dX1_put_15 : decode cX1_put 15 = .ok (.aload_n 0, 1) := by decide +kernel
theorem dX1_put_16 : decode cX1_put 16 = .ok (.getfield 7, 3) := by decide +kernel
theorem dX1_put_19 : decode cX1_put 19 = .ok (.iload 6, 2) := by decide +kernel
theorem dX1_put_21 : decode cX1_put 21 = .ok (.iconst 1, 1) := by decide +kernel
theorem dX1_put_22 : decode cX1_put 22 = .ok (.iadd, 1) := by decide +kernel
theorem dX1_put_23 : decode cX1_put 23 = .ok (.iload_n 3, 1) := by decide +kernel
theorem dX1_put_24 : decode cX1_put 24 = .ok (.iastore, 1) := by decide +kernel
theorem dX1_put_25 : decode cX1_put 25 = .ok (.aload_n 0, 1) := by decide +kernel
theorem dX1_put_26 : decode cX1_put 26 = .ok (.getfield 7, 3) := by decide +kernel
theorem dX1_put_29 : decode cX1_put 29 = .ok (.iload 6, 2) := by decide +kernel
theorem dX1_put_31 : decode cX1_put 31 = .ok (.iconst 2, 1) := by decide +kernel
theorem dX1_put_32 : decode cX1_put 32 = .ok (.iadd, 1) := by decide +kernel
theorem dX1_put_33 : decode cX1_put 33 = .ok (.iload 4, 2) := by decide +kernel
theorem dX1_put_35 : decode cX1_put 35 = .ok (.iastore, 1) := by decide +kernel
theorem dX1_put_36 : decode cX1_put 36 = .ok (.aload_n 0, 1) := by decide +kernel
theorem dX1_put_37 : decode cX1_put 37 = .ok (.getfield 7, 3) := by decide +kernel
theorem dX1_put_40 : decode cX1_put 40 = .ok (.iload 6, 2) := by decide +kernel
theorem dX1_put_42 : decode cX1_put 42 = .ok (.iconst 3, 1) := by decide +kernel
theorem dX1_put_43 : decode cX1_put 43 = .ok (.iadd, 1) := by decide +kernel
theorem dX1_put_44 : decode cX1_put 44 = .ok (.iload 5, 2) := by decide +kernel
theorem dX1_put_46 : decode cX1_put 46 = .ok (.iastore, 1) := by decide +kernel
theorem dX1_put_47 : decode cX1_put 47 = .ok (.return_, 1) := by decide +kernel
theorem dX1_salsa_0 : decode cX1_salsa 0 = .ok (.aload_n 0, 1) := by decide +kernel
theorem dX1_salsa_1 : decode cX1_salsa 1 = .ok (.iconst 2, 1) := by decide +kernel
theorem dX1_salsa_2 : decode cX1_salsa 2 = .ok (.iconst 2, 1) := by decide +kernel
theorem dX1_salsa_3 : decode cX1_salsa 3 = .ok (.iload_n 1, 1) := by decide +kernel
theorem dX1_salsa_4 : decode cX1_salsa 4 = .ok (.bipush 15, 2) := by decide +kernel
theorem dX1_salsa_6 : decode cX1_salsa 6 = .ok (.iand, 1) := by decide +kernel
theorem dX1_salsa_7 : decode cX1_salsa 7 = .ok (.imul, 1) := by decide +kernel
theorem dX1_salsa_8 : decode cX1_salsa 8 = .ok (.iadd, 1) := by decide +kernel
theorem dX1_salsa_9 : decode cX1_salsa 9 = .ok (.iconst 1, 1) := by decide +kernel
theorem dX1_salsa_10 : decode cX1_salsa 10 = .ok (.invokevirtual 46, 3) := by decide +kernel
theorem dX1_salsa_13 : decode cX1_salsa 13 = .ok (.return_, 1) := by decide +kernel
theorem dX1_turnIn_0 : decode cX1_turnIn 0 = .ok (.iconst 0, 1) := by decide +kernel
theorem dX1_turnIn_1 : decode cX1_turnIn 1 = .ok (.istore_n 3, 1) := by decide +kernel
theorem dX1_turnIn_2 : decode cX1_turnIn 2 = .ok (.iload_n 3, 1) := by decide +kernel
theorem dX1_turnIn_3 : decode cX1_turnIn 3 = .ok (.bipush 16, 2) := by decide +kernel
theorem dX1_turnIn_5 : decode cX1_turnIn 5 = .ok (.if_icmp .ge 21, 3) := by decide +kernel
theorem dX1_turnIn_8 : decode cX1_turnIn 8 = .ok (.aload_n 0, 1) := by decide +kernel
theorem dX1_turnIn_9 : decode cX1_turnIn 9 = .ok (.getfield 19, 3) := by decide +kernel
theorem dX1_turnIn_12 : decode cX1_turnIn 12 = .ok (.iload_n 3, 1) := by decide +kernel
theorem dX1_turnIn_13 : decode cX1_turnIn 13 = .ok (.aload_n 0, 1) := by decide +kernel
theorem dX1_turnIn_14 : decode cX1_turnIn 14 = .ok (.getfield 7, 3) := by decide +kernel
theorem dX1_turnIn_17 : decode cX1_turnIn 17 = .ok (.iload_n 3, 1) := by decide +kernel
theorem dX1_turnIn_18 : decode cX1_turnIn 18 = .ok (.iaload, 1) := by decide +kernel
theorem dX1_turnIn_19 : decode cX1_turnIn 19 = .ok (.iastore, 1) := by decide +kernel
theorem dX1_turnIn_20 : decode cX1_turnIn 20 = .ok (.iinc 3 1, 3) := by decide +kernel
theorem dX1_turnIn_23 : decode cX1_turnIn 23 = .ok (.goto (-21), 3) := by decide +kernel
theorem dX1_turnIn_26 : decode cX1_turnIn 26 = .ok (.aload_n 0, 1) := by decide +kernel
theorem dX1_turnIn_27 : decode cX1_turnIn 27 = .ok (.iload_n 1, 1) := by decide +kernel
theorem dX1_turnIn_28 : decode cX1_turnIn 28 = .ok (.iload_n 2, 1) := by decide +kernel
theorem dX1_turnIn_29 : decode cX1_turnIn 29 = .ok (.invokevirtual 42, 3) := by decide +kernel
theorem dX1_turnIn_32 : decode cX1_turnIn 32 = .ok (.iconst 0, 1) := by decide +kernel
theorem dX1_turnIn_33 : decode cX1_turnIn 33 = .ok (.istore_n 3, 1) := by decide +kernel
theorem dX1_turnIn_34 : decode cX1_turnIn 34 = .ok (.iload_n 3, 1) := by decide +kernel
theorem dX1_turnIn_35 : decode cX1_turnIn 35 = .ok (.bipush 16, 2) := by decide +kernel
theorem dX1_turnIn_37 : decode cX1_turnIn 37 = .ok (.if_icmp .ge 21, 3) := by decide +kernel
theorem dX1_turnIn_40 : decode cX1_turnIn 40 = .ok (.aload_n 0, 1) := by decide +kernel
theorem dX1_turnIn_41 : decode cX1_turnIn 41 = .ok (.getfield 13, 3) := by decide +kernel
theorem dX1_turnIn_44 : decode cX1_turnIn 44 = .ok (.iload_n 3, 1) := by decide +kernel
theorem dX1_turnIn_45 : decode cX1_turnIn 45 = .ok (.aload_n 0, 1) := by decide +kernel
theorem dX1_turnIn_46 : decode cX1_turnIn 46 = .ok (.getfield 16, 3) := by decide +kernel
theorem dX1_turnIn_49 : decode cX1_turnIn 49 = .ok (.iload_n 3, 1) := by decide +kernel
theorem dX1_turnIn_50 : decode cX1_turnIn 50 = .ok (.iaload, 1) := by decide +kernel
theorem dX1_turnIn_51 : decode cX1_turnIn 51 = .ok (.iastore, 1) := by decide +kernel
theorem dX1_turnIn_52 : decode cX1_turnIn 52 = .ok (.iinc 3 1, 3) := by decide +kernel
theorem dX1_turnIn_55 : decode cX1_turnIn 55 = .ok (.goto (-21), 3) := by decide +kernel
theorem dX1_turnIn_58 : decode cX1_turnIn 58 = .ok (.return_, 1) := by decide +kernel
theorem dX1_core_0 : decode cX1_core 0 = .ok (.iconst 0, 1) := by decide +kernel
theorem dX1_core_1 : decode cX1_core 1 = .ok (.istore_n 3, 1) := by decide +kernel
theorem dX1_core_2 : decode cX1_core 2 = .ok (.iload_n 3, 1) := by decide +kernel
theorem dX1_core_3 : decode cX1_core 3 = .ok (.bipush 16, 2) := by decide +kernel
theorem dX1_core_5 : decode cX1_core 5 = .ok (.if_icmp .ge 21, 3) := by decide +kernel
theorem dX1_core_8 : decode cX1_core 8 = .ok (.aload_n 0, 1) := by decide +kernel
theorem dX1_core_9 : decode cX1_core 9 = .ok (.getfield 16, 3) := by decide +kernel
theorem dX1_core_12 : decode cX1_core 12 = .ok (.iload_n 3, 1) := by decide +kernel
theorem dX1_core_13 : decode cX1_core 13 = .ok (.aload_n 0, 1) := by decide +kernel
theorem dX1_core_14 : decode cX1_core 14 = .ok (.getfield 19, 3) := by decide +kernel
theorem dX1_core_17 : decode cX1_core 17 = .ok (.iload_n 3, 1) := by decide +kernel
theorem dX1_core_18 : decode cX1_core 18 = .ok (.iaload, 1) := by decide +kernel
theorem dX1_core_19 : decode cX1_core 19 = .ok (.iastore, 1) := by decide +kernel
theorem dX1_core_20 : decode cX1_core 20 = .ok (.iinc 3 1, 3) := by decide +kernel
theorem dX1_core_23 : decode cX1_core 23 = .ok (.goto (-21), 3) := by decide +kernel
theorem dX1_core_26 : decode cX1_core 26 = .ok (.iconst 0, 1) := by decide +kernel
theorem dX1_core_27 : decode cX1_core 27 = .ok (.istore_n 3, 1) := by decide +kernel
theorem dX1_core_28 : decode cX1_core 28 = .ok (.iload_n 3, 1) := by decide +kernel
theorem dX1_core_29 : decode cX1_core 29 = .ok (.iload_n 1, 1) := by decide +kernel
theorem dX1_core_30 : decode cX1_core 30 = .ok (.if_icmp .ge 179, 3) := by decide +kernel
theorem dX1_core_33 : decode cX1_core 33 = .ok (.iconst 0, 1) := by decide +kernel
theorem dX1_core_34 : decode cX1_core 34 = .ok (.istore 4, 2) := by decide +kernel
theorem dX1_core_36 : decode cX1_core 36 = .ok (.iload 4, 2) := by decide +kernel
theorem dX1_core_38 : decode cX1_core 38 = .ok (.iconst 4, 1) := by decide +kernel
theorem dX1_core_39 : decode cX1_core 39 = .ok (.if_icmp .ge 164, 3) := by decide +kernel
theorem dX1_core_42 : decode cX1_core 42 = .ok (.iload_n 2, 1) := by decide +kernel
theorem dX1_core_43 : decode cX1_core 43 = .ok (.ifCond .eq 93, 3) := by decide +kernel
theorem dX1_core_46 : decode cX1_core 46 = .ok (.iload_n 3, 1) := by decide +kernel
theorem dX1_core_47 : decode cX1_core 47 = .ok (.iconst 1, 1) := by decide +kernel
theorem dX1_core_48 : decode cX1_core 48 = .ok (.iand, 1) := by decide +kernel
theorem dX1_core_49 : decode cX1_core 49 = .ok (.ifCond .ne 43, 3) := by decide +kernel
theorem dX1_core_52 : decode cX1_core 52 = .ok (.aload_n 0, 1) := by decide +kernel
theorem dX1_core_53 : decode cX1_core 53 = .ok (.iconst 5, 1) := by decide +kernel
theorem dX1_core_54 : decode cX1_core 54 = .ok (.iload 4, 2) := by decide +kernel
theorem dX1_core_56 : decode cX1_core 56 = .ok (.imul, 1) := by decide +kernel
theorem dX1_core_57 : decode cX1_core 57 = .ok (.iconst 5, 1) := by decide +kernel
theorem dX1_core_58 : decode cX1_core 58 = .ok (.iload 4, 2) := by decide +kernel
theorem dX1_core_60 : decode cX1_core 60 = .ok (.imul, 1) := by decide +kernel
theorem dX1_core_61 : decode cX1_core 61 = .ok (.iconst 4, 1) := by decide +kernel
theorem dX1_core_62 : decode cX1_core 62 = .ok (.iadd, 1) := by decide +kernel
theorem dX1_core_63 : decode cX1_core 63 = .ok (.bipush 16, 2) := by decide +kernel
theorem dX1_core_65 : decode cX1_core 65 = .ok (.irem, 1) := by decide +kernel
theorem dX1_core_66 : decode cX1_core 66 = .ok (.iconst 5, 1) := by decide +kernel
theorem dX1_core_67 : decode cX1_core 67 = .ok (.iload 4, 2) := by decide +kernel
theorem dX1_core_69 : decode cX1_core 69 = .ok (.imul, 1) := by decide +kernel
theorem dX1_core_70 : decode cX1_core 70 = .ok (.bipush 8, 2) := by decide +kernel
theorem dX1_core_72 : decode cX1_core 72 = .ok (.iadd, 1) := by decide +kernel
theorem dX1_core_73 : decode cX1_core 73 = .ok (.bipush 16, 2) := by decide +kernel
theorem dX1_core_75 : decode cX1_core 75 = .ok (.irem, 1) := by decide +kernel
theorem dX1_core_76 : decode cX1_core 76 = .ok (.iconst 5, 1) := by decide +kernel
theorem dX1_core_77 : decode cX1_core 77 = .ok (.iload 4, 2) := by decide +kernel
theorem dX1_core_79 : decode cX1_core 79 = .ok (.imul, 1) := by decide +kernel
theorem dX1_core_80 : decode cX1_core 80 = .ok (.bipush 12, 2) := by decide +kernel
theorem dX1_core_82 : decode cX1_core 82 = .ok (.iadd, 1) := by decide +kernel
theorem dX1_core_83 : decode cX1_core 83 = .ok (.bipush 16, 2) := by decide +kernel
theorem dX1_core_85 : decode cX1_core 85 = .ok (.irem, 1) := by decide +kernel
theorem dX1_core_86 : decode cX1_core 86 = .ok (.invokevirtual 35, 3) := by decide +kernel
theorem dX1_core_89 : decode cX1_core 89 = .ok (.goto 108, 3) := by decide +kernel
theorem dX1_core_92 : decode cX1_core 92 = .ok (.aload_n 0, 1) := by decide +kernel
theorem dX1_core_93 : decode cX1_core 93 = .ok (.iconst 5, 1) := by decide +kernel
theorem dX1_core_94 : decode cX1_core 94 = .ok (.iload 4, 2) := by decide +kernel
theorem dX1_core_96 : decode cX1_core 96 = .ok (.imul, 1) := by decide +kernel
theorem dX1_core_97 : decode cX1_core 97 = .ok (.iconst 4, 1) := by decide +kernel
theorem dX1_core_98 : decode cX1_core 98 = .ok (.iload 4, 2) := by decide +kernel
theorem dX1_core_100 : decode cX1_core 100 = .ok (.imul, 1) := by decide +kernel
theorem dX1_core_101 : decode cX1_core 101 = .ok (.iload 4, 2) := by decide +kernel
theorem dX1_core_103 : decode cX1_core 103 = .ok (.iconst 1, 1) := by decide +kernel
theorem dX1_core_104 : decode cX1_core 104 = .ok (.iadd, 1) := by decide +kernel
theorem dX1_core_105 : decode cX1_core 105 = .ok (.iconst 4, 1) := by decide +kernel
theorem dX1_core_106 : decode cX1_core 106 = .ok (.irem, 1) := by decide +kernel
theorem dX1_core_107 : decode cX1_core 107 = .ok (.iadd, 1) := by decide +kernel
theorem dX1_core_108 : decode cX1_core 108 = .ok (.iconst 4, 1) := by decide +kernel
theorem dX1_core_109 : decode cX1_core 109 = .ok (.iload 4, 2) := by decide +kernel
theorem dX1_core_111 : decode cX1_core 111 = .ok (.imul, 1) := by decide +kernel
theorem dX1_core_112 : decode cX1_core 112 = .ok (.iload 4, 2) := by decide +kernel
theorem dX1_core_114 : decode cX1_core 114 = .ok (.iconst 2, 1) := by decide +kernel
theorem dX1_core_115 : decode cX1_core 115 = .ok (.iadd, 1) := by decide +kernel
theorem dX1_core_116 : decode cX1_core 116 = .ok (.iconst 4, 1) := by decide +kernel
theorem dX1_core_117 : decode cX1_core 117 = .ok (.irem, 1) := by decide +kernel
theorem dX1_core_118 : decode cX1_core 118 = .ok (.iadd, 1) := by decide +kernel
theorem dX1_core_119 : decode cX1_core 119 = .ok (.iconst 4, 1) := by decide +kernel
theorem dX1_core_120 : decode cX1_core 120 = .ok (.iload 4, 2) := by decide +kernel
theorem dX1_core_122 : decode cX1_core 122 = .ok (.imul, 1) := by decide +kernel
theorem dX1_core_123 : decode cX1_core 123 = .ok (.iload 4, 2) := by decide +kernel
theorem dX1_core_125 : decode cX1_core 125 = .ok (.iconst 3, 1) := by decide +kernel
theorem dX1_core_126 : decode cX1_core 126 = .ok (.iadd, 1) := by decide +kernel
theorem dX1_core_127 : decode cX1_core 127 = .ok (.iconst 4, 1) := by decide +kernel
theorem dX1_core_128 : decode cX1_core 128 = .ok (.irem, 1) := by decide +kernel
theorem dX1_core_129 : decode cX1_core 129 = .ok (.iadd, 1) := by decide +kernel
theorem dX1_core_130 : decode cX1_core 130 = .ok (.invokevirtual 35, 3) := by decide +kernel
theorem dX1_core_133 : decode cX1_core 133 = .ok (.goto 64, 3) := by decide +kernel
theorem dX1_core_136 : decode cX1_core 136 = .ok (.iload_n 3, 1) := by decide +kernel
theorem dX1_core_137 : decode cX1_core 137 = .ok (.iconst 1, 1) := by decide +kernel
theorem dX1_core_138 : decode cX1_core 138 = .ok (.iand, 1) := by decide +kernel
theorem dX1_core_139 : decode cX1_core 139 = .ok (.ifCond .ne 26, 3) := by decide +kernel
theorem dX1_core_142 : decode cX1_core 142 = .ok (.aload_n 0, 1) := by decide +kernel
theorem dX1_core_143 : decode cX1_core 143 = .ok (.iload 4, 2) := by decide +kernel
theorem dX1_core_145 : decode cX1_core 145 = .ok (.iconst 4, 1) := by decide +kernel
theorem dX1_core_146 : decode cX1_core 146 = .ok (.iload 4, 2) := by decide +kernel
theorem dX1_core_148 : decode cX1_core 148 = .ok (.iadd, 1) := by decide +kernel
theorem dX1_core_149 : decode cX1_core 149 = .ok (.bipush 8, 2) := by decide +kernel
theorem dX1_core_151 : decode cX1_core 151 = .ok (.iload 4, 2) := by decide +kernel
theorem dX1_core_153 : decode cX1_core 153 = .ok (.iadd, 1) := by decide +kernel
theorem dX1_core_154 : decode cX1_core 154 = .ok (.bipush 12, 2) := by decide +kernel
theorem dX1_core_156 : decode cX1_core 156 = .ok (.iload 4, 2) := by decide +kernel
theorem dX1_core_158 : decode cX1_core 158 = .ok (.iadd, 1) := by decide +kernel
theorem dX1_core_159 : decode cX1_core 159 = .ok (.invokevirtual 39, 3) := by decide +kernel
theorem dX1_core_162 : decode cX1_core 162 = .ok (.goto 35, 3) := by decide +kernel
theorem dX1_core_165 : decode cX1_core 165 = .ok (.aload_n 0, 1) := by decide +kernel
theorem dX1_core_166 : decode cX1_core 166 = .ok (.iload 4, 2) := by decide +kernel
theorem dX1_core_168 : decode cX1_core 168 = .ok (.iconst 4, 1) := by decide +kernel
theorem dX1_core_169 : decode cX1_core 169 = .ok (.iload 4, 2) := by decide +kernel
theorem dX1_core_171 : decode cX1_core 171 = .ok (.iconst 1, 1) := by decide +kernel
theorem dX1_core_172 : decode cX1_core 172 = .ok (.iadd, 1) := by decide +kernel
theorem dX1_core_173 : decode cX1_core 173 = .ok (.iconst 4, 1) := by decide +kernel
theorem dX1_core_174 : decode cX1_core 174 = .ok (.irem, 1) := by decide +kernel
theorem dX1_core_175 : decode cX1_core 175 = .ok (.iadd, 1) := by decide +kernel
theorem dX1_core_176 : decode cX1_core 176 = .ok (.bipush 8, 2) := by decide +kernel
theorem dX1_core_178 : decode cX1_core 178 = .ok (.iload 4, 2) := by decide +kernel
theorem dX1_core_180 : decode cX1_core 180 = .ok (.iconst 2, 1) := by decide +kernel
theorem dX1_core_181 : decode cX1_core 181 = .ok (.iadd, 1) := by decide +kernel
theorem dX1_core_182 : decode cX1_core 182 = .ok (.iconst 4, 1) := by decide +kernel
theorem dX1_core_183 : decode cX1_core 183 = .ok (.irem, 1) := by decide +kernel
theorem dX1_core_184 : decode cX1_core 184 = .ok (.iadd, 1) := by decide +kernel
theorem dX1_core_185 : decode cX1_core 185 = .ok (.bipush 12, 2) := by decide +kernel
theorem dX1_core_187 : decode cX1_core 187 = .ok (.iload 4, 2) := by decide +kernel
theorem dX1_core_189 : decode cX1_core 189 = .ok (.iconst 3, 1) := by decide +kernel
theorem dX1_core_190 : decode cX1_core 190 = .ok (.iadd, 1) := by decide +kernel
theorem dX1_core_191 : decode cX1_core 191 = .ok (.iconst 4, 1) := by decide +kernel
theorem dX1_core_192 : decode cX1_core 192 = .ok (.irem, 1) := by decide +kernel
theorem dX1_core_193 : decode cX1_core 193 = .ok (.iadd, 1) := by decide +kernel
theorem dX1_core_194 : decode cX1_core 194 = .ok (.invokevirtual 39, 3) := by decide +kernel
theorem dX1_core_197 : decode cX1_core 197 = .ok (.iinc 4 1, 3) := by decide +kernel
theorem dX1_core_200 : decode cX1_core 200 = .ok (.goto (-164), 3) := by decide +kernel
theorem dX1_core_203 : decode cX1_core 203 = .ok (.iinc 3 1, 3) := by decide +kernel
theorem dX1_core_206 : decode cX1_core 206 = .ok (.goto (-178), 3) := by decide +kernel
theorem dX1_core_209 : decode cX1_core 209 = .ok (.iconst 0, 1) := by decide +kernel
theorem dX1_core_210 : decode cX1_core 210 = .ok (.istore_n 3, 1) := by decide +kernel
theorem dX1_core_211 : decode cX1_core 211 = .ok (.iload_n 3, 1) := by decide +kernel
theorem dX1_core_212 : decode cX1_core 212 = .ok (.bipush 16, 2) := by decide +kernel
theorem dX1_core_214 : decode cX1_core 214 = .ok (.if_icmp .ge 28, 3) := by decide +kernel
theorem dX1_core_217 : decode cX1_core 217 = .ok (.aload_n 0, 1) := by decide +kernel
theorem dX1_core_218 : decode cX1_core 218 = .ok (.getfield 16, 3) := by decide +kernel
theorem dX1_core_221 : decode cX1_core 221 = .ok (.iload_n 3, 1) := by decide +kernel
theorem dX1_core_222 : decode cX1_core 222 = .ok (.aload_n 0, 1) := by decide +kernel
theorem dX1_core_223 : decode cX1_core 223 = .ok (.getfield 16, 3) := by decide +kernel
theorem dX1_core_226 : decode cX1_core 226 = .ok (.iload_n 3, 1) := by decide +kernel
theorem dX1_core_227 : decode cX1_core 227 = .ok (.iaload, 1) := by decide +kernel
theorem dX1_core_228 : decode cX1_core 228 = .ok (.aload_n 0, 1) := by decide +kernel
theorem dX1_core_229 : decode cX1_core 229 = .ok (.getfield 19, 3) := by decide +kernel
theorem dX1_core_232 : decode cX1_core 232 = .ok (.iload_n 3, 1) := by decide +kernel
theorem dX1_core_233 : decode cX1_core 233 = .ok (.iaload, 1) := by decide +kernel
theorem dX1_core_234 : decode cX1_core 234 = .ok (.iadd, 1) := by decide +kernel
theorem dX1_core_235 : decode cX1_core 235 = .ok (.iastore, 1) := by decide +kernel
theorem dX1_core_236 : decode cX1_core 236 = .ok (.iinc 3 1, 3) := by decide +kernel
theorem dX1_core_239 : decode cX1_core 239 = .ok (.goto (-28), 3) := by decide +kernel
theorem dX1_core_242 : decode cX1_core 242 = .ok (.return_, 1) := by decide +kernel
theorem dX1_salsaQuarter_0 : decode cX1_salsaQuarter 0 = .ok (.aload_n 0, 1) := by decide +kernel
theorem dX1_salsaQuarter_1 : decode cX1_salsaQuarter 1 = .ok (.getfield 16, 3) := by decide +kernel
theorem dX1_salsaQuarter_4 : decode cX1_salsaQuarter 4 = .ok (.iload_n 2, 1) := by decide +kernel
theorem dX1_salsaQuarter_5 : decode cX1_salsaQuarter 5 = .ok (.aload_n 0, 1) := by decide +kernel
theorem dX1_salsaQuarter_6 : decode cX1_salsaQuarter 6 = .ok (.getfield 16, 3) := by decide +kernel
theorem dX1_salsaQuarter_9 : decode cX1_salsaQuarter 9 = .ok (.iload_n 2, 1) := by decide +kernel
theorem dX1_salsaQuarter_10 : decode cX1_salsaQuarter 10 = .ok (.iaload, 1) := by decide +kernel
theorem dX1_salsaQuarter_11 : decode cX1_salsaQuarter 11 = .ok (.aload_n 0, 1) := by decide +kernel
theorem dX1_salsaQuarter_12 : decode cX1_salsaQuarter 12 = .ok (.getfield 16, 3) := by decide +kernel
theorem dX1_salsaQuarter_15 : decode cX1_salsaQuarter 15 = .ok (.iload_n 1, 1) := by decide +kernel
theorem dX1_salsaQuarter_16 : decode cX1_salsaQuarter 16 = .ok (.iaload, 1) := by decide +kernel
theorem dX1_salsaQuarter_17 : decode cX1_salsaQuarter 17 = .ok (.aload_n 0, 1) := by decide +kernel
theorem dX1_salsaQuarter_18 : decode cX1_salsaQuarter 18 = .ok (.getfield 16, 3) := by decide +kernel
theorem dX1_salsaQuarter_21 : decode cX1_salsaQuarter 21 = .ok (.iload 4, 2) := by decide +kernel
theorem dX1_salsaQuarter_23 : decode cX1_salsaQuarter 23 = .ok (.iaload, 1) := by decide +kernel
theorem dX1_salsaQuarter_24 : decode cX1_salsaQuarter 24 = .ok (.iadd, 1) := by decide +kernel
theorem dX1_salsaQuarter_25 : decode cX1_salsaQuarter 25 = .ok (.bipush 7, 2) := by decide +kernel
theorem dX1_salsaQuarter_27 : decode cX1_salsaQuarter 27 = .ok (.invokestatic 31, 3) := by decide +kernel
theorem dX1_salsaQuarter_30 : decode cX1_salsaQuarter 30 = .ok (.ixor, 1) := by decide +kernel
theorem dX1_salsaQuarter_31 : decode cX1_salsaQuarter 31 = .ok (.iastore, 1) := by decide +kernel
theorem dX1_salsaQuarter_32 : decode cX1_salsaQuarter 32 = .ok (.aload_n 0, 1) := by decide +kernel
theorem dX1_salsaQuarter_33 : decode cX1_salsaQuarter 33 = .ok (.getfield 16, 3) := by decide +kernel
theorem dX1_salsaQuarter_36 : decode cX1_salsaQuarter 36 = .ok (.iload_n 3, 1) := by decide +kernel
theorem dX1_salsaQuarter_37 : decode cX1_salsaQuarter 37 = .ok (.aload_n 0, 1) := by decide +kernel
theorem dX1_salsaQuarter_38 : decode cX1_salsaQuarter 38 = .ok (.getfield 16, 3) := by decide +kernel
theorem dX1_salsaQuarter_41 : decode cX1_salsaQuarter 41 = .ok (.iload_n 3, 1) := by decide +kernel
theorem dX1_salsaQuarter_42 : decode cX1_salsaQuarter 42 = .ok (.iaload, 1) := by decide +kernel
theorem dX1_salsaQuarter_43 : decode cX1_salsaQuarter 43 = .ok (.aload_n 0, 1) := by decide +kernel
theorem dX1_salsaQuarter_44 : decode cX1_salsaQuarter 44 = .ok (.getfield 16, 3) := by decide +kernel
theorem dX1_salsaQuarter_47 : decode cX1_salsaQuarter 47 = .ok (.iload_n 2, 1) := by decide +kernel
theorem dX1_salsaQuarter_48 : decode cX1_salsaQuarter 48 = .ok (.iaload, 1) := by decide +kernel
theorem dX1_salsaQuarter_49 : decode cX1_salsaQuarter 49 = .ok (.aload_n 0, 1) := by decide +kernel
theorem dX1_salsaQuarter_50 : decode cX1_salsaQuarter 50 = .ok (.getfield 16, 3) := by decide +kernel
theorem dX1_salsaQuarter_53 : decode cX1_salsaQuarter 53 = .ok (.iload_n 1, 1) := by decide +kernel
theorem dX1_salsaQuarter_54 : decode cX1_salsaQuarter 54 = .ok (.iaload, 1) := by decide +kernel
theorem dX1_salsaQuarter_55 : decode cX1_salsaQuarter 55 = .ok (.iadd, 1) := by decide +kernel
theorem dX1_salsaQuarter_56 : decode cX1_salsaQuarter 56 = .ok (.bipush 9, 2) := by decide +kernel
theorem dX1_salsaQuarter_58 : decode cX1_salsaQuarter 58 = .ok (.invokestatic 31, 3) := by decide +kernel
theorem dX1_salsaQuarter_61 : decode cX1_salsaQuarter 61 = .ok (.ixor, 1) := by decide +kernel
theorem dX1_salsaQuarter_62 : decode cX1_salsaQuarter 62 = .ok (.iastore, 1) := by decide +kernel
theorem dX1_salsaQuarter_63 : decode cX1_salsaQuarter 63 = .ok (.aload_n 0, 1) := by decide +kernel
theorem dX1_salsaQuarter_64 : decode cX1_salsaQuarter 64 = .ok (.getfield 16, 3) := by decide +kernel
theorem dX1_salsaQuarter_67 : decode cX1_salsaQuarter 67 = .ok (.iload 4, 2) := by decide +kernel
end
section
set_option maxRecDepth 100000
theorem dX1_salsaQuarter_69 : decode cX1_salsaQuarter 69 = .ok (.aload_n 0, 1) := by decide +kernel
theorem dX1_salsaQuarter_70 : decode cX1_salsaQuarter 70 = .ok (.getfield 16, 3) := by decide +kernel
theorem dX1_salsaQuarter_73 : decode cX1_salsaQuarter 73 = .ok (.iload 4, 2) := by decide +kernel
theorem dX1_salsaQuarter_75 : decode cX1_salsaQuarter 75 = .ok (.iaload, 1) := by decide +kernel
theorem dX1_salsaQuarter_76 : decode cX1_salsaQuarter 76 = .ok (.aload_n 0, 1) := by decide +kernel
theorem dX1_salsaQuarter_77 : decode cX1_salsaQuarter 77 = .ok (.getfield 16, 3) := by decide +kernel
theorem dX1_salsaQuarter_80 : decode cX1_salsaQuarter 80 = .ok (.iload_n 3, 1) := by decide +kernel
theorem dX1_salsaQuarter_81 : decode cX1_salsaQuarter 81 = .ok (.iaload, 1) := by decide +kernel
theorem dX1_salsaQuarter_82 : decode cX1_salsaQuarter 82 = .ok (.aload_n 0, 1) := by decide +kernel
theorem dX1_salsaQuarter_83 : decode cX1_salsaQuarter 83 = .ok (.getfield 16, 3) := by decide +kernel
theorem dX1_salsaQuarter_86 : decode cX1_salsaQuarter 86 = .ok (.iload_n 2, 1) := by decide +kernel
theorem dX1_salsaQuarter_87 : decode cX1_salsaQuarter 87 = .ok (.iaload, 1) := by decide +kernel
theorem dX1_salsaQuarter_88 : decode cX1_salsaQuarter 88 = .ok (.iadd, 1) := by decide +kernel
theorem dX1_salsaQuarter_89 : decode cX1_salsaQuarter 89 = .ok (.bipush 13, 2) := by decide +kernel
theorem dX1_salsaQuarter_91 : decode cX1_salsaQuarter 91 = .ok (.invokestatic 31, 3) := by decide +kernel
theorem dX1_salsaQuarter_94 : decode cX1_salsaQuarter 94 = .ok (.ixor, 1) := by decide +kernel
theorem dX1_salsaQuarter_95 : decode cX1_salsaQuarter 95 = .ok (.iastore, 1) := by decide +kernel
theorem dX1_salsaQuarter_96 : decode cX1_salsaQuarter 96 = .ok (.aload_n 0, 1) := by decide +kernel
theorem dX1_salsaQuarter_97 : decode cX1_salsaQuarter 97 = .ok (.getfield 16, 3) := by decide +kernel
theorem dX1_salsaQuarter_100 : decode cX1_salsaQuarter 100 = .ok (.iload_n 1, 1) := by decide +kernel
theorem dX1_salsaQuarter_101 : decode cX1_salsaQuarter 101 = .ok (.aload_n 0, 1) := by decide +kernel
theorem dX1_salsaQuarter_102 : decode cX1_salsaQuarter 102 = .ok (.getfield 16, 3) := by decide +kernel
theorem dX1_salsaQuarter_105 : decode cX1_salsaQuarter 105 = .ok (.iload_n 1, 1) := by decide +kernel
theorem dX1_salsaQuarter_106 : decode cX1_salsaQuarter 106 = .ok (.iaload, 1) := by decide +kernel
theorem dX1_salsaQuarter_107 : decode cX1_salsaQuarter 107 = .ok (.aload_n 0, 1) := by decide +kernel
theorem dX1_salsaQuarter_108 : decode cX1_salsaQuarter 108 = .ok (.getfield 16, 3) := by decide +kernel
theorem dX1_salsaQuarter_111 : decode cX1_salsaQuarter 111 = .ok (.iload 4, 2) := by decide +kernel
theorem dX1_salsaQuarter_113 : decode cX1_salsaQuarter 113 = .ok (.iaload, 1) := by decide +kernel
theorem dX1_salsaQuarter_114 : decode cX1_salsaQuarter 114 = .ok (.aload_n 0, 1) := by decide +kernel
theorem dX1_salsaQuarter_115 : decode cX1_salsaQuarter 115 = .ok (.getfield 16, 3) := by decide +kernel
theorem dX1_salsaQuarter_118 : decode cX1_salsaQuarter 118 = .ok (.iload_n 3, 1) := by decide +kernel
theorem dX1_salsaQuarter_119 : decode cX1_salsaQuarter 119 = .ok (.iaload, 1) := by decide +kernel
theorem dX1_salsaQuarter_120 : decode cX1_salsaQuarter 120 = .ok (.iadd, 1) := by decide +kernel
theorem dX1_salsaQuarter_121 : decode cX1_salsaQuarter 121 = .ok (.bipush 18, 2) := by decide +kernel
theorem dX1_salsaQuarter_123 : decode cX1_salsaQuarter 123 = .ok (.invokestatic 31, 3) := by decide +kernel
theorem dX1_salsaQuarter_126 : decode cX1_salsaQuarter 126 = .ok (.ixor, 1) := by decide +kernel
theorem dX1_salsaQuarter_127 : decode cX1_salsaQuarter 127 = .ok (.iastore, 1) := by decide +kernel
theorem dX1_salsaQuarter_128 : decode cX1_salsaQuarter 128 = .ok (.return_, 1) := by decide +kernel
theorem dX1_turn_0 : decode cX1_turn 0 = .ok (.iload_n 0, 1) := by decide +kernel
theorem dX1_turn_1 : decode cX1_turn 1 = .ok (.iload_n 1, 1) := by decide +kernel
theorem dX1_turn_2 : decode cX1_turn 2 = .ok (.ishl, 1) := by decide +kernel
theorem dX1_turn_3 : decode cX1_turn 3 = .ok (.iload_n 0, 1) := by decide +kernel
theorem dX1_turn_4 : decode cX1_turn 4 = .ok (.bipush 32, 2) := by decide +kernel
theorem dX1_turn_6 : decode cX1_turn 6 = .ok (.iload_n 1, 1) := by decide +kernel
theorem dX1_turn_7 : decode cX1_turn 7 = .ok (.isub, 1) := by decide +kernel
theorem dX1_turn_8 : decode cX1_turn 8 = .ok (.iushr, 1) := by decide +kernel
theorem dX1_turn_9 : decode cX1_turn 9 = .ok (.ior, 1) := by decide +kernel
theorem dX1_turn_10 : decode cX1_turn 10 = .ok (.ireturn, 1) := by decide +kernel
theorem dX1_quarter_0 : decode cX1_quarter 0 = .ok (.aload_n 0, 1) := by decide +kernel
theorem dX1_quarter_1 : decode cX1_quarter 1 = .ok (.getfield 16, 3) := by decide +kernel
theorem dX1_quarter_4 : decode cX1_quarter 4 = .ok (.iload_n 1, 1) := by decide +kernel
theorem dX1_quarter_5 : decode cX1_quarter 5 = .ok (.aload_n 0, 1) := by decide +kernel
theorem dX1_quarter_6 : decode cX1_quarter 6 = .ok (.getfield 16, 3) := by decide +kernel
theorem dX1_quarter_9 : decode cX1_quarter 9 = .ok (.iload_n 1, 1) := by decide +kernel
theorem dX1_quarter_10 : decode cX1_quarter 10 = .ok (.iaload, 1) := by decide +kernel
theorem dX1_quarter_11 : decode cX1_quarter 11 = .ok (.aload_n 0, 1) := by decide +kernel
theorem dX1_quarter_12 : decode cX1_quarter 12 = .ok (.getfield 16, 3) := by decide +kernel
theorem dX1_quarter_15 : decode cX1_quarter 15 = .ok (.iload_n 2, 1) := by decide +kernel
theorem dX1_quarter_16 : decode cX1_quarter 16 = .ok (.iaload, 1) := by decide +kernel
theorem dX1_quarter_17 : decode cX1_quarter 17 = .ok (.iadd, 1) := by decide +kernel
theorem dX1_quarter_18 : decode cX1_quarter 18 = .ok (.iastore, 1) := by decide +kernel
theorem dX1_quarter_19 : decode cX1_quarter 19 = .ok (.aload_n 0, 1) := by decide +kernel
theorem dX1_quarter_20 : decode cX1_quarter 20 = .ok (.getfield 16, 3) := by decide +kernel
theorem dX1_quarter_23 : decode cX1_quarter 23 = .ok (.iload 4, 2) := by decide +kernel
theorem dX1_quarter_25 : decode cX1_quarter 25 = .ok (.aload_n 0, 1) := by decide +kernel
theorem dX1_quarter_26 : decode cX1_quarter 26 = .ok (.getfield 16, 3) := by decide +kernel
theorem dX1_quarter_29 : decode cX1_quarter 29 = .ok (.iload 4, 2) := by decide +kernel
theorem dX1_quarter_31 : decode cX1_quarter 31 = .ok (.iaload, 1) := by decide +kernel
theorem dX1_quarter_32 : decode cX1_quarter 32 = .ok (.aload_n 0, 1) := by decide +kernel
theorem dX1_quarter_33 : decode cX1_quarter 33 = .ok (.getfield 16, 3) := by decide +kernel
theorem dX1_quarter_36 : decode cX1_quarter 36 = .ok (.iload_n 1, 1) := by decide +kernel
theorem dX1_quarter_37 : decode cX1_quarter 37 = .ok (.iaload, 1) := by decide +kernel
theorem dX1_quarter_38 : decode cX1_quarter 38 = .ok (.ixor, 1) := by decide +kernel
theorem dX1_quarter_39 : decode cX1_quarter 39 = .ok (.bipush 16, 2) := by decide +kernel
theorem dX1_quarter_41 : decode cX1_quarter 41 = .ok (.invokestatic 31, 3) := by decide +kernel
theorem dX1_quarter_44 : decode cX1_quarter 44 = .ok (.iastore, 1) := by decide +kernel
theorem dX1_quarter_45 : decode cX1_quarter 45 = .ok (.aload_n 0, 1) := by decide +kernel
theorem dX1_quarter_46 : decode cX1_quarter 46 = .ok (.getfield 16, 3) := by decide +kernel
theorem dX1_quarter_49 : decode cX1_quarter 49 = .ok (.iload_n 3, 1) := by decide +kernel
theorem dX1_quarter_50 : decode cX1_quarter 50 = .ok (.aload_n 0, 1) := by decide +kernel
theorem dX1_quarter_51 : decode cX1_quarter 51 = .ok (.getfield 16, 3) := by decide +kernel
theorem dX1_quarter_54 : decode cX1_quarter 54 = .ok (.iload_n 3, 1) := by decide +kernel
theorem dX1_quarter_55 : decode cX1_quarter 55 = .ok (.iaload, 1) := by decide +kernel
theorem dX1_quarter_56 : decode cX1_quarter 56 = .ok (.aload_n 0, 1) := by decide +kernel
theorem dX1_quarter_57 : decode cX1_quarter 57 = .ok (.getfield 16, 3) := by decide +kernel
theorem dX1_quarter_60 : decode cX1_quarter 60 = .ok (.iload 4, 2) := by decide +kernel
theorem dX1_quarter_62 : decode cX1_quarter 62 = .ok (.iaload, 1) := by decide +kernel
theorem dX1_quarter_63 : decode cX1_quarter 63 = .ok (.iadd, 1) := by decide +kernel
theorem dX1_quarter_64 : decode cX1_quarter 64 = .ok (.iastore, 1) := by decide +kernel
theorem dX1_quarter_65 : decode cX1_quarter 65 = .ok (.aload_n 0, 1) := by decide +kernel
theorem dX1_quarter_66 : decode cX1_quarter 66 = .ok (.getfield 16, 3) := by decide +kernel
theorem dX1_quarter_69 : decode cX1_quarter 69 = .ok (.iload_n 2, 1) := by decide +kernel
theorem dX1_quarter_70 : decode cX1_quarter 70 = .ok (.aload_n 0, 1) := by decide +kernel
theorem dX1_quarter_71 : decode cX1_quarter 71 = .ok (.getfield 16, 3) := by decide +kernel
theorem dX1_quarter_74 : decode cX1_quarter 74 = .ok (.iload_n 2, 1) := by decide +kernel
theorem dX1_quarter_75 : decode cX1_quarter 75 = .ok (.iaload, 1) := by decide +kernel
theorem dX1_quarter_76 : decode cX1_quarter 76 = .ok (.aload_n 0, 1) := by decide +kernel
theorem dX1_quarter_77 : decode cX1_quarter 77 = .ok (.getfield 16, 3) := by decide +kernel
theorem dX1_quarter_80 : decode cX1_quarter 80 = .ok (.iload_n 3, 1) := by decide +kernel
theorem dX1_quarter_81 : decode cX1_quarter 81 = .ok (.iaload, 1) := by decide +kernel
theorem dX1_quarter_82 : decode cX1_quarter 82 = .ok (.ixor, 1) := by decide +kernel
theorem dX1_quarter_83 : decode cX1_quarter 83 = .ok (.bipush 12, 2) := by decide +kernel
theorem dX1_quarter_85 : decode cX1_quarter 85 = .ok (.invokestatic 31, 3) := by decide +kernel
theorem dX1_quarter_88 : decode cX1_quarter 88 = .ok (.iastore, 1) := by decide +kernel
theorem dX1_quarter_89 : decode cX1_quarter 89 = .ok (.aload_n 0, 1) := by decide +kernel
theorem dX1_quarter_90 : decode cX1_quarter 90 = .ok (.getfield 16, 3) := by decide +kernel
theorem dX1_quarter_93 : decode cX1_quarter 93 = .ok (.iload_n 1, 1) := by decide +kernel
theorem dX1_quarter_94 : decode cX1_quarter 94 = .ok (.aload_n 0, 1) := by decide +kernel
theorem dX1_quarter_95 : decode cX1_quarter 95 = .ok (.getfield 16, 3) := by decide +kernel
theorem dX1_quarter_98 : decode cX1_quarter 98 = .ok (.iload_n 1, 1) := by decide +kernel
theorem dX1_quarter_99 : decode cX1_quarter 99 = .ok (.iaload, 1) := by decide +kernel
theorem dX1_quarter_100 : decode cX1_quarter 100 = .ok (.aload_n 0, 1) := by decide +kernel
theorem dX1_quarter_101 : decode cX1_quarter 101 = .ok (.getfield 16, 3) := by decide +kernel
theorem dX1_quarter_104 : decode cX1_quarter 104 = .ok (.iload_n 2, 1) := by decide +kernel
theorem dX1_quarter_105 : decode cX1_quarter 105 = .ok (.iaload, 1) := by decide +kernel
theorem dX1_quarter_106 : decode cX1_quarter 106 = .ok (.iadd, 1) := by decide +kernel
theorem dX1_quarter_107 : decode cX1_quarter 107 = .ok (.iastore, 1) := by decide +kernel
theorem dX1_quarter_108 : decode cX1_quarter 108 = .ok (.aload_n 0, 1) := by decide +kernel
theorem dX1_quarter_109 : decode cX1_quarter 109 = .ok (.getfield 16, 3) := by decide +kernel
theorem dX1_quarter_112 : decode cX1_quarter 112 = .ok (.iload 4, 2) := by decide +kernel
theorem dX1_quarter_114 : decode cX1_quarter 114 = .ok (.aload_n 0, 1) := by decide +kernel
theorem dX1_quarter_115 : decode cX1_quarter 115 = .ok (.getfield 16, 3) := by decide +kernel
theorem dX1_quarter_118 : decode cX1_quarter 118 = .ok (.iload 4, 2) := by decide +kernel
theorem dX1_quarter_120 : decode cX1_quarter 120 = .ok (.iaload, 1) := by decide +kernel
theorem dX1_quarter_121 : decode cX1_quarter 121 = .ok (.aload_n 0, 1) := by decide +kernel
theorem dX1_quarter_122 : decode cX1_quarter 122 = .ok (.getfield 16, 3) := by decide +kernel
theorem dX1_quarter_125 : decode cX1_quarter 125 = .ok (.iload_n 1, 1) := by decide +kernel
theorem dX1_quarter_126 : decode cX1_quarter 126 = .ok (.iaload, 1) := by decide +kernel
theorem dX1_quarter_127 : decode cX1_quarter 127 = .ok (.ixor, 1) := by decide +kernel
theorem dX1_quarter_128 : decode cX1_quarter 128 = .ok (.bipush 8, 2) := by decide +kernel
theorem dX1_quarter_130 : decode cX1_quarter 130 = .ok (.invokestatic 31, 3) := by decide +kernel
theorem dX1_quarter_133 : decode cX1_quarter 133 = .ok (.iastore, 1) := by decide +kernel
theorem dX1_quarter_134 : decode cX1_quarter 134 = .ok (.aload_n 0, 1) := by decide +kernel
theorem dX1_quarter_135 : decode cX1_quarter 135 = .ok (.getfield 16, 3) := by decide +kernel
theorem dX1_quarter_138 : decode cX1_quarter 138 = .ok (.iload_n 3, 1) := by decide +kernel
theorem dX1_quarter_139 : decode cX1_quarter 139 = .ok (.aload_n 0, 1) := by decide +kernel
theorem dX1_quarter_140 : decode cX1_quarter 140 = .ok (.getfield 16, 3) := by decide +kernel
theorem dX1_quarter_143 : decode cX1_quarter 143 = .ok (.iload_n 3, 1) := by decide +kernel
theorem dX1_quarter_144 : decode cX1_quarter 144 = .ok (.iaload, 1) := by decide +kernel
theorem dX1_quarter_145 : decode cX1_quarter 145 = .ok (.aload_n 0, 1) := by decide +kernel
theorem dX1_quarter_146 : decode cX1_quarter 146 = .ok (.getfield 16, 3) := by decide +kernel
theorem dX1_quarter_149 : decode cX1_quarter 149 = .ok (.iload 4, 2) := by decide +kernel
theorem dX1_quarter_151 : decode cX1_quarter 151 = .ok (.iaload, 1) := by decide +kernel
theorem dX1_quarter_152 : decode cX1_quarter 152 = .ok (.iadd, 1) := by decide +kernel
theorem dX1_quarter_153 : decode cX1_quarter 153 = .ok (.iastore, 1) := by decide +kernel
theorem dX1_quarter_154 : decode cX1_quarter 154 = .ok (.aload_n 0, 1) := by decide +kernel
theorem dX1_quarter_155 : decode cX1_quarter 155 = .ok (.getfield 16, 3) := by decide +kernel
theorem dX1_quarter_158 : decode cX1_quarter 158 = .ok (.iload_n 2, 1) := by decide +kernel
theorem dX1_quarter_159 : decode cX1_quarter 159 = .ok (.aload_n 0, 1) := by decide +kernel
theorem dX1_quarter_160 : decode cX1_quarter 160 = .ok (.getfield 16, 3) := by decide +kernel
theorem dX1_quarter_163 : decode cX1_quarter 163 = .ok (.iload_n 2, 1) := by decide +kernel
theorem dX1_quarter_164 : decode cX1_quarter 164 = .ok (.iaload, 1) := by decide +kernel
theorem dX1_quarter_165 : decode cX1_quarter 165 = .ok (.aload_n 0, 1) := by decide +kernel
theorem dX1_quarter_166 : decode cX1_quarter 166 = .ok (.getfield 16, 3) := by decide +kernel
theorem dX1_quarter_169 : decode cX1_quarter 169 = .ok (.iload_n 3, 1) := by decide +kernel
theorem dX1_quarter_170 : decode cX1_quarter 170 = .ok (.iaload, 1) := by decide +kernel
theorem dX1_quarter_171 : decode cX1_quarter 171 = .ok (.ixor, 1) := by decide +kernel
theorem dX1_quarter_172 : decode cX1_quarter 172 = .ok (.bipush 7, 2) := by decide +kernel
theorem dX1_quarter_174 : decode cX1_quarter 174 = .ok (.invokestatic 31, 3) := by decide +kernel
theorem dX1_quarter_177 : decode cX1_quarter 177 = .ok (.iastore, 1) := by decide +kernel
theorem dX1_quarter_178 : decode cX1_quarter 178 = .ok (.return_, 1) := by decide +kernel
theorem dX1_chacha_0 : decode cX1_chacha 0 = .ok (.aload_n 0, 1) := by decide +kernel
theorem dX1_chacha_1 : decode cX1_chacha 1 = .ok (.iconst 2, 1) := by decide +kernel
theorem dX1_chacha_2 : decode cX1_chacha 2 = .ok (.iconst 2, 1) := by decide +kernel
theorem dX1_chacha_3 : decode cX1_chacha 3 = .ok (.iload_n 1, 1) := by decide +kernel
theorem dX1_chacha_4 : decode cX1_chacha 4 = .ok (.bipush 15, 2) := by decide +kernel
theorem dX1_chacha_6 : decode cX1_chacha 6 = .ok (.iand, 1) := by decide +kernel
theorem dX1_chacha_7 : decode cX1_chacha 7 = .ok (.imul, 1) := by decide +kernel
theorem dX1_chacha_8 : decode cX1_chacha 8 = .ok (.iadd, 1) := by decide +kernel
theorem dX1_chacha_9 : decode cX1_chacha 9 = .ok (.iconst 0, 1) := by decide +kernel
theorem dX1_chacha_10 : decode cX1_chacha 10 = .ok (.invokevirtual 46, 3) := by decide +kernel
theorem dX1_chacha_13 : decode cX1_chacha 13 = .ok (.return_, 1) := by decide +kernel
theorem dX1_again_0 : decode cX1_again 0 = .ok (.iconst 0, 1) := by decide +kernel
theorem dX1_again_1 : decode cX1_again 1 = .ok (.istore_n 1, 1) := by decide +kernel
theorem dX1_again_2 : decode cX1_again 2 = .ok (.iload_n 1, 1) := by decide +kernel
theorem dX1_again_3 : decode cX1_again 3 = .ok (.bipush 16, 2) := by decide +kernel
theorem dX1_again_5 : decode cX1_again 5 = .ok (.if_icmp .ge 21, 3) := by decide +kernel
theorem dX1_again_8 : decode cX1_again 8 = .ok (.aload_n 0, 1) := by decide +kernel
theorem dX1_again_9 : decode cX1_again 9 = .ok (.getfield 7, 3) := by decide +kernel
theorem dX1_again_12 : decode cX1_again 12 = .ok (.iload_n 1, 1) := by decide +kernel
theorem dX1_again_13 : decode cX1_again 13 = .ok (.aload_n 0, 1) := by decide +kernel
theorem dX1_again_14 : decode cX1_again 14 = .ok (.getfield 13, 3) := by decide +kernel
theorem dX1_again_17 : decode cX1_again 17 = .ok (.iload_n 1, 1) := by decide +kernel
theorem dX1_again_18 : decode cX1_again 18 = .ok (.iaload, 1) := by decide +kernel
theorem dX1_again_19 : decode cX1_again 19 = .ok (.iastore, 1) := by decide +kernel
theorem dX1_again_20 : decode cX1_again 20 = .ok (.iinc 1 1, 3) := by decide +kernel
theorem dX1_again_23 : decode cX1_again 23 = .ok (.goto (-21), 3) := by decide +kernel
theorem dX1_again_26 : decode cX1_again 26 = .ok (.return_, 1) := by decide +kernel
theorem dX1_out_0 : decode cX1_out 0 = .ok (.aload_n 0, 1) := by decide +kernel
theorem dX1_out_1 : decode cX1_out 1 = .ok (.getfield 13, 3) := by decide +kernel
theorem dX1_out_4 : decode cX1_out 4 = .ok (.iload_n 1, 1) := by decide +kernel
theorem dX1_out_5 : decode cX1_out 5 = .ok (.bipush 15, 2) := by decide +kernel
theorem dX1_out_7 : decode cX1_out 7 = .ok (.iand, 1) := by decide +kernel
theorem dX1_out_8 : decode cX1_out 8 = .ok (.iaload, 1) := by decide +kernel
theorem dX1_out_9 : decode cX1_out 9 = .ok (.ireturn, 1) := by decide +kernel
theorem dX1_key_0 : decode cX1_key 0 = .ok (.iload_n 1, 1) := by decide +kernel
theorem dX1_key_1 : decode cX1_key 1 = .ok (.iconst 1, 1) := by decide +kernel
theorem dX1_key_2 : decode cX1_key 2 = .ok (.iand, 1) := by decide +kernel
theorem dX1_key_3 : decode cX1_key 3 = .ok (.iconst 4, 1) := by decide +kernel
theorem dX1_key_4 : decode cX1_key 4 = .ok (.imul, 1) := by decide +kernel
theorem dX1_key_5 : decode cX1_key 5 = .ok (.istore 6, 2) := by decide +kernel
theorem dX1_key_7 : decode cX1_key 7 = .ok (.aload_n 0, 1) := by decide +kernel
theorem dX1_key_8 : decode cX1_key 8 = .ok (.getfield 22, 3) := by decide +kernel
theorem dX1_key_11 : decode cX1_key 11 = .ok (.iload 6, 2) := by decide +kernel
theorem dX1_key_13 : decode cX1_key 13 = .ok (.iload_n 2, 1) := by decide +kernel
theorem dX1_key_14 : decode cX1_key 14 = .ok (.iastore, 1) := by decide +kernel
theorem dX1_key_15 : decode cX1_key 15 = .ok (.aload_n 0, 1) := by decide +kernel
theorem dX1_key_16 : decode cX1_key 16 = .ok (.getfield 22, 3) := by decide +kernel
theorem dX1_key_19 : decode cX1_key 19 = .ok (.iload 6, 2) := by decide +kernel
theorem dX1_key_21 : decode cX1_key 21 = .ok (.iconst 1, 1) := by decide +kernel
theorem dX1_key_22 : decode cX1_key 22 = .ok (.iadd, 1) := by decide +kernel
theorem dX1_key_23 : decode cX1_key 23 = .ok (.iload_n 3, 1) := by decide +kernel
theorem dX1_key_24 : decode cX1_key 24 = .ok (.iastore, 1) := by decide +kernel
theorem dX1_key_25 : decode cX1_key 25 = .ok (.aload_n 0, 1) := by decide +kernel
theorem dX1_key_26 : decode cX1_key 26 = .ok (.getfield 22, 3) := by decide +kernel
theorem dX1_key_29 : decode cX1_key 29 = .ok (.iload 6, 2) := by decide +kernel
theorem dX1_key_31 : decode cX1_key 31 = .ok (.iconst 2, 1) := by decide +kernel
theorem dX1_key_32 : decode cX1_key 32 = .ok (.iadd, 1) := by decide +kernel
theorem dX1_key_33 : decode cX1_key 33 = .ok (.iload 4, 2) := by decide +kernel
theorem dX1_key_35 : decode cX1_key 35 = .ok (.iastore, 1) := by decide +kernel
theorem dX1_key_36 : decode cX1_key 36 = .ok (.aload_n 0, 1) := by decide +kernel
theorem dX1_key_37 : decode cX1_key 37 = .ok (.getfield 22, 3) := by decide +kernel
theorem dX1_key_40 : decode cX1_key 40 = .ok (.iload 6, 2) := by decide +kernel
theorem dX1_key_42 : decode cX1_key 42 = .ok (.iconst 3, 1) := by decide +kernel
theorem dX1_key_43 : decode cX1_key 43 = .ok (.iadd, 1) := by decide +kernel
theorem dX1_key_44 : decode cX1_key 44 = .ok (.iload 5, 2) := by decide +kernel
theorem dX1_key_46 : decode cX1_key 46 = .ok (.iastore, 1) := by decide +kernel
theorem dX1_key_47 : decode cX1_key 47 = .ok (.return_, 1) := by decide +kernel
theorem dX1_nonce_0 : decode cX1_nonce 0 = .ok (.aload_n 0, 1) := by decide +kernel
theorem dX1_nonce_1 : decode cX1_nonce 1 = .ok (.getfield 25, 3) := by decide +kernel
theorem dX1_nonce_4 : decode cX1_nonce 4 = .ok (.iconst 0, 1) := by decide +kernel
theorem dX1_nonce_5 : decode cX1_nonce 5 = .ok (.ldc 49, 2) := by decide +kernel
theorem dX1_nonce_7 : decode cX1_nonce 7 = .ok (.iastore, 1) := by decide +kernel
theorem dX1_nonce_8 : decode cX1_nonce 8 = .ok (.aload_n 0, 1) := by decide +kernel
theorem dX1_nonce_9 : decode cX1_nonce 9 = .ok (.getfield 25, 3) := by decide +kernel
theorem dX1_nonce_12 : decode cX1_nonce 12 = .ok (.iconst 1, 1) := by decide +kernel
theorem dX1_nonce_13 : decode cX1_nonce 13 = .ok (.ldc 50, 2) := by decide +kernel
theorem dX1_nonce_15 : decode cX1_nonce 15 = .ok (.iastore, 1) := by decide +kernel
theorem dX1_nonce_16 : decode cX1_nonce 16 = .ok (.aload_n 0, 1) := by decide +kernel
theorem dX1_nonce_17 : decode cX1_nonce 17 = .ok (.getfield 25, 3) := by decide +kernel
theorem dX1_nonce_20 : decode cX1_nonce 20 = .ok (.iconst 2, 1) := by decide +kernel
theorem dX1_nonce_21 : decode cX1_nonce 21 = .ok (.ldc 51, 2) := by decide +kernel
theorem dX1_nonce_23 : decode cX1_nonce 23 = .ok (.iastore, 1) := by decide +kernel
theorem dX1_nonce_24 : decode cX1_nonce 24 = .ok (.aload_n 0, 1) := by decide +kernel
theorem dX1_nonce_25 : decode cX1_nonce 25 = .ok (.getfield 25, 3) := by decide +kernel
theorem dX1_nonce_28 : decode cX1_nonce 28 = .ok (.iconst 3, 1) := by decide +kernel
theorem dX1_nonce_29 : decode cX1_nonce 29 = .ok (.ldc 52, 2) := by decide +kernel
theorem dX1_nonce_31 : decode cX1_nonce 31 = .ok (.iastore, 1) := by decide +kernel
theorem dX1_nonce_32 : decode cX1_nonce 32 = .ok (.iconst 0, 1) := by decide +kernel
theorem dX1_nonce_33 : decode cX1_nonce 33 = .ok (.istore 4, 2) := by decide +kernel
theorem dX1_nonce_35 : decode cX1_nonce 35 = .ok (.iload 4, 2) := by decide +kernel
theorem dX1_nonce_37 : decode cX1_nonce 37 = .ok (.bipush 8, 2) := by decide +kernel
theorem dX1_nonce_39 : decode cX1_nonce 39 = .ok (.if_icmp .ge 25, 3) := by decide +kernel
theorem dX1_nonce_42 : decode cX1_nonce 42 = .ok (.aload_n 0, 1) := by decide +kernel
theorem dX1_nonce_43 : decode cX1_nonce 43 = .ok (.getfield 25, 3) := by decide +kernel
theorem dX1_nonce_46 : decode cX1_nonce 46 = .ok (.iconst 4, 1) := by decide +kernel
theorem dX1_nonce_47 : decode cX1_nonce 47 = .ok (.iload 4, 2) := by decide +kernel
theorem dX1_nonce_49 : decode cX1_nonce 49 = .ok (.iadd, 1) := by decide +kernel
theorem dX1_nonce_50 : decode cX1_nonce 50 = .ok (.aload_n 0, 1) := by decide +kernel
theorem dX1_nonce_51 : decode cX1_nonce 51 = .ok (.getfield 22, 3) := by decide +kernel
theorem dX1_nonce_54 : decode cX1_nonce 54 = .ok (.iload 4, 2) := by decide +kernel
theorem dX1_nonce_56 : decode cX1_nonce 56 = .ok (.iaload, 1) := by decide +kernel
theorem dX1_nonce_57 : decode cX1_nonce 57 = .ok (.iastore, 1) := by decide +kernel
theorem dX1_nonce_58 : decode cX1_nonce 58 = .ok (.iinc 4 1, 3) := by decide +kernel
theorem dX1_nonce_61 : decode cX1_nonce 61 = .ok (.goto (-26), 3) := by decide +kernel
theorem dX1_nonce_64 : decode cX1_nonce 64 = .ok (.aload_n 0, 1) := by decide +kernel
theorem dX1_nonce_65 : decode cX1_nonce 65 = .ok (.getfield 25, 3) := by decide +kernel
theorem dX1_nonce_68 : decode cX1_nonce 68 = .ok (.bipush 12, 2) := by decide +kernel
theorem dX1_nonce_70 : decode cX1_nonce 70 = .ok (.iconst 0, 1) := by decide +kernel
theorem dX1_nonce_71 : decode cX1_nonce 71 = .ok (.iastore, 1) := by decide +kernel
theorem dX1_nonce_72 : decode cX1_nonce 72 = .ok (.aload_n 0, 1) := by decide +kernel
theorem dX1_nonce_73 : decode cX1_nonce 73 = .ok (.getfield 25, 3) := by decide +kernel
theorem dX1_nonce_76 : decode cX1_nonce 76 = .ok (.bipush 13, 2) := by decide +kernel
theorem dX1_nonce_78 : decode cX1_nonce 78 = .ok (.iload_n 1, 1) := by decide +kernel
theorem dX1_nonce_79 : decode cX1_nonce 79 = .ok (.iastore, 1) := by decide +kernel
theorem dX1_nonce_80 : decode cX1_nonce 80 = .ok (.aload_n 0, 1) := by decide +kernel
theorem dX1_nonce_81 : decode cX1_nonce 81 = .ok (.getfield 25, 3) := by decide +kernel
theorem dX1_nonce_84 : decode cX1_nonce 84 = .ok (.bipush 14, 2) := by decide +kernel
theorem dX1_nonce_86 : decode cX1_nonce 86 = .ok (.iload_n 2, 1) := by decide +kernel
theorem dX1_nonce_87 : decode cX1_nonce 87 = .ok (.iastore, 1) := by decide +kernel
theorem dX1_nonce_88 : decode cX1_nonce 88 = .ok (.aload_n 0, 1) := by decide +kernel
theorem dX1_nonce_89 : decode cX1_nonce 89 = .ok (.getfield 25, 3) := by decide +kernel
theorem dX1_nonce_92 : decode cX1_nonce 92 = .ok (.bipush 15, 2) := by decide +kernel
theorem dX1_nonce_94 : decode cX1_nonce 94 = .ok (.iload_n 3, 1) := by decide +kernel
theorem dX1_nonce_95 : decode cX1_nonce 95 = .ok (.iastore, 1) := by decide +kernel
theorem dX1_nonce_96 : decode cX1_nonce 96 = .ok (.aload_n 0, 1) := by decide +kernel
theorem dX1_nonce_97 : decode cX1_nonce 97 = .ok (.iconst 1, 1) := by decide +kernel
theorem dX1_nonce_98 : decode cX1_nonce 98 = .ok (.putfield 53, 3) := by decide +kernel
theorem dX1_nonce_101 : decode cX1_nonce 101 = .ok (.return_, 1) := by decide +kernel
theorem dX1_block_0 : decode cX1_block 0 = .ok (.aload_n 0, 1) := by decide +kernel
theorem dX1_block_1 : decode cX1_block 1 = .ok (.getfield 53, 3) := by decide +kernel
theorem dX1_block_4 : decode cX1_block 4 = .ok (.ifCond .ne 5, 3) := by decide +kernel
theorem dX1_block_7 : decode cX1_block 7 = .ok (.iconst 0, 1) := by decide +kernel
theorem dX1_block_8 : decode cX1_block 8 = .ok (.ireturn, 1) := by decide +kernel
theorem dX1_block_9 : decode cX1_block 9 = .ok (.iconst 0, 1) := by decide +kernel
theorem dX1_block_10 : decode cX1_block 10 = .ok (.istore_n 1, 1) := by decide +kernel
theorem dX1_block_11 : decode cX1_block 11 = .ok (.iload_n 1, 1) := by decide +kernel
theorem dX1_block_12 : decode cX1_block 12 = .ok (.bipush 16, 2) := by decide +kernel
theorem dX1_block_14 : decode cX1_block 14 = .ok (.if_icmp .ge 21, 3) := by decide +kernel
theorem dX1_block_17 : decode cX1_block 17 = .ok (.aload_n 0, 1) := by decide +kernel
theorem dX1_block_18 : decode cX1_block 18 = .ok (.getfield 19, 3) := by decide +kernel
theorem dX1_block_21 : decode cX1_block 21 = .ok (.iload_n 1, 1) := by decide +kernel
theorem dX1_block_22 : decode cX1_block 22 = .ok (.aload_n 0, 1) := by decide +kernel
theorem dX1_block_23 : decode cX1_block 23 = .ok (.getfield 25, 3) := by decide +kernel
theorem dX1_block_26 : decode cX1_block 26 = .ok (.iload_n 1, 1) := by decide +kernel
theorem dX1_block_27 : decode cX1_block 27 = .ok (.iaload, 1) := by decide +kernel
theorem dX1_block_28 : decode cX1_block 28 = .ok (.iastore, 1) := by decide +kernel
theorem dX1_block_29 : decode cX1_block 29 = .ok (.iinc 1 1, 3) := by decide +kernel
theorem dX1_block_32 : decode cX1_block 32 = .ok (.goto (-21), 3) := by decide +kernel
theorem dX1_block_35 : decode cX1_block 35 = .ok (.aload_n 0, 1) := by decide +kernel
end
section
set_option maxRecDepth 100000
theorem dX1_block_36 : decode cX1_block 36 = .ok (.bipush 20, 2) := by decide +kernel
theorem dX1_block_38 : decode cX1_block 38 = .ok (.iconst 0, 1) := by decide +kernel
theorem dX1_block_39 : decode cX1_block 39 = .ok (.invokevirtual 42, 3) := by decide +kernel
theorem dX1_block_42 : decode cX1_block 42 = .ok (.iconst 0, 1) := by decide +kernel
theorem dX1_block_43 : decode cX1_block 43 = .ok (.istore_n 1, 1) := by decide +kernel
theorem dX1_block_44 : decode cX1_block 44 = .ok (.iload_n 1, 1) := by decide +kernel
theorem dX1_block_45 : decode cX1_block 45 = .ok (.bipush 64, 2) := by decide +kernel
theorem dX1_block_47 : decode cX1_block 47 = .ok (.if_icmp .ge 34, 3) := by decide +kernel
theorem dX1_block_50 : decode cX1_block 50 = .ok (.aload_n 0, 1) := by decide +kernel
theorem dX1_block_51 : decode cX1_block 51 = .ok (.getfield 28, 3) := by decide +kernel
theorem dX1_block_54 : decode cX1_block 54 = .ok (.iload_n 1, 1) := by decide +kernel
theorem dX1_block_55 : decode cX1_block 55 = .ok (.aload_n 0, 1) := by decide +kernel
theorem dX1_block_56 : decode cX1_block 56 = .ok (.getfield 16, 3) := by decide +kernel
theorem dX1_block_59 : decode cX1_block 59 = .ok (.iload_n 1, 1) := by decide +kernel
theorem dX1_block_60 : decode cX1_block 60 = .ok (.iconst 2, 1) := by decide +kernel
theorem dX1_block_61 : decode cX1_block 61 = .ok (.ishr, 1) := by decide +kernel
theorem dX1_block_62 : decode cX1_block 62 = .ok (.iaload, 1) := by decide +kernel
theorem dX1_block_63 : decode cX1_block 63 = .ok (.bipush 8, 2) := by decide +kernel
theorem dX1_block_65 : decode cX1_block 65 = .ok (.iload_n 1, 1) := by decide +kernel
theorem dX1_block_66 : decode cX1_block 66 = .ok (.iconst 3, 1) := by decide +kernel
theorem dX1_block_67 : decode cX1_block 67 = .ok (.iand, 1) := by decide +kernel
theorem dX1_block_68 : decode cX1_block 68 = .ok (.imul, 1) := by decide +kernel
theorem dX1_block_69 : decode cX1_block 69 = .ok (.iushr, 1) := by decide +kernel
theorem dX1_block_70 : decode cX1_block 70 = .ok (.sipush 255, 3) := by decide +kernel
theorem dX1_block_73 : decode cX1_block 73 = .ok (.iand, 1) := by decide +kernel
theorem dX1_block_74 : decode cX1_block 74 = .ok (.iastore, 1) := by decide +kernel
theorem dX1_block_75 : decode cX1_block 75 = .ok (.iinc 1 1, 3) := by decide +kernel
theorem dX1_block_78 : decode cX1_block 78 = .ok (.goto (-34), 3) := by decide +kernel
theorem dX1_block_81 : decode cX1_block 81 = .ok (.aload_n 0, 1) := by decide +kernel
theorem dX1_block_82 : decode cX1_block 82 = .ok (.getfield 25, 3) := by decide +kernel
theorem dX1_block_85 : decode cX1_block 85 = .ok (.bipush 12, 2) := by decide +kernel
theorem dX1_block_87 : decode cX1_block 87 = .ok (.aload_n 0, 1) := by decide +kernel
theorem dX1_block_88 : decode cX1_block 88 = .ok (.getfield 25, 3) := by decide +kernel
theorem dX1_block_91 : decode cX1_block 91 = .ok (.bipush 12, 2) := by decide +kernel
theorem dX1_block_93 : decode cX1_block 93 = .ok (.iaload, 1) := by decide +kernel
theorem dX1_block_94 : decode cX1_block 94 = .ok (.iconst 1, 1) := by decide +kernel
theorem dX1_block_95 : decode cX1_block 95 = .ok (.iadd, 1) := by decide +kernel
theorem dX1_block_96 : decode cX1_block 96 = .ok (.iastore, 1) := by decide +kernel
theorem dX1_block_97 : decode cX1_block 97 = .ok (.iconst 1, 1) := by decide +kernel
theorem dX1_block_98 : decode cX1_block 98 = .ok (.ireturn, 1) := by decide +kernel
theorem dX1_stream_0 : decode cX1_stream 0 = .ok (.aload_n 0, 1) := by decide +kernel
theorem dX1_stream_1 : decode cX1_stream 1 = .ok (.getfield 28, 3) := by decide +kernel
theorem dX1_stream_4 : decode cX1_stream 4 = .ok (.iload_n 1, 1) := by decide +kernel
theorem dX1_stream_5 : decode cX1_stream 5 = .ok (.bipush 63, 2) := by decide +kernel
theorem dX1_stream_7 : decode cX1_stream 7 = .ok (.iand, 1) := by decide +kernel
theorem dX1_stream_8 : decode cX1_stream 8 = .ok (.iaload, 1) := by decide +kernel
theorem dX1_stream_9 : decode cX1_stream 9 = .ok (.ireturn, 1) := by decide +kernel
end
section
set_option maxRecDepth 100000
theorem dL_law_0 : decode cL_law 0 = .ok (.new 7, 3) := by decide +kernel
theorem dL_law_3 : decode cL_law 3 = .ok (.dup, 1) := by decide +kernel
theorem dL_law_4 : decode cL_law 4 = .ok (.invokespecial 9, 3) := by decide +kernel
theorem dL_law_7 : decode cL_law 7 = .ok (.astore_n 1, 1) := by decide +kernel
theorem dL_law_8 : decode cL_law 8 = .ok (.new 10, 3) := by decide +kernel
theorem dL_law_11 : decode cL_law 11 = .ok (.dup, 1) := by decide +kernel
theorem dL_law_12 : decode cL_law 12 = .ok (.invokespecial 12, 3) := by decide +kernel
theorem dL_law_15 : decode cL_law 15 = .ok (.astore_n 2, 1) := by decide +kernel
theorem dL_law_16 : decode cL_law 16 = .ok (.iconst 0, 1) := by decide +kernel
theorem dL_law_17 : decode cL_law 17 = .ok (.istore_n 3, 1) := by decide +kernel
theorem dL_law_18 : decode cL_law 18 = .ok (.iload_n 3, 1) := by decide +kernel
theorem dL_law_19 : decode cL_law 19 = .ok (.aload_n 0, 1) := by decide +kernel
theorem dL_law_20 : decode cL_law 20 = .ok (.arraylength, 1) := by decide +kernel
theorem dL_law_21 : decode cL_law 21 = .ok (.bipush 6, 2) := by decide +kernel
theorem dL_law_23 : decode cL_law 23 = .ok (.isub, 1) := by decide +kernel
theorem dL_law_24 : decode cL_law 24 = .ok (.if_icmp .gt 341, 3) := by decide +kernel
theorem dL_law_27 : decode cL_law 27 = .ok (.aload_n 0, 1) := by decide +kernel
theorem dL_law_28 : decode cL_law 28 = .ok (.iload_n 3, 1) := by decide +kernel
theorem dL_law_29 : decode cL_law 29 = .ok (.iaload, 1) := by decide +kernel
theorem dL_law_30 : decode cL_law 30 = .ok (.bipush 15, 2) := by decide +kernel
theorem dL_law_32 : decode cL_law 32 = .ok (.iand, 1) := by decide +kernel
theorem dL_law_33 : decode cL_law 33 = .ok (.tableswitch 326 0 8 #[51, 112, 133, 154, 165, 188, 249, 290, 303], 51) := by decide +kernel
theorem dL_law_84 : decode cL_law 84 = .ok (.aload_n 1, 1) := by decide +kernel
theorem dL_law_85 : decode cL_law 85 = .ok (.aload_n 0, 1) := by decide +kernel
theorem dL_law_86 : decode cL_law 86 = .ok (.iload_n 3, 1) := by decide +kernel
theorem dL_law_87 : decode cL_law 87 = .ok (.iconst 1, 1) := by decide +kernel
theorem dL_law_88 : decode cL_law 88 = .ok (.iadd, 1) := by decide +kernel
theorem dL_law_89 : decode cL_law 89 = .ok (.iaload, 1) := by decide +kernel
theorem dL_law_90 : decode cL_law 90 = .ok (.aload_n 0, 1) := by decide +kernel
theorem dL_law_91 : decode cL_law 91 = .ok (.iload_n 3, 1) := by decide +kernel
theorem dL_law_92 : decode cL_law 92 = .ok (.iconst 2, 1) := by decide +kernel
theorem dL_law_93 : decode cL_law 93 = .ok (.iadd, 1) := by decide +kernel
theorem dL_law_94 : decode cL_law 94 = .ok (.iaload, 1) := by decide +kernel
theorem dL_law_95 : decode cL_law 95 = .ok (.aload_n 0, 1) := by decide +kernel
theorem dL_law_96 : decode cL_law 96 = .ok (.iload_n 3, 1) := by decide +kernel
theorem dL_law_97 : decode cL_law 97 = .ok (.iconst 3, 1) := by decide +kernel
theorem dL_law_98 : decode cL_law 98 = .ok (.iadd, 1) := by decide +kernel
theorem dL_law_99 : decode cL_law 99 = .ok (.iaload, 1) := by decide +kernel
theorem dL_law_100 : decode cL_law 100 = .ok (.aload_n 0, 1) := by decide +kernel
theorem dL_law_101 : decode cL_law 101 = .ok (.iload_n 3, 1) := by decide +kernel
theorem dL_law_102 : decode cL_law 102 = .ok (.iconst 4, 1) := by decide +kernel
theorem dL_law_103 : decode cL_law 103 = .ok (.iadd, 1) := by decide +kernel
theorem dL_law_104 : decode cL_law 104 = .ok (.iaload, 1) := by decide +kernel
theorem dL_law_105 : decode cL_law 105 = .ok (.aload_n 0, 1) := by decide +kernel
theorem dL_law_106 : decode cL_law 106 = .ok (.iload_n 3, 1) := by decide +kernel
theorem dL_law_107 : decode cL_law 107 = .ok (.iconst 5, 1) := by decide +kernel
theorem dL_law_108 : decode cL_law 108 = .ok (.iadd, 1) := by decide +kernel
theorem dL_law_109 : decode cL_law 109 = .ok (.iaload, 1) := by decide +kernel
theorem dL_law_110 : decode cL_law 110 = .ok (.invokevirtual 13, 3) := by decide +kernel
theorem dL_law_113 : decode cL_law 113 = .ok (.aload_n 2, 1) := by decide +kernel
theorem dL_law_114 : decode cL_law 114 = .ok (.aload_n 0, 1) := by decide +kernel
theorem dL_law_115 : decode cL_law 115 = .ok (.iload_n 3, 1) := by decide +kernel
theorem dL_law_116 : decode cL_law 116 = .ok (.iconst 1, 1) := by decide +kernel
theorem dL_law_117 : decode cL_law 117 = .ok (.iadd, 1) := by decide +kernel
theorem dL_law_118 : decode cL_law 118 = .ok (.iaload, 1) := by decide +kernel
theorem dL_law_119 : decode cL_law 119 = .ok (.aload_n 0, 1) := by decide +kernel
theorem dL_law_120 : decode cL_law 120 = .ok (.iload_n 3, 1) := by decide +kernel
theorem dL_law_121 : decode cL_law 121 = .ok (.iconst 2, 1) := by decide +kernel
theorem dL_law_122 : decode cL_law 122 = .ok (.iadd, 1) := by decide +kernel
theorem dL_law_123 : decode cL_law 123 = .ok (.iaload, 1) := by decide +kernel
theorem dL_law_124 : decode cL_law 124 = .ok (.aload_n 0, 1) := by decide +kernel
theorem dL_law_125 : decode cL_law 125 = .ok (.iload_n 3, 1) := by decide +kernel
theorem dL_law_126 : decode cL_law 126 = .ok (.iconst 3, 1) := by decide +kernel
theorem dL_law_127 : decode cL_law 127 = .ok (.iadd, 1) := by decide +kernel
theorem dL_law_128 : decode cL_law 128 = .ok (.iaload, 1) := by decide +kernel
theorem dL_law_129 : decode cL_law 129 = .ok (.aload_n 0, 1) := by decide +kernel
theorem dL_law_130 : decode cL_law 130 = .ok (.iload_n 3, 1) := by decide +kernel
theorem dL_law_131 : decode cL_law 131 = .ok (.iconst 4, 1) := by decide +kernel
theorem dL_law_132 : decode cL_law 132 = .ok (.iadd, 1) := by decide +kernel
theorem dL_law_133 : decode cL_law 133 = .ok (.iaload, 1) := by decide +kernel
theorem dL_law_134 : decode cL_law 134 = .ok (.aload_n 0, 1) := by decide +kernel
theorem dL_law_135 : decode cL_law 135 = .ok (.iload_n 3, 1) := by decide +kernel
theorem dL_law_136 : decode cL_law 136 = .ok (.iconst 5, 1) := by decide +kernel
theorem dL_law_137 : decode cL_law 137 = .ok (.iadd, 1) := by decide +kernel
theorem dL_law_138 : decode cL_law 138 = .ok (.iaload, 1) := by decide +kernel
theorem dL_law_139 : decode cL_law 139 = .ok (.invokevirtual 17, 3) := by decide +kernel
theorem dL_law_142 : decode cL_law 142 = .ok (.goto 217, 3) := by decide +kernel
theorem dL_law_145 : decode cL_law 145 = .ok (.aload_n 1, 1) := by decide +kernel
theorem dL_law_146 : decode cL_law 146 = .ok (.aload_n 0, 1) := by decide +kernel
theorem dL_law_147 : decode cL_law 147 = .ok (.iload_n 3, 1) := by decide +kernel
theorem dL_law_148 : decode cL_law 148 = .ok (.iconst 1, 1) := by decide +kernel
theorem dL_law_149 : decode cL_law 149 = .ok (.iadd, 1) := by decide +kernel
theorem dL_law_150 : decode cL_law 150 = .ok (.iaload, 1) := by decide +kernel
theorem dL_law_151 : decode cL_law 151 = .ok (.invokevirtual 18, 3) := by decide +kernel
theorem dL_law_154 : decode cL_law 154 = .ok (.aload_n 2, 1) := by decide +kernel
theorem dL_law_155 : decode cL_law 155 = .ok (.aload_n 0, 1) := by decide +kernel
theorem dL_law_156 : decode cL_law 156 = .ok (.iload_n 3, 1) := by decide +kernel
theorem dL_law_157 : decode cL_law 157 = .ok (.iconst 1, 1) := by decide +kernel
theorem dL_law_158 : decode cL_law 158 = .ok (.iadd, 1) := by decide +kernel
theorem dL_law_159 : decode cL_law 159 = .ok (.iaload, 1) := by decide +kernel
theorem dL_law_160 : decode cL_law 160 = .ok (.invokevirtual 22, 3) := by decide +kernel
theorem dL_law_163 : decode cL_law 163 = .ok (.goto 196, 3) := by decide +kernel
theorem dL_law_166 : decode cL_law 166 = .ok (.aload_n 1, 1) := by decide +kernel
theorem dL_law_167 : decode cL_law 167 = .ok (.aload_n 0, 1) := by decide +kernel
theorem dL_law_168 : decode cL_law 168 = .ok (.iload_n 3, 1) := by decide +kernel
theorem dL_law_169 : decode cL_law 169 = .ok (.iconst 1, 1) := by decide +kernel
theorem dL_law_170 : decode cL_law 170 = .ok (.iadd, 1) := by decide +kernel
theorem dL_law_171 : decode cL_law 171 = .ok (.iaload, 1) := by decide +kernel
theorem dL_law_172 : decode cL_law 172 = .ok (.invokevirtual 23, 3) := by decide +kernel
theorem dL_law_175 : decode cL_law 175 = .ok (.aload_n 2, 1) := by decide +kernel
theorem dL_law_176 : decode cL_law 176 = .ok (.aload_n 0, 1) := by decide +kernel
theorem dL_law_177 : decode cL_law 177 = .ok (.iload_n 3, 1) := by decide +kernel
theorem dL_law_178 : decode cL_law 178 = .ok (.iconst 1, 1) := by decide +kernel
theorem dL_law_179 : decode cL_law 179 = .ok (.iadd, 1) := by decide +kernel
theorem dL_law_180 : decode cL_law 180 = .ok (.iaload, 1) := by decide +kernel
theorem dL_law_181 : decode cL_law 181 = .ok (.invokevirtual 26, 3) := by decide +kernel
theorem dL_law_184 : decode cL_law 184 = .ok (.goto 175, 3) := by decide +kernel
theorem dL_law_187 : decode cL_law 187 = .ok (.aload_n 1, 1) := by decide +kernel
theorem dL_law_188 : decode cL_law 188 = .ok (.invokevirtual 27, 3) := by decide +kernel
theorem dL_law_191 : decode cL_law 191 = .ok (.aload_n 2, 1) := by decide +kernel
theorem dL_law_192 : decode cL_law 192 = .ok (.invokevirtual 30, 3) := by decide +kernel
theorem dL_law_195 : decode cL_law 195 = .ok (.goto 164, 3) := by decide +kernel
theorem dL_law_198 : decode cL_law 198 = .ok (.aload_n 1, 1) := by decide +kernel
theorem dL_law_199 : decode cL_law 199 = .ok (.aload_n 0, 1) := by decide +kernel
theorem dL_law_200 : decode cL_law 200 = .ok (.iload_n 3, 1) := by decide +kernel
theorem dL_law_201 : decode cL_law 201 = .ok (.iconst 1, 1) := by decide +kernel
theorem dL_law_202 : decode cL_law 202 = .ok (.iadd, 1) := by decide +kernel
theorem dL_law_203 : decode cL_law 203 = .ok (.iaload, 1) := by decide +kernel
theorem dL_law_204 : decode cL_law 204 = .ok (.invokevirtual 31, 3) := by decide +kernel
theorem dL_law_207 : decode cL_law 207 = .ok (.aload_n 2, 1) := by decide +kernel
theorem dL_law_208 : decode cL_law 208 = .ok (.aload_n 0, 1) := by decide +kernel
theorem dL_law_209 : decode cL_law 209 = .ok (.iload_n 3, 1) := by decide +kernel
theorem dL_law_210 : decode cL_law 210 = .ok (.iconst 1, 1) := by decide +kernel
theorem dL_law_211 : decode cL_law 211 = .ok (.iadd, 1) := by decide +kernel
theorem dL_law_212 : decode cL_law 212 = .ok (.iaload, 1) := by decide +kernel
theorem dL_law_213 : decode cL_law 213 = .ok (.invokevirtual 35, 3) := by decide +kernel
theorem dL_law_216 : decode cL_law 216 = .ok (.if_icmp .eq 143, 3) := by decide +kernel
theorem dL_law_219 : decode cL_law 219 = .ok (.iconst 0, 1) := by decide +kernel
theorem dL_law_220 : decode cL_law 220 = .ok (.ireturn, 1) := by decide +kernel
theorem dL_law_221 : decode cL_law 221 = .ok (.aload_n 1, 1) := by decide +kernel
theorem dL_law_222 : decode cL_law 222 = .ok (.aload_n 0, 1) := by decide +kernel
theorem dL_law_223 : decode cL_law 223 = .ok (.iload_n 3, 1) := by decide +kernel
theorem dL_law_224 : decode cL_law 224 = .ok (.iconst 1, 1) := by decide +kernel
theorem dL_law_225 : decode cL_law 225 = .ok (.iadd, 1) := by decide +kernel
theorem dL_law_226 : decode cL_law 226 = .ok (.iaload, 1) := by decide +kernel
theorem dL_law_227 : decode cL_law 227 = .ok (.aload_n 0, 1) := by decide +kernel
theorem dL_law_228 : decode cL_law 228 = .ok (.iload_n 3, 1) := by decide +kernel
theorem dL_law_229 : decode cL_law 229 = .ok (.iconst 2, 1) := by decide +kernel
theorem dL_law_230 : decode cL_law 230 = .ok (.iadd, 1) := by decide +kernel
theorem dL_law_231 : decode cL_law 231 = .ok (.iaload, 1) := by decide +kernel
theorem dL_law_232 : decode cL_law 232 = .ok (.aload_n 0, 1) := by decide +kernel
theorem dL_law_233 : decode cL_law 233 = .ok (.iload_n 3, 1) := by decide +kernel
theorem dL_law_234 : decode cL_law 234 = .ok (.iconst 3, 1) := by decide +kernel
theorem dL_law_235 : decode cL_law 235 = .ok (.iadd, 1) := by decide +kernel
theorem dL_law_236 : decode cL_law 236 = .ok (.iaload, 1) := by decide +kernel
theorem dL_law_237 : decode cL_law 237 = .ok (.aload_n 0, 1) := by decide +kernel
theorem dL_law_238 : decode cL_law 238 = .ok (.iload_n 3, 1) := by decide +kernel
theorem dL_law_239 : decode cL_law 239 = .ok (.iconst 4, 1) := by decide +kernel
theorem dL_law_240 : decode cL_law 240 = .ok (.iadd, 1) := by decide +kernel
theorem dL_law_241 : decode cL_law 241 = .ok (.iaload, 1) := by decide +kernel
theorem dL_law_242 : decode cL_law 242 = .ok (.aload_n 0, 1) := by decide +kernel
theorem dL_law_243 : decode cL_law 243 = .ok (.iload_n 3, 1) := by decide +kernel
theorem dL_law_244 : decode cL_law 244 = .ok (.iconst 5, 1) := by decide +kernel
theorem dL_law_245 : decode cL_law 245 = .ok (.iadd, 1) := by decide +kernel
theorem dL_law_246 : decode cL_law 246 = .ok (.iaload, 1) := by decide +kernel
theorem dL_law_247 : decode cL_law 247 = .ok (.invokevirtual 36, 3) := by decide +kernel
theorem dL_law_250 : decode cL_law 250 = .ok (.aload_n 2, 1) := by decide +kernel
theorem dL_law_251 : decode cL_law 251 = .ok (.aload_n 0, 1) := by decide +kernel
theorem dL_law_252 : decode cL_law 252 = .ok (.iload_n 3, 1) := by decide +kernel
theorem dL_law_253 : decode cL_law 253 = .ok (.iconst 1, 1) := by decide +kernel
theorem dL_law_254 : decode cL_law 254 = .ok (.iadd, 1) := by decide +kernel
theorem dL_law_255 : decode cL_law 255 = .ok (.iaload, 1) := by decide +kernel
theorem dL_law_256 : decode cL_law 256 = .ok (.aload_n 0, 1) := by decide +kernel
theorem dL_law_257 : decode cL_law 257 = .ok (.iload_n 3, 1) := by decide +kernel
theorem dL_law_258 : decode cL_law 258 = .ok (.iconst 2, 1) := by decide +kernel
theorem dL_law_259 : decode cL_law 259 = .ok (.iadd, 1) := by decide +kernel
theorem dL_law_260 : decode cL_law 260 = .ok (.iaload, 1) := by decide +kernel
theorem dL_law_261 : decode cL_law 261 = .ok (.aload_n 0, 1) := by decide +kernel
theorem dL_law_262 : decode cL_law 262 = .ok (.iload_n 3, 1) := by decide +kernel
theorem dL_law_263 : decode cL_law 263 = .ok (.iconst 3, 1) := by decide +kernel
theorem dL_law_264 : decode cL_law 264 = .ok (.iadd, 1) := by decide +kernel
theorem dL_law_265 : decode cL_law 265 = .ok (.iaload, 1) := by decide +kernel
theorem dL_law_266 : decode cL_law 266 = .ok (.aload_n 0, 1) := by decide +kernel
theorem dL_law_267 : decode cL_law 267 = .ok (.iload_n 3, 1) := by decide +kernel
theorem dL_law_268 : decode cL_law 268 = .ok (.iconst 4, 1) := by decide +kernel
theorem dL_law_269 : decode cL_law 269 = .ok (.iadd, 1) := by decide +kernel
theorem dL_law_270 : decode cL_law 270 = .ok (.iaload, 1) := by decide +kernel
theorem dL_law_271 : decode cL_law 271 = .ok (.aload_n 0, 1) := by decide +kernel
theorem dL_law_272 : decode cL_law 272 = .ok (.iload_n 3, 1) := by decide +kernel
theorem dL_law_273 : decode cL_law 273 = .ok (.iconst 5, 1) := by decide +kernel
theorem dL_law_274 : decode cL_law 274 = .ok (.iadd, 1) := by decide +kernel
theorem dL_law_275 : decode cL_law 275 = .ok (.iaload, 1) := by decide +kernel
theorem dL_law_276 : decode cL_law 276 = .ok (.invokevirtual 39, 3) := by decide +kernel
theorem dL_law_279 : decode cL_law 279 = .ok (.goto 80, 3) := by decide +kernel
theorem dL_law_282 : decode cL_law 282 = .ok (.aload_n 1, 1) := by decide +kernel
theorem dL_law_283 : decode cL_law 283 = .ok (.aload_n 0, 1) := by decide +kernel
theorem dL_law_284 : decode cL_law 284 = .ok (.iload_n 3, 1) := by decide +kernel
theorem dL_law_285 : decode cL_law 285 = .ok (.iconst 1, 1) := by decide +kernel
theorem dL_law_286 : decode cL_law 286 = .ok (.iadd, 1) := by decide +kernel
theorem dL_law_287 : decode cL_law 287 = .ok (.iaload, 1) := by decide +kernel
theorem dL_law_288 : decode cL_law 288 = .ok (.aload_n 0, 1) := by decide +kernel
theorem dL_law_289 : decode cL_law 289 = .ok (.iload_n 3, 1) := by decide +kernel
theorem dL_law_290 : decode cL_law 290 = .ok (.iconst 2, 1) := by decide +kernel
theorem dL_law_291 : decode cL_law 291 = .ok (.iadd, 1) := by decide +kernel
theorem dL_law_292 : decode cL_law 292 = .ok (.iaload, 1) := by decide +kernel
theorem dL_law_293 : decode cL_law 293 = .ok (.aload_n 0, 1) := by decide +kernel
theorem dL_law_294 : decode cL_law 294 = .ok (.iload_n 3, 1) := by decide +kernel
theorem dL_law_295 : decode cL_law 295 = .ok (.iconst 3, 1) := by decide +kernel
theorem dL_law_296 : decode cL_law 296 = .ok (.iadd, 1) := by decide +kernel
theorem dL_law_297 : decode cL_law 297 = .ok (.iaload, 1) := by decide +kernel
theorem dL_law_298 : decode cL_law 298 = .ok (.invokevirtual 40, 3) := by decide +kernel
theorem dL_law_301 : decode cL_law 301 = .ok (.aload_n 2, 1) := by decide +kernel
theorem dL_law_302 : decode cL_law 302 = .ok (.aload_n 0, 1) := by decide +kernel
theorem dL_law_303 : decode cL_law 303 = .ok (.iload_n 3, 1) := by decide +kernel
theorem dL_law_304 : decode cL_law 304 = .ok (.iconst 1, 1) := by decide +kernel
theorem dL_law_305 : decode cL_law 305 = .ok (.iadd, 1) := by decide +kernel
theorem dL_law_306 : decode cL_law 306 = .ok (.iaload, 1) := by decide +kernel
theorem dL_law_307 : decode cL_law 307 = .ok (.aload_n 0, 1) := by decide +kernel
theorem dL_law_308 : decode cL_law 308 = .ok (.iload_n 3, 1) := by decide +kernel
theorem dL_law_309 : decode cL_law 309 = .ok (.iconst 2, 1) := by decide +kernel
theorem dL_law_310 : decode cL_law 310 = .ok (.iadd, 1) := by decide +kernel
theorem dL_law_311 : decode cL_law 311 = .ok (.iaload, 1) := by decide +kernel
theorem dL_law_312 : decode cL_law 312 = .ok (.aload_n 0, 1) := by decide +kernel
theorem dL_law_313 : decode cL_law 313 = .ok (.iload_n 3, 1) := by decide +kernel
theorem dL_law_314 : decode cL_law 314 = .ok (.iconst 3, 1) := by decide +kernel
theorem dL_law_315 : decode cL_law 315 = .ok (.iadd, 1) := by decide +kernel
theorem dL_law_316 : decode cL_law 316 = .ok (.iaload, 1) := by decide +kernel
theorem dL_law_317 : decode cL_law 317 = .ok (.invokevirtual 44, 3) := by decide +kernel
theorem dL_law_320 : decode cL_law 320 = .ok (.goto 39, 3) := by decide +kernel
theorem dL_law_323 : decode cL_law 323 = .ok (.aload_n 1, 1) := by decide +kernel
theorem dL_law_324 : decode cL_law 324 = .ok (.invokevirtual 45, 3) := by decide +kernel
theorem dL_law_327 : decode cL_law 327 = .ok (.aload_n 2, 1) := by decide +kernel
theorem dL_law_328 : decode cL_law 328 = .ok (.invokevirtual 49, 3) := by decide +kernel
theorem dL_law_331 : decode cL_law 331 = .ok (.if_icmp .eq 28, 3) := by decide +kernel
theorem dL_law_334 : decode cL_law 334 = .ok (.iconst 0, 1) := by decide +kernel
theorem dL_law_335 : decode cL_law 335 = .ok (.ireturn, 1) := by decide +kernel
theorem dL_law_336 : decode cL_law 336 = .ok (.aload_n 1, 1) := by decide +kernel
theorem dL_law_337 : decode cL_law 337 = .ok (.aload_n 0, 1) := by decide +kernel
theorem dL_law_338 : decode cL_law 338 = .ok (.iload_n 3, 1) := by decide +kernel
theorem dL_law_339 : decode cL_law 339 = .ok (.iconst 1, 1) := by decide +kernel
theorem dL_law_340 : decode cL_law 340 = .ok (.iadd, 1) := by decide +kernel
theorem dL_law_341 : decode cL_law 341 = .ok (.iaload, 1) := by decide +kernel
theorem dL_law_342 : decode cL_law 342 = .ok (.invokevirtual 50, 3) := by decide +kernel
theorem dL_law_345 : decode cL_law 345 = .ok (.aload_n 2, 1) := by decide +kernel
theorem dL_law_346 : decode cL_law 346 = .ok (.aload_n 0, 1) := by decide +kernel
theorem dL_law_347 : decode cL_law 347 = .ok (.iload_n 3, 1) := by decide +kernel
theorem dL_law_348 : decode cL_law 348 = .ok (.iconst 1, 1) := by decide +kernel
theorem dL_law_349 : decode cL_law 349 = .ok (.iadd, 1) := by decide +kernel
theorem dL_law_350 : decode cL_law 350 = .ok (.iaload, 1) := by decide +kernel
theorem dL_law_351 : decode cL_law 351 = .ok (.invokevirtual 53, 3) := by decide +kernel
theorem dL_law_354 : decode cL_law 354 = .ok (.if_icmp .eq 5, 3) := by decide +kernel
theorem dL_law_357 : decode cL_law 357 = .ok (.iconst 0, 1) := by decide +kernel
theorem dL_law_358 : decode cL_law 358 = .ok (.ireturn, 1) := by decide +kernel
theorem dL_law_359 : decode cL_law 359 = .ok (.iinc 3 6, 3) := by decide +kernel
theorem dL_law_362 : decode cL_law 362 = .ok (.goto (-344), 3) := by decide +kernel
theorem dL_law_365 : decode cL_law 365 = .ok (.iconst 1, 1) := by decide +kernel
theorem dL_law_366 : decode cL_law 366 = .ok (.ireturn, 1) := by decide +kernel
end
section
set_option maxRecDepth 100000
/-! OUR ROWS: one form of contract (CV void, CI int, CL long), one bundle for a body (Fx), one for the world (Wd), rows on Nat indices -/
abbrev cl_ : List vw_C := [(RX0, TX0, 7), (RX1, TX1, 8)]
abbrev tys_ (cI cB cL : ClassId) : List (ClassId × FieldType) := [(cI, .int), (cB, .byte), (cL, .long)]
abbrev rm_ (f n : Nat) : Room := { frames := f, cells := 0, slots := 0, locals := n }
abbrev arI (c : ClassId) (n : Nat) (f : Nat → Int32) : va_E := .inl (c, n, .inl f)
abbrev arL (c : ClassId) (n : Nat) (f : Nat → Int64) : va_E := .inl (c, n, .inr (.inl f))
abbrev obj (k : Nat) (fs : List Value) : va_E := .inr (k, fs)
/-- the world ahead of a call, and behind it -/
def PB (G : va_G) (tys : List (ClassId × FieldType)) (w : va_W) (sz : Nat) (U : State) : Prop := U.heap.size = sz ∧ va_P G cl_ w U.heap ∧ va_K G cl_ tys U ∧ va_D (fun _ => True) w
def PA (G : va_G) (tys : List (ClassId × FieldType)) (w : va_W) (A : Nat → Prop) (t : State) : Prop := va_P G cl_ w t.heap ∧ va_K G cl_ tys t ∧ va_D A w
abbrev QV (G : va_G) (tys : List (ClassId × FieldType)) (w : va_W) (A : Nat → Prop) : Array Value → State → Outcome → State → Prop := va_Qv (fun _ : Unit => True) (fun _ => PA G tys w A) A
abbrev QI (r : Int32) (G : va_G) (tys : List (ClassId × FieldType)) (w : va_W) (A : Nat → Prop) : Array Value → State → Outcome → State → Prop := va_Qi (fun (z : Int32) (_ : Unit) => z = r) (fun _ => PA G tys w A) A
abbrev QL (r : Int64) (G : va_G) (tys : List (ClassId × FieldType)) (w : va_W) (A : Nat → Prop) : Array Value → State → Outcome → State → Prop := va_Ql (fun (z : Int64) (_ : Unit) => z = r) (fun _ => PA G tys w A) A
/-- a contract: from the world w, with the arguments av, the method returns, and the world is w' -/
def CV (l : Launch) (y : MethodName) (ws : List Cond) (rm : Room) (G : va_G) (tys : List (ClassId × FieldType)) (av : List Value) (w w' : va_W) : Prop :=
  ∀ sz : Nat, Met l y ws rm (va_Pc av (PB G tys w sz)) (QV G tys w' (va_A w sz)) 0 0 (va_A w sz)
def CI (l : Launch) (y : MethodName) (ws : List Cond) (rm : Room) (G : va_G) (tys : List (ClassId × FieldType)) (av : List Value) (w w' : va_W) (r : Int32) : Prop :=
  ∀ sz : Nat, Met l y ws rm (va_Pc av (PB G tys w sz)) (QI r G tys w' (va_A w sz)) 0 0 (va_A w sz)
def CL (l : Launch) (y : MethodName) (ws : List Cond) (rm : Room) (G : va_G) (tys : List (ClassId × FieldType)) (av : List Value) (w w' : va_W) (r : Int64) : Prop :=
  ∀ sz : Nat, Met l y ws rm (va_Pc av (PB G tys w sz)) (QL r G tys w' (va_A w sz)) 0 0 (va_A w sz)
/-- what stands all through a body -/
abbrev Fx (p : Program) (m : MethodId) (c : Code) (cc : ByteArray) (nL : Nat) (s : State) (args : Array Value) (own : String) (meth : Method) (ret : Option FieldType) : Prop :=
  CallFix p m c cc nL s args lw_all own ∧ meth.sig.returnType = ret ∧ meth.locks = false
/-- the world of a body, now -/
def Wd (G : va_G) (tys : List (ClassId × FieldType)) (A : Nat → Prop) (s : State) (H : Heap) (locs : List Loc) (w : va_W) : Prop :=
  va_K G cl_ tys s ∧ va_P G cl_ w H ∧ va_D A w ∧ va_S A s.heap H locs ∧ ∀ q : Nat, s.heap.size ≤ q → A q
theorem PB.blind {G : va_G} {tys : List (ClassId × FieldType)} {av : List Value} {w : va_W} {sz : Nat} : FrameBlind (va_Pc av (PB G tys w sz)) := by
  intro a U g mk q
  obtain ⟨q0, q1, qP, qK, qD⟩ := q
  exact ⟨q0, q1, qP, va_K.moved (u := U) (U := U.calling g mk a) (Vm.Alike.refl U.vm) qK, qD⟩
section ENT
variable {l : Launch} {y : MethodName} {cc : ByteArray} {maxL : Nat} {ret : Option FieldType} {rm : Room} {G : va_G} {tys : List (ClassId × FieldType)} {av : List Value} {w w' : va_W}
theorem ent {Qc : Nat → Array Value → State → Outcome → State → Prop} {mc ms : Nat} (hy : plainName y.cls = true) (hlen : (lg_sl av).length ≤ maxL)
    (body : ∀ (p : Program) (e : Env) (s : State) (m : MethodId) (below : List Frame) (meth : Method) (c : Code) (ls : Array Slot), Fx p m c cc maxL s av.toArray y.cls meth ret → meth.name = y.name → Wd G tys (va_A w s.heap.size) s s.heap [] w → lv_has ls maxL (lv_args 0 av) →
      W p l e rm s m av.toArray below meth c s.heap [] 0 0 (MQ below (Qc s.heap.size) av.toArray s mc ms (va_A w s.heap.size)) (F0 m 0 ls [])) (sz : Nat) :
    Met l y (ws_ y cc maxL ret) rm (va_Pc av (PB G tys w sz)) (Qc sz) mc ms (va_A w sz) := by
  refine Met.ofW (cc := cc) (maxL := maxL) (ret := ret) hy rfl ?_
  intro p e s m args below meth c s₁ B hml hv
  obtain ⟨rfl, hsz, hP, hK, hD⟩ := hv
  subst hsz
  have hts := atoms_spec (ws := ws_ y cc maxL ret) B.pre
  have hts : ∀ w ∈ lw_all, w.before _ s = true := fun w h => hts w (List.mem_cons_of_mem _ h)
  have hown : s.vm.findClass y.cls = some m.cls := findClass_of_methodNamed B.named
  rw [lg_entry_eq]
  exact body p e s m below meth c _ ⟨⟨B.exec, B.bytes, hml, hown, hts⟩, B.returns, B.notSynchronized⟩ (name_of_methodNamed B.named B.method).1 ⟨hK, hP, hD.self, va_S.rf, fun q h => Or.inr h⟩ (lv_entry av hlen)
theorem CV.of (hy : plainName y.cls = true) (hlen : (lg_sl av).length ≤ maxL)
    (body : ∀ (p : Program) (e : Env) (s : State) (m : MethodId) (below : List Frame) (meth : Method) (c : Code) (A : Nat → Prop) (ls : Array Slot), Fx p m c cc maxL s av.toArray y.cls meth none → Wd G tys A s s.heap [] w → lv_has ls maxL (lv_args 0 av) →
      W p l e rm s m av.toArray below meth c s.heap [] 0 0 (MQ below (QV G tys w' A) av.toArray s 0 0 A) (F0 m 0 ls [])) :
    CV l y (ws_ y cc maxL none) rm G tys av w w' := fun sz =>
  ent (Qc := fun sz => QV G tys w' (va_A w sz)) hy hlen (fun p e s m below meth c ls F _ hW hl => body p e s m below meth c _ ls F hW hl) sz
theorem CI.of {r : Int32} (hy : plainName y.cls = true) (hlen : (lg_sl av).length ≤ maxL)
    (body : ∀ (p : Program) (e : Env) (s : State) (m : MethodId) (below : List Frame) (meth : Method) (c : Code) (A : Nat → Prop) (ls : Array Slot), Fx p m c cc maxL s av.toArray y.cls meth ret → Wd G tys A s s.heap [] w → lv_has ls maxL (lv_args 0 av) →
      W p l e rm s m av.toArray below meth c s.heap [] 0 0 (MQ below (QI r G tys w' A) av.toArray s 0 0 A) (F0 m 0 ls [])) :
    CI l y (ws_ y cc maxL ret) rm G tys av w w' r := fun sz =>
  ent (Qc := fun sz => QI r G tys w' (va_A w sz)) hy hlen (fun p e s m below meth c ls F _ hW hl => body p e s m below meth c _ ls F hW hl) sz
theorem CL.of {r : Int64} (hy : plainName y.cls = true) (hlen : (lg_sl av).length ≤ maxL)
    (body : ∀ (p : Program) (e : Env) (s : State) (m : MethodId) (below : List Frame) (meth : Method) (c : Code) (A : Nat → Prop) (ls : Array Slot), Fx p m c cc maxL s av.toArray y.cls meth ret → Wd G tys A s s.heap [] w → lv_has ls maxL (lv_args 0 av) →
      W p l e rm s m av.toArray below meth c s.heap [] 0 0 (MQ below (QL r G tys w' A) av.toArray s 0 0 A) (F0 m 0 ls [])) :
    CL l y (ws_ y cc maxL ret) rm G tys av w w' r := fun sz =>
  ent (Qc := fun sz => QL r G tys w' (va_A w sz)) hy hlen (fun p e s m below meth c ls F _ hW hl => body p e s m below meth c _ ls F hW hl) sz
end ENT
section ROW
variable {p : Program} {l : Launch} {e : Env} {R : Room} {s : State} {m : MethodId} {args : Array Value} {below : List Frame} {meth : Method} {c : Code} {H : Heap} {locs : List Loc} {cells slots : Nat} {Q : State → Prop}
variable {cc : ByteArray} {pc nL : Nat} {own : String} {ret : Option FieldType} {ls : Array Slot} {rest : List Value} {G : va_G} {cI cB cL : ClassId} {tys : List (ClassId × FieldType)} {A : Nat → Prop} {w : va_W} {a n : Nat}
theorem r_vret (F : Fx p m c cc nL s args own meth none) (h : Wd G tys A s H locs w) (hdg : decode cc pc = .ok (.return_, 1)) :
    W p l e R s m args below meth c H locs cells slots (MQ below (QV G tys w A) args s cells slots A) (F0 m pc ls []) :=
  W.vret F.1.1 F.1.2.1 F.2.1 (fun t ht hW => ⟨⟨(), rfl, trivial, by rw [ht]; exact h.2.1, va_K.moved hW.alike h.1, h.2.2.1⟩, h.2.2.2.1.F ht⟩) h.2.2.2.1.2.2 hdg F.2.2
theorem r_iret {v r : Int32} (F : Fx p m c cc nL s args own meth (some .int)) (h : Wd G tys A s H locs w) (hv : v = r) (hdg : decode cc pc = .ok (.ireturn, 1)) :
    W p l e R s m args below meth c H locs cells slots (MQ below (QI r G tys w A) args s cells slots A) (F0 m pc ls [.int v]) :=
  W.iret F.1.1 F.1.2.1 F.2.1 (fun t ht hW => ⟨⟨v, (), rfl, hv, by rw [ht]; exact h.2.1, va_K.moved hW.alike h.1, h.2.2.1⟩, h.2.2.2.1.F ht⟩) h.2.2.2.1.2.2 hdg F.2.2
theorem r_zret {v r : Int32} (F : Fx p m c cc nL s args own meth (some .boolean)) (h : Wd G tys A s H locs w) (hv : v = r) (hn : narrow .boolean (.int v) = .int v) (hdg : decode cc pc = .ok (.ireturn, 1)) :
    W p l e R s m args below meth c H locs cells slots (MQ below (QI r G tys w A) args s cells slots A) (F0 m pc ls [.int v]) :=
  W.zret F.1.1 F.1.2.1 F.2.1 hn (fun t ht hW => ⟨⟨v, (), rfl, hv, by rw [ht]; exact h.2.1, va_K.moved hW.alike h.1, h.2.2.1⟩, h.2.2.2.1.F ht⟩) h.2.2.2.1.2.2 hdg F.2.2
theorem r_lret {v r : Int64} (F : Fx p m c cc nL s args own meth (some .long)) (h : Wd G tys A s H locs w) (hv : v = r) (hdg : decode cc pc = .ok (.lreturn, 1)) :
    W p l e R s m args below meth c H locs cells slots (MQ below (QL r G tys w A) args s cells slots A) (F0 m pc ls [.long v]) :=
  W.lret F.1.1 F.1.2.1 F.2.1 (fun t ht hW => ⟨⟨v, (), rfl, hv, by rw [ht]; exact h.2.1, va_K.moved hW.alike h.1, h.2.2.1⟩, h.2.2.2.1.F ht⟩) h.2.2.2.1.2.2 hdg F.2.2
-- fields
theorem r_getX {index : Nat} (F : Fx p m c cc nL s args RX0 meth ret) (h : Wd G tys A s H locs w) (q0 k : Nat) {fs : List Value} {v : Value} (he : w[q0]? = some (a, obj 0 fs)) (hk : k < 7) (ho : (TX0 k).1 = RX0) (hl : Cond.fieldLink RX0 index RX0 (TX0 k).2.1 (TX0 k).2.2.1 ∈ lw_all) (hv : fs[k]? = some v) (hdg : decode cc pc = .ok (.getfield index, 3))
    (kk : W p l e R s m args below meth c H locs cells slots Q (F0 m (pc + 3) ls (v :: rest))) : W p l e R s m args below meth c H locs cells slots Q (F0 m pc ls (.ref a :: rest)) :=
  va_get (D := G) (ci := 0) (C := RX0) (T := TX0) (N := 7) F.1.1 F.1.2.1 F.1.2.2.2.2 in_X0 F.1.2.2.2.1 h.1 h.2.1 q0 he rfl k hk (F.1.2.2.2.2 _ hl) (fun _ h9 => by rw [ho] at h9; exact h9) hv hdg kk
theorem r_getM {index : Nat} (F : Fx p m c cc nL s args RX1 meth ret) (h : Wd G tys A s H locs w) (q0 k : Nat) {fs : List Value} {v : Value} (he : w[q0]? = some (a, obj 1 fs)) (hk : k < 8) (ho : (TX1 k).1 = RX1) (hl : Cond.fieldLink RX1 index RX1 (TX1 k).2.1 (TX1 k).2.2.1 ∈ lw_all) (hv : fs[k]? = some v) (hdg : decode cc pc = .ok (.getfield index, 3))
    (kk : W p l e R s m args below meth c H locs cells slots Q (F0 m (pc + 3) ls (v :: rest))) : W p l e R s m args below meth c H locs cells slots Q (F0 m pc ls (.ref a :: rest)) :=
  va_get (D := G) (ci := 1) (C := RX1) (T := TX1) (N := 8) F.1.1 F.1.2.1 F.1.2.2.2.2 in_X1 F.1.2.2.2.1 h.1 h.2.1 q0 he rfl k hk (F.1.2.2.2.2 _ hl) (fun _ h9 => by rw [ho] at h9; exact h9) hv hdg kk
-- arrays
theorem r_iald (F : Fx p m c cc nL s args own meth ret) (h : Wd G (tys_ cI cB cL) A s H locs w) (q0 : Nat) {f : Nat → Int32} (ha : w[q0]? = some (a, arI cI n f)) (j : Nat) (hj : j < n) (hn : n ≤ 64) (hdg : decode cc pc = .ok (.iaload, 1))
    (kk : W p l e R s m args below meth c H locs cells slots Q (F0 m (pc + 1) ls (.int (f j) :: rest))) : W p l e R s m args below meth c H locs cells slots Q (F0 m pc ls (.int (nI j) :: .ref a :: rest)) :=
  va_iald F.1.1 F.1.2.1 h.1 h.2.1 q0 0 ha rfl (vp_in_nI hj (by omega)) hdg (by rw [nI_clamp (by omega)]; exact kk)
theorem r_bald (F : Fx p m c cc nL s args own meth ret) (h : Wd G (tys_ cI cB cL) A s H locs w) (q0 : Nat) {f : Nat → Int32} (ha : w[q0]? = some (a, arI cB n f)) (j : Nat) (hj : j < n) (hn : n ≤ 64) (hdg : decode cc pc = .ok (.baload, 1))
    (kk : W p l e R s m args below meth c H locs cells slots Q (F0 m (pc + 1) ls (.int (f j) :: rest))) : W p l e R s m args below meth c H locs cells slots Q (F0 m pc ls (.int (nI j) :: .ref a :: rest)) :=
  va_bald F.1.1 F.1.2.1 h.1 h.2.1 q0 1 ha rfl (vp_in_nI hj (by omega)) hdg (by rw [nI_clamp (by omega)]; exact kk)
theorem r_lald (F : Fx p m c cc nL s args own meth ret) (h : Wd G (tys_ cI cB cL) A s H locs w) (q0 : Nat) {f : Nat → Int64} (ha : w[q0]? = some (a, arL cL n f)) (j : Nat) (hj : j < n) (hn : n ≤ 64) (hdg : decode cc pc = .ok (.laload, 1))
    (kk : W p l e R s m args below meth c H locs cells slots Q (F0 m (pc + 1) ls (.long (f j) :: rest))) : W p l e R s m args below meth c H locs cells slots Q (F0 m pc ls (.int (nI j) :: .ref a :: rest)) :=
  va_lald F.1.1 F.1.2.1 h.1 h.2.1 q0 2 ha rfl (vp_in_nI hj (by omega)) hdg (by rw [nI_clamp (by omega)]; exact kk)
theorem r_iast (F : Fx p m c cc nL s args own meth ret) (h : Wd G (tys_ cI cB cL) A s H locs w) (q0 : Nat) {f : Nat → Int32} {x : Int32} (ha : w[q0]? = some (a, arI cI n f)) (j : Nat) (hj : j < n) (hn : n ≤ 64) (g : Nat → Int32) (hg : upd f j x = g) {w' : va_W} (hw : w.set q0 (a, arI cI n g) = w') (hdg : decode cc pc = .ok (.iastore, 1))
    (kk : ∀ (H1 : Heap) (locs1 : List Loc), Wd G (tys_ cI cB cL) A s H1 locs1 w' → W p l e R s m args below meth c H1 locs1 cells slots Q (F0 m (pc + 1) ls rest)) : W p l e R s m args below meth c H locs cells slots Q (F0 m pc ls (.int x :: .int (nI j) :: .ref a :: rest)) := by
  subst hg
  subst hw
  refine va_iast F.1.1 F.1.2.1 h.1 h.2.1 h.2.2.1 h.2.2.2.1 q0 0 ha rfl (vp_in_nI hj (by omega)) hdg (fun H1 locs1 hP hD hS => ?_)
  rw [nI_clamp (by omega)] at hP hD
  exact kk H1 locs1 ⟨h.1, hP, hD, hS, h.2.2.2.2⟩
theorem r_bast (F : Fx p m c cc nL s args own meth ret) (h : Wd G (tys_ cI cB cL) A s H locs w) (q0 : Nat) {f : Nat → Int32} {x : Int32} (ha : w[q0]? = some (a, arI cB n f)) (j : Nat) (hj : j < n) (hn : n ≤ 64) (g : Nat → Int32) (hg : upd f j (vp_nar .byte x) = g) {w' : va_W} (hw : w.set q0 (a, arI cB n g) = w') (hdg : decode cc pc = .ok (.bastore, 1))
    (kk : ∀ (H1 : Heap) (locs1 : List Loc), Wd G (tys_ cI cB cL) A s H1 locs1 w' → W p l e R s m args below meth c H1 locs1 cells slots Q (F0 m (pc + 1) ls rest)) : W p l e R s m args below meth c H locs cells slots Q (F0 m pc ls (.int x :: .int (nI j) :: .ref a :: rest)) := by
  subst hg
  subst hw
  refine va_bast F.1.1 F.1.2.1 h.1 h.2.1 h.2.2.1 h.2.2.2.1 q0 1 ha rfl (vp_in_nI hj (by omega)) hdg (fun H1 locs1 hP hD hS => ?_)
  rw [nI_clamp (by omega)] at hP hD
  exact kk H1 locs1 ⟨h.1, hP, hD, hS, h.2.2.2.2⟩
theorem r_last (F : Fx p m c cc nL s args own meth ret) (h : Wd G (tys_ cI cB cL) A s H locs w) (q0 : Nat) {f : Nat → Int64} {x : Int64} (ha : w[q0]? = some (a, arL cL n f)) (j : Nat) (hj : j < n) (hn : n ≤ 64) (g : Nat → Int64) (hg : vp_updL f j x = g) {w' : va_W} (hw : w.set q0 (a, arL cL n g) = w') (hdg : decode cc pc = .ok (.lastore, 1))
    (kk : ∀ (H1 : Heap) (locs1 : List Loc), Wd G (tys_ cI cB cL) A s H1 locs1 w' → W p l e R s m args below meth c H1 locs1 cells slots Q (F0 m (pc + 1) ls rest)) : W p l e R s m args below meth c H locs cells slots Q (F0 m pc ls (.long x :: .int (nI j) :: .ref a :: rest)) := by
  subst hg
  subst hw
  refine va_last F.1.1 F.1.2.1 h.1 h.2.1 h.2.2.1 h.2.2.2.1 q0 2 ha rfl (vp_in_nI hj (by omega)) hdg (fun H1 locs1 hP hD hS => ?_)
  rw [nI_clamp (by omega)] at hP hD
  exact kk H1 locs1 ⟨h.1, hP, hD, hS, h.2.2.2.2⟩
-- numbers nI
variable {x y : Nat}
theorem n_add (hx : p.tables.exec = Jvm.exec) (hb : c.code = cc) (hdg : decode cc pc = .ok (.iadd, 1)) (kk : W p l e R s m args below meth c H locs cells slots Q (F0 m (pc + 1) ls (.int (nI (x + y)) :: rest))) : W p l e R s m args below meth c H locs cells slots Q (F0 m pc ls (.int (nI y) :: .int (nI x) :: rest)) :=
  lv_iadd hx hb hdg (by rw [nI_add]; exact kk)
theorem n_mul (hx : p.tables.exec = Jvm.exec) (hb : c.code = cc) (hdg : decode cc pc = .ok (.imul, 1)) (kk : W p l e R s m args below meth c H locs cells slots Q (F0 m (pc + 1) ls (.int (nI (x * y)) :: rest))) : W p l e R s m args below meth c H locs cells slots Q (F0 m pc ls (.int (nI y) :: .int (nI x) :: rest)) :=
  lv_imul hx hb hdg (by rw [pk_mul]; exact kk)
theorem n_sub (hx : p.tables.exec = Jvm.exec) (hb : c.code = cc) (h : y ≤ x) (hdg : decode cc pc = .ok (.isub, 1)) (kk : W p l e R s m args below meth c H locs cells slots Q (F0 m (pc + 1) ls (.int (nI (x - y)) :: rest))) : W p l e R s m args below meth c H locs cells slots Q (F0 m pc ls (.int (nI y) :: .int (nI x) :: rest)) :=
  lv_isub hx hb hdg (by rw [pk_sub h]; exact kk)
theorem n_div (hx : p.tables.exec = Jvm.exec) (hb : c.code = cc) (h : x < 2 ^ 31) (h0 : 0 < y) (hy : y < 2 ^ 31) (hdg : decode cc pc = .ok (.idiv, 1)) (kk : W p l e R s m args below meth c H locs cells slots Q (F0 m (pc + 1) ls (.int (nI (x / y)) :: rest))) : W p l e R s m args below meth c H locs cells slots Q (F0 m pc ls (.int (nI y) :: .int (nI x) :: rest)) :=
  lv_idiv hx hb hdg (nI_ne0 h0 hy) (by rw [pk_div h h0 hy]; exact kk)
theorem n_rem (hx : p.tables.exec = Jvm.exec) (hb : c.code = cc) (h : x < 2 ^ 31) (h0 : 0 < y) (hy : y < 2 ^ 31) (hdg : decode cc pc = .ok (.irem, 1)) (kk : W p l e R s m args below meth c H locs cells slots Q (F0 m (pc + 1) ls (.int (nI (x % y)) :: rest))) : W p l e R s m args below meth c H locs cells slots Q (F0 m pc ls (.int (nI y) :: .int (nI x) :: rest)) :=
  lv_irem hx hb hdg (nI_ne0 h0 hy) (by rw [pk_rem h h0 hy]; exact kk)
theorem n_and (hx : p.tables.exec = Jvm.exec) (hb : c.code = cc) (k M : Nat) (h : x < 2 ^ 32) (hm : (nI y).toBitVec.toNat = 2 ^ k - 1) (hM : 2 ^ k = M) (hdg : decode cc pc = .ok (.iand, 1)) (kk : W p l e R s m args below meth c H locs cells slots Q (F0 m (pc + 1) ls (.int (nI (x % M)) :: rest))) : W p l e R s m args below meth c H locs cells slots Q (F0 m pc ls (.int (nI y) :: .int (nI x) :: rest)) :=
  lv_iand hx hb hdg (by rw [pk_andN h k hm, hM]; exact kk)
theorem x_and {z : Int32} (hx : p.tables.exec = Jvm.exec) (hb : c.code = cc) (k M : Nat) (hm : (nI y).toBitVec.toNat = 2 ^ k - 1) (hM : 2 ^ k = M) (hdg : decode cc pc = .ok (.iand, 1)) (kk : W p l e R s m args below meth c H locs cells slots Q (F0 m (pc + 1) ls (.int (nI (z.toBitVec.toNat % M)) :: rest))) : W p l e R s m args below meth c H locs cells slots Q (F0 m pc ls (.int (nI y) :: .int z :: rest)) :=
  lv_iand hx hb hdg (by rw [pk_and z k hm, hM]; exact kk)
theorem n_shr (hx : p.tables.exec = Jvm.exec) (hb : c.code = cc) (k M : Nat) (h : x < 2 ^ 31) (hm : ((nI y &&& 31).toBitVec.smod 32).toNat = k) (hM : 2 ^ k = M) (hdg : decode cc pc = .ok (.ishr, 1)) (kk : W p l e R s m args below meth c H locs cells slots Q (F0 m (pc + 1) ls (.int (nI (x / M)) :: rest))) : W p l e R s m args below meth c H locs cells slots Q (F0 m pc ls (.int (nI y) :: .int (nI x) :: rest)) :=
  lv_ishr hx hb hdg (by rw [pk_shrN h _ k hm, hM]; exact kk)
/-- another name of the number on top -/
theorem n_eq (h : x = y) (kk : W p l e R s m args below meth c H locs cells slots Q (F0 m pc ls (.int (nI y) :: rest))) : W p l e R s m args below meth c H locs cells slots Q (F0 m pc ls (.int (nI x) :: rest)) := by
  rw [h]; exact kk
theorem n_iinc (hx : p.tables.exec = Jvm.exec) (hb : c.code = cc) {i k d j : Nat} {nn : Int} {lv lv' : List (Nat × Value)} (hdg : decode cc pc = .ok (.iinc i nn, 3)) (h : lv_has ls nL lv) (hk : lv[k]? = some (i, .int (nI j))) (hd : Int32.ofInt nn = nI d) (hn : i < nL) (hl : (i, Value.int (nI (j + d))) :: lv.filter (fun q => !(q.1 == i) && !(q.1 + 1 == i && q.2.category == 2)) = lv')
    (kk : ∀ ls' : Array Slot, lv_has ls' nL lv' → W p l e R s m args below meth c H locs cells slots Q (F0 m (pc + 3) ls' rest)) : W p l e R s m args below meth c H locs cells slots Q (F0 m pc ls rest) :=
  lv_iinc (v := nI (j + d)) hx hb hdg h hk (by rw [hd, nI_add]) hn hl kk
theorem n_ge_t (hx : p.tables.exec = Jvm.exec) (hb : c.code = cc) {off : Int} {tgt : Nat} (h : y ≤ x) (hk : x < 2 ^ 31) (hdg : decode cc pc = .ok (.if_icmp .ge off, 3)) (ht : (pc : Int) + off = (tgt : Int)) (kk : W p l e R s m args below meth c H locs cells slots Q (F0 m tgt ls rest)) : W p l e R s m args below meth c H locs cells slots Q (F0 m pc ls (.int (nI y) :: .int (nI x) :: rest)) :=
  lv_icmp_ge hx hb hdg ht (fun _ => kk) (fun hh => absurd (nI_le h hk) hh)
theorem n_ge_f (hx : p.tables.exec = Jvm.exec) (hb : c.code = cc) {off : Int} {tgt : Nat} (h : x < y) (hk : y < 2 ^ 31) (hdg : decode cc pc = .ok (.if_icmp .ge off, 3)) (ht : (pc : Int) + off = (tgt : Int)) (kk : W p l e R s m args below meth c H locs cells slots Q (F0 m (pc + 3) ls rest)) : W p l e R s m args below meth c H locs cells slots Q (F0 m pc ls (.int (nI y) :: .int (nI x) :: rest)) :=
  lv_icmp_ge hx hb hdg ht (fun hh => absurd hh (nI_ge h hk)) (fun _ => kk)
theorem n_ne_t (hx : p.tables.exec = Jvm.exec) (hb : c.code = cc) {off : Int} {tgt : Nat} (h : 0 < x) (hk : x < 2 ^ 31) (hdg : decode cc pc = .ok (.ifCond .ne off, 3)) (ht : (pc : Int) + off = (tgt : Int)) (kk : W p l e R s m args below meth c H locs cells slots Q (F0 m tgt ls rest)) : W p l e R s m args below meth c H locs cells slots Q (F0 m pc ls (.int (nI x) :: rest)) :=
  lv_if_ne hx hb hdg ht (fun _ => kk) (fun hh => absurd hh (nI_ne0 h hk))
theorem n_ne_f (hx : p.tables.exec = Jvm.exec) (hb : c.code = cc) {off : Int} {tgt : Nat} (h : x = 0) (hdg : decode cc pc = .ok (.ifCond .ne off, 3)) (ht : (pc : Int) + off = (tgt : Int)) (kk : W p l e R s m args below meth c H locs cells slots Q (F0 m (pc + 3) ls rest)) : W p l e R s m args below meth c H locs cells slots Q (F0 m pc ls (.int (nI x) :: rest)) :=
  lv_if_ne hx hb hdg ht (fun hh => absurd (by rw [h]; exact nI_0) hh) (fun _ => kk)
theorem n_eq_t (hx : p.tables.exec = Jvm.exec) (hb : c.code = cc) {off : Int} {tgt : Nat} (h : x = 0) (hdg : decode cc pc = .ok (.ifCond .eq off, 3)) (ht : (pc : Int) + off = (tgt : Int)) (kk : W p l e R s m args below meth c H locs cells slots Q (F0 m tgt ls rest)) : W p l e R s m args below meth c H locs cells slots Q (F0 m pc ls (.int (nI x) :: rest)) :=
  lv_if_eq hx hb hdg ht (fun _ => kk) (fun hh => absurd (by rw [h]; exact nI_0) hh)
theorem n_eq_f (hx : p.tables.exec = Jvm.exec) (hb : c.code = cc) {off : Int} {tgt : Nat} (h : 0 < x) (hk : x < 2 ^ 31) (hdg : decode cc pc = .ok (.ifCond .eq off, 3)) (ht : (pc : Int) + off = (tgt : Int)) (kk : W p l e R s m args below meth c H locs cells slots Q (F0 m (pc + 3) ls rest)) : W p l e R s m args below meth c H locs cells slots Q (F0 m pc ls (.int (nI x) :: rest)) :=
  lv_if_eq hx hb hdg ht (fun hh => absurd hh (nI_ne0 h hk)) (fun _ => kk)
end ROW
section CALL
variable {p : Program} {l : Launch} {e : Env} {R : Room} {s : State} {m : MethodId} {args : Array Value} {below : List Frame} {meth : Method} {c : Code} {H : Heap} {locs : List Loc} {cells slots : Nat} {Q : State → Prop}
variable {cc bytes : ByteArray} {pc nL maxL index n : Nat} {own C : String} {ret ret' : Option FieldType} {ls : Array Slot} {rest st As : List Value} {G : va_G} {tys : List (ClassId × FieldType)} {A : Nat → Prop} {w wc wc' wr w' : va_W} {b : Nat} {y : MethodName} {rm : Room}
theorem w_pick {v : va_W} : ∀ (is : List Nat) (u : va_W), is.map (fun i => v[i]?) = u.map some → is.filterMap (fun i => v[i]?) = u := by
  intro is
  induction is with
  | nil =>
    intro u hu
    cases u with
    | nil => rfl
    | cons a u => simp at hu
  | cons i is ih =>
    intro u hu
    cases u with
    | nil => simp at hu
    | cons a u =>
      simp only [List.map_cons, List.cons.injEq] at hu
      rw [List.filterMap_cons, hu.1]
      simp only [ih u hu.2]
/-- fewer cells of the world, in another order -/
theorem Wd.sub (h : Wd G tys A s H locs w) (is : List Nat) (hn : va_nd is = true) (hw : is.map (fun i => w[i]?) = w'.map some) : Wd G tys A s H locs w' :=
  ⟨h.1, h.2.1.sub is (w_pick is w' hw), h.2.2.1.sub is hn hw, h.2.2.2.1, h.2.2.2.2⟩
theorem Wd.eq (h : Wd G tys A s H locs w) (hw : w = w') : Wd G tys A s H locs w' := hw ▸ h
/-- behind a call: the world put together -/
theorem k_back (h : Wd G tys A s H locs w) (isC isR is : List Nat) (hC : isC.map (fun i => w[i]?) = wc.map some) (hR : isR.map (fun i => w[i]?) = wr.map some) (hn : va_nd isR = true) (hdis : ∀ i ∈ isR, i ∉ isC) (hnd : va_nd is = true) (hw : is.map (fun i => (wr ++ wc')[i]?) = w'.map some)
    {t : State} {H1 : Heap} {locs1 : List Loc} (ht : t.heap = H1) (hk : ∀ q : Nat, q < H.size → ¬ va_A wc H.size q → H1[q]? = H[q]?) (hB : PA G tys wc' (va_A wc H.size) t) (hS : va_S A s.heap H1 locs1) : Wd G tys A s H1 locs1 w' := by
  obtain ⟨hP1, -, hD1⟩ := hB
  rw [ht] at hP1
  obtain ⟨hP, hD⟩ := va_join (wr := wr) (w1 := wc') h.2.1 h.2.2.1 isC isR hC hR hn hdis hk (va_free h.2.2.1 h.2.2.2.1 h.2.2.2.2 isC hC) hP1 hD1
  exact ⟨h.1, hP.sub is (w_pick is w' hw), hD.sub is hnd hw, hS, h.2.2.2.2⟩
theorem k_pre (h : Wd G tys A s H locs w) (isC : List Nat) (hCn : va_nd isC = true) (hC : isC.map (fun i => w[i]?) = wc.map some) (av : List Value) (U : State) (hU : U.heap = H) (hW : s.WarmedH U.vm) : va_Pc av (PB G tys wc H.size) av.toArray U :=
  ⟨rfl, by rw [hU], by rw [hU]; exact h.2.1.sub isC (w_pick isC wc hC), va_K.moved hW.alike h.1, (h.2.2.1.sub isC hCn hC).weaken (fun _ _ _ _ => trivial)⟩
theorem k_recv (h : Wd G tys A s H locs w) (isC : List Nat) (hC : isC.map (fun i => w[i]?) = wc.map some) {q0 ci : Nat} {fs : List Value} {q : vw_C} (hc : cl_[ci]? = some q) (he : wc[q0]? = some (b, obj ci fs)) : ∃ cell : Cell, H[b]? = some cell ∧ cell.vm.isStatics = false ∧ s.vm.findClass q.1 = some cell.cls :=
  va_recv h.1 (h.2.1.sub isC (w_pick isC wc hC)) hc he
/-- a call through an object: void, int, long -/
theorem k_V (F : Fx p m c cc nL s args own meth ret) (h : Wd G tys A s H locs w) (hM : CV l y (ws_ y bytes maxL none) rm G tys (.ref b :: As) wc wc') (isC isR is : List Nat) (hCn : va_nd isC = true) (hC : isC.map (fun i => w[i]?) = wc.map some) (hR : isR.map (fun i => w[i]?) = wr.map some) (hn : va_nd isR = true) (hdis : ∀ i ∈ isR, i ∉ isC) (hnd : va_nd is = true) (hw : is.map (fun i => (wr ++ wc')[i]?) = w'.map some)
    {q0 ci : Nat} {fs : List Value} {q : vw_C} (hc : cl_[ci]? = some q) (he : wc[q0]? = some (b, obj ci fs)) (hG : GoodIn lw_all (wsV own index q.1 y (ws_ y bytes maxL none))) (hrc : rm.cells = 0 ∧ rm.slots = 0)
    (hd : y.cls = q.1 ∧ y.cls ≠ "java/lang/invoke/MethodHandle" ∧ y.cls ≠ "java/lang/invoke/VarHandle" ∧ (parseMethodDescriptor y.desc).map (fun d => d.parameters.length) = some n) (hRm : rm.frames + 1 ≤ R.frames ∧ 8 + (maxL + 11) + rm.locals ≤ R.locals)
    (hn2 : As.length = n) (hsize : ls.size = nL) (hst : st = As.reverse ++ .ref b :: rest) (hroom : (rest.map fun v => v.category).sum ≤ 8) (hdg : decode cc pc = .ok (.invokevirtual index, 3)) (hf : cells ≤ R.cells ∧ slots ≤ R.slots)
    (kk : ∀ (H1 : Heap) (locs1 : List Loc), Wd G tys A s H1 locs1 w' → W p l e R s m args below meth c H1 locs1 cells slots Q (F0 m (pc + 3) ls rest)) : W p l e R s m args below meth c H locs cells slots Q (F0 m pc ls st) := by
  subst hst
  refine va_callv (va_runV (As := As) (rest := rest) F.1 (hM H.size) (cwV n F.1.2.2.2.2 hG rfl hrc.1 hrc.2 hd hRm) ⟨PB.blind, k_recv h isC hC hc he, fun U hU hW => k_pre h isC hCn hC _ U hU hW⟩ rfl hn2 hsize rfl (lv_room hroom) hdg hf) h.2.2.2.1 (fun x _ z => va_free h.2.2.1 h.2.2.2.1 h.2.2.2.2 isC hC x z) (va_free h.2.2.1 h.2.2.2.1 h.2.2.2.2 isC hC) (fun u t H1 locs1 ht hvm _ hB hz hk hS => ?_)
  exact kk H1 locs1 (k_back h isC isR is hC hR hn hdis hnd hw ht hk hB hS)
theorem k_VI {r : Int32} (F : Fx p m c cc nL s args own meth ret) (h : Wd G tys A s H locs w) (hM : CI l y (ws_ y bytes maxL ret') rm G tys (.ref b :: As) wc wc' r) (isC isR is : List Nat) (hCn : va_nd isC = true) (hC : isC.map (fun i => w[i]?) = wc.map some) (hR : isR.map (fun i => w[i]?) = wr.map some) (hn : va_nd isR = true) (hdis : ∀ i ∈ isR, i ∉ isC) (hnd : va_nd is = true) (hw : is.map (fun i => (wr ++ wc')[i]?) = w'.map some)
    {q0 ci : Nat} {fs : List Value} {q : vw_C} (hc : cl_[ci]? = some q) (he : wc[q0]? = some (b, obj ci fs)) (hG : GoodIn lw_all (wsV own index q.1 y (ws_ y bytes maxL ret'))) (hrc : rm.cells = 0 ∧ rm.slots = 0)
    (hd : y.cls = q.1 ∧ y.cls ≠ "java/lang/invoke/MethodHandle" ∧ y.cls ≠ "java/lang/invoke/VarHandle" ∧ (parseMethodDescriptor y.desc).map (fun d => d.parameters.length) = some n) (hRm : rm.frames + 1 ≤ R.frames ∧ 8 + (maxL + 11) + rm.locals ≤ R.locals)
    (hn2 : As.length = n) (hsize : ls.size = nL) (hst : st = As.reverse ++ .ref b :: rest) (hroom : (rest.map fun v => v.category).sum ≤ 8) (hdg : decode cc pc = .ok (.invokevirtual index, 3)) (hf : cells ≤ R.cells ∧ slots ≤ R.slots)
    (kk : ∀ (H1 : Heap) (locs1 : List Loc), Wd G tys A s H1 locs1 w' → W p l e R s m args below meth c H1 locs1 cells slots Q (F0 m (pc + 3) ls (.int r :: rest))) : W p l e R s m args below meth c H locs cells slots Q (F0 m pc ls st) := by
  subst hst
  refine va_calli (va_runV (As := As) (rest := rest) F.1 (hM H.size) (cwV n F.1.2.2.2.2 hG rfl hrc.1 hrc.2 hd hRm) ⟨PB.blind, k_recv h isC hC hc he, fun U hU hW => k_pre h isC hCn hC _ U hU hW⟩ rfl hn2 hsize rfl (lv_room hroom) hdg hf) h.2.2.2.1 (fun x _ z => va_free h.2.2.1 h.2.2.2.1 h.2.2.2.2 isC hC x z) (va_free h.2.2.1 h.2.2.2.1 h.2.2.2.2 isC hC) (fun z u t H1 locs1 ht hvm hz0 hB hz hk hS => ?_)
  rw [hz0]
  exact kk H1 locs1 (k_back h isC isR is hC hR hn hdis hnd hw ht hk hB hS)
/-- a static call without a world of its own: int, long -/
theorem k_SI {r : Int32} (F : Fx p m c cc nL s args own meth ret) (h : Wd G tys A s H locs w) (hM : CI l y (ws_ y bytes maxL ret') rm G tys As [] [] r) (is : List Nat) (hid : is.map (fun i => w[i]?) = w.map some) (hnd : va_nd is = true) (hG : GoodIn lw_all (va_wsS own index y (ws_ y bytes maxL ret'))) (hrc : rm.cells = 0 ∧ rm.slots = 0)
    (hd : y.cls ≠ "java/lang/invoke/MethodHandle" ∧ y.cls ≠ "java/lang/invoke/VarHandle" ∧ (parseMethodDescriptor y.desc).map (fun d => d.parameters.length) = some n) (hRm : rm.frames + 1 ≤ R.frames ∧ 8 + (maxL + 11) + rm.locals ≤ R.locals)
    (hn2 : As.length = n) (hsize : ls.size = nL) (hst : st = As.reverse ++ rest) (hroom : (rest.map fun v => v.category).sum ≤ 8) (hdg : decode cc pc = .ok (.invokestatic index, 3)) (hf : cells ≤ R.cells ∧ slots ≤ R.slots)
    (kk : ∀ (H1 : Heap) (locs1 : List Loc), Wd G tys A s H1 locs1 w → W p l e R s m args below meth c H1 locs1 cells slots Q (F0 m (pc + 3) ls (.int r :: rest))) : W p l e R s m args below meth c H locs cells slots Q (F0 m pc ls st) := by
  subst hst
  refine va_calli (va_runS (As := As) (rest := rest) F.1 (hM H.size) (va_cwS n F.1.2.2.2.2 hG rfl hrc.1 hrc.2 hd hRm) ⟨PB.blind, fun U hU hW => k_pre h [] rfl rfl _ U hU hW⟩ rfl hn2 hsize rfl (lv_room hroom) hdg hf) h.2.2.2.1 (fun x _ z => va_free (wc := []) h.2.2.1 h.2.2.2.1 h.2.2.2.2 [] rfl x z) (va_free (wc := []) h.2.2.1 h.2.2.2.1 h.2.2.2.2 [] rfl) (fun z u t H1 locs1 ht hvm hz0 hB hz hk hS => ?_)
  rw [hz0]
  exact kk H1 locs1 (k_back (wr := w) (wc := []) (wc' := []) h [] is is rfl hid hnd (fun _ _ h => by cases h) hnd (by rw [List.append_nil]; exact hid) ht hk hB hS)
theorem k_SL {r : Int64} (F : Fx p m c cc nL s args own meth ret) (h : Wd G tys A s H locs w) (hM : CL l y (ws_ y bytes maxL ret') rm G tys As [] [] r) (is : List Nat) (hid : is.map (fun i => w[i]?) = w.map some) (hnd : va_nd is = true) (hG : GoodIn lw_all (va_wsS own index y (ws_ y bytes maxL ret'))) (hrc : rm.cells = 0 ∧ rm.slots = 0)
    (hd : y.cls ≠ "java/lang/invoke/MethodHandle" ∧ y.cls ≠ "java/lang/invoke/VarHandle" ∧ (parseMethodDescriptor y.desc).map (fun d => d.parameters.length) = some n) (hRm : rm.frames + 1 ≤ R.frames ∧ 8 + (maxL + 11) + rm.locals ≤ R.locals)
    (hn2 : As.length = n) (hsize : ls.size = nL) (hst : st = As.reverse ++ rest) (hroom : (rest.map fun v => v.category).sum ≤ 8) (hdg : decode cc pc = .ok (.invokestatic index, 3)) (hf : cells ≤ R.cells ∧ slots ≤ R.slots)
    (kk : ∀ (H1 : Heap) (locs1 : List Loc), Wd G tys A s H1 locs1 w → W p l e R s m args below meth c H1 locs1 cells slots Q (F0 m (pc + 3) ls (.long r :: rest))) : W p l e R s m args below meth c H locs cells slots Q (F0 m pc ls st) := by
  subst hst
  refine va_calll (va_runS (As := As) (rest := rest) F.1 (hM H.size) (va_cwS n F.1.2.2.2.2 hG rfl hrc.1 hrc.2 hd hRm) ⟨PB.blind, fun U hU hW => k_pre h [] rfl rfl _ U hU hW⟩ rfl hn2 hsize rfl (lv_room hroom) hdg hf) h.2.2.2.1 (fun x _ z => va_free (wc := []) h.2.2.1 h.2.2.2.1 h.2.2.2.2 [] rfl x z) (va_free (wc := []) h.2.2.1 h.2.2.2.1 h.2.2.2.2 [] rfl) (fun z u t H1 locs1 ht hvm hz0 hB hz hk hS => ?_)
  rw [hz0]
  exact kk H1 locs1 (k_back (wr := w) (wc := []) (wc' := []) h [] is is rfl hid hnd (fun _ _ h => by cases h) hnd (by rw [List.append_nil]; exact hid) ht hk hB hS)
end CALL
end
section
set_option maxRecDepth 100000
/-! PURE FUNCTIONS, in the shape in which the bytecode computes them: what stands in the arrays -/
/-- n steps, from 0 on -/
def it_ {α : Type} (st : Nat → α → α) : Nat → α → α
  | 0, a => a
  | k + 1, a => st k (it_ st k a)
def plusL (x y : Int64) : Int64 := ((x &&& 9223372034707292159) + (y &&& 9223372034707292159)) ^^^ ((x ^^^ y) &&& (-9223372034707292160))
def lowM (k : Nat) : Int64 := ((1 : Int64) <<< ((nI k).toInt64 &&& 63)) - 1
def lowB (k : Nat) : Int64 := lowM k ||| (lowM k <<< ((nI 32).toInt64 &&& 63))
def turnedL (x : Int64) (k : Nat) : Int64 := ((x <<< ((nI k).toInt64 &&& 63)) &&& (lowB k ^^^ (-1))) ||| ((x.toUInt64 >>> ((nI (32 - k)).toInt64.toUInt64 &&& Int64.toUInt64 63)).toInt64 &&& lowB k)
def bothL (h l : Int32) : Int64 := (h.toInt64 <<< ((nI 32).toInt64 &&& 63)) ||| (l.toInt64 &&& 4294967295)
def ushL (x : Int64) (k : Nat) : Int64 := (x.toUInt64 >>> ((nI k).toInt64.toUInt64 &&& Int64.toUInt64 63)).toInt64
def wordL (f : Nat → Int64) (r k : Nat) : Int32 := (ushL (f (2 * r + k / 2)) (32 * (k % 2))).toInt32
def hlL (x y : Int64) : Int64 := ushL x 32 ||| (y <<< ((nI 32).toInt64 &&& 63))
def st2 (r : Nat) (u v : Int64) (f : Nat → Int64) : Nat → Int64 := vp_updL (vp_updL f (2 * r) u) (2 * r + 1) v
def sw2 (k : Nat) (z : Int64 × Int64) : Int64 × Int64 := if nI k &&& nI 2 = 0 then z else (z.2, z.1)
def sw1 (k : Nat) (z : Int64 × Int64) : Int64 × Int64 := if nI k &&& nI 1 = 0 then z else (hlL z.1 z.2, hlL z.2 z.1)
def shP (r k : Nat) (f : Nat → Int64) : Int64 × Int64 := sw1 k (sw2 k (f (2 * r), f (2 * r + 1)))
def shiftF (r k : Nat) (f : Nat → Int64) : Nat → Int64 := st2 r (shP r k f).1 (shP r k f).2 f
def layF (r : Nat) (a b c d : Int32) (f : Nat → Int64) : Nat → Int64 := st2 r (bothL b a) (bothL d c) f
def changeK (r s k : Nat) (f : Nat → Int64) : Nat → Int64 := vp_updL (vp_updL f (2 * r + k) (f (2 * s + k))) (2 * s + k) (f (2 * r + k))
def changeF (r s : Nat) (f : Nat → Int64) : Nat → Int64 := it_ (changeK r s) 2 f
def crossK (r s t b k : Nat) (f : Nat → Int64) : Nat → Int64 := vp_updL f (2 * r + k) (f (2 * r + k) ^^^ turnedL (plusL (f (2 * s + k)) (f (2 * t + k))) b)
def crossF (r s t b : Nat) (f : Nat → Int64) : Nat → Int64 := it_ (crossK r s t b) 2 f
def crossAllF (f : Nat → Int64) : Nat → Int64 := crossF 0 3 2 18 (crossF 3 2 1 13 (crossF 2 1 0 9 (crossF 1 0 3 7 f)))
def quA (r s k : Nat) (f : Nat → Int64) : Nat → Int64 := vp_updL f (2 * r + k) (plusL (f (2 * r + k)) (f (2 * s + k)))
def quB (t r b k : Nat) (f : Nat → Int64) : Nat → Int64 := vp_updL f (2 * t + k) (turnedL (f (2 * t + k) ^^^ f (2 * r + k)) b)
def quK (r s t b k : Nat) (f : Nat → Int64) : Nat → Int64 := quB t r b k (quA r s k f)
def quarterF (r s t b : Nat) (f : Nat → Int64) : Nat → Int64 := it_ (quK r s t b) 2 f
def quarterAllF (f : Nat → Int64) : Nat → Int64 := quarterF 2 3 1 7 (quarterF 0 1 3 8 (quarterF 2 3 1 12 (quarterF 0 1 3 16 f)))
def acrossF (f : Nat → Int64) : Nat → Int64 := changeF 1 3 (shiftF 3 1 (shiftF 2 2 (shiftF 1 3 f)))
def layA (x : Nat → Int32) (f : Nat → Int64) : Nat → Int64 := layF 3 (x 12) (x 1) (x 6) (x 11) (layF 2 (x 8) (x 13) (x 2) (x 7) (layF 1 (x 4) (x 9) (x 14) (x 3) (layF 0 (x 0) (x 5) (x 10) (x 15) f)))
def rndA (_ : Nat) (f : Nat → Int64) : Nat → Int64 := acrossF (crossAllF (acrossF (crossAllF f)))
def rowA (M : Nat) (x : Nat → Int32) (f : Nat → Int64) : Nat → Int64 := it_ rndA M (layA x f)
def outA (x : Nat → Int32) (f : Nat → Int64) (k : Nat) (o : Nat → Int32) : Nat → Int32 :=
  upd (upd (upd (upd o (5 * k % 16) (x (5 * k % 16) + wordL f 0 k)) ((4 + 5 * k) % 16) (x ((4 + 5 * k) % 16) + wordL f 1 k)) ((8 + 5 * k) % 16) (x ((8 + 5 * k) % 16) + wordL f 2 k)) ((12 + 5 * k) % 16) (x ((12 + 5 * k) % 16) + wordL f 3 k)
def mixAo (M : Nat) (x : Nat → Int32) (f : Nat → Int64) (o : Nat → Int32) : Nat → Int32 := it_ (outA x (rowA M x f)) 4 o
def layBK (x : Nat → Int32) (r : Nat) (f : Nat → Int64) : Nat → Int64 := layF r (x (4 * r)) (x (4 * r + 1)) (x (4 * r + 2)) (x (4 * r + 3)) f
def shB1 (j : Nat) (f : Nat → Int64) : Nat → Int64 := shiftF (1 + j) (1 + j) f
def shB2 (j : Nat) (f : Nat → Int64) : Nat → Int64 := shiftF (1 + j) (4 - (1 + j)) f
def rndB (_ : Nat) (f : Nat → Int64) : Nat → Int64 := it_ shB2 3 (quarterAllF (it_ shB1 3 (quarterAllF f)))
def rowB (M : Nat) (x : Nat → Int32) (f : Nat → Int64) : Nat → Int64 := it_ rndB M (it_ (layBK x) 4 f)
def outB (x : Nat → Int32) (f : Nat → Int64) (k : Nat) (o : Nat → Int32) : Nat → Int32 := upd o k (x k + wordL f (k / 4) (k % 4))
def kbK (v : Int32) (k i : Nat) (b : Nat → Int32) : Nat → Int32 := upd b (4 * k + i) ((v >>> (nI (8 * i) &&& 31)).toInt8.toInt32)
def blK (x : Nat → Int32) (f : Nat → Int64) (k : Nat) (b : Nat → Int32) : Nat → Int32 := it_ (kbK (x k + wordL f (k / 4) (k % 4)) k) 4 b
def put4 (i : Nat) (a b c d : Int32) (f : Nat → Int32) : Nat → Int32 := upd (upd (upd (upd f i a) (i + 1) b) (i + 2) c) (i + 3) d
def cpK (g : Nat → Int32) (k : Nat) (f : Nat → Int32) : Nat → Int32 := upd f k (g k)
def noA (f : Nat → Int32) : Nat → Int32 := upd (upd (upd (upd f 0 1634760805) 1 857760878) 2 2036477234) 3 1797285236
def noK (g : Nat → Int32) (k : Nat) (f : Nat → Int32) : Nat → Int32 := upd f (4 + k) (g k)
def nonceF (g : Nat → Int32) (a b c : Int32) (f : Nat → Int32) : Nat → Int32 := upd (upd (upd (upd (it_ (noK g) 8 (noA f)) 12 (nI 0)) 13 a) 14 b) 15 c
def incF (f : Nat → Int32) : Nat → Int32 := upd f 12 (f 12 + nI 1)
-- the reference
def turnI (v : Int32) (n : Nat) : Int32 := (v <<< (nI n &&& 31)) ||| (v.toUInt32 >>> ((nI (32 - n)).toUInt32 &&& Int32.toUInt32 31)).toInt32
def mqA (a b : Nat) (x : Nat → Int32) : Nat → Int32 := upd x a (x a + x b)
def mqR (d a n : Nat) (x : Nat → Int32) : Nat → Int32 := upd x d (turnI (x d ^^^ x a) n)
def quarterM (a b c d : Nat) (x : Nat → Int32) : Nat → Int32 := mqR b c 7 (mqA c d (mqR d a 8 (mqA a b (mqR b c 12 (mqA c d (mqR d a 16 (mqA a b x)))))))
def sqS (b a d n : Nat) (x : Nat → Int32) : Nat → Int32 := upd x b (x b ^^^ turnI (x a + x d) n)
def salsaQ (a b c d : Nat) (x : Nat → Int32) : Nat → Int32 := sqS a d c 18 (sqS d c b 13 (sqS c b a 9 (sqS b a d 7 x)))
def addK (s : Nat → Int32) (i : Nat) (x : Nat → Int32) : Nat → Int32 := upd x i (x i + s i)
def rS (r i : Nat) (x : Nat → Int32) : Nat → Int32 := if r % 2 = 0 then salsaQ (5 * i) ((5 * i + 4) % 16) ((5 * i + 8) % 16) ((5 * i + 12) % 16) x else salsaQ (5 * i) (4 * i + (i + 1) % 4) (4 * i + (i + 2) % 4) (4 * i + (i + 3) % 4) x
def rC (r i : Nat) (x : Nat → Int32) : Nat → Int32 := if r % 2 = 0 then quarterM i (4 + i) (8 + i) (12 + i) x else quarterM i (4 + (i + 1) % 4) (8 + (i + 2) % 4) (12 + (i + 3) % 4) x
def rnM (st : Nat → Nat → (Nat → Int32) → Nat → Int32) (r : Nat) (x : Nat → Int32) : Nat → Int32 := it_ (st r) 4 x
def coreG (st : Nat → Nat → (Nat → Int32) → Nat → Int32) (n : Nat) (s x : Nat → Int32) : Nat → Int32 := it_ (addK s) 16 (it_ (rnM st) n (it_ (cpK s) 16 x))
def strK (x : Nat → Int32) (i : Nat) (t : Nat → Int32) : Nat → Int32 := upd t i (((x (i / 4)).toUInt32 >>> ((nI (8 * (i % 4))).toUInt32 &&& Int32.toUInt32 31)).toInt32 &&& nI 255)
theorem it_0 {α : Type} (st : Nat → α → α) (a : α) : it_ st 0 a = a := rfl
theorem it_s {α : Type} (st : Nat → α → α) (k : Nat) (a : α) : it_ st (k + 1) a = st k (it_ st k a) := rfl
end
section
set_option maxRecDepth 100000
/-! what each call asks of the tables, once a callee -/
def R_law : String := "RoundCoresLaw"
theorem g_X0_lay : GoodIn lw_all (wsV RX0 57 RX0 yX0_lay (ws_ yX0_lay cX0_lay 6 none)) := lw_V q63 q65 qs1 q16 q66
theorem hd_X0_lay : yX0_lay.cls = RX0 ∧ yX0_lay.cls ≠ "java/lang/invoke/MethodHandle" ∧ yX0_lay.cls ≠ "java/lang/invoke/VarHandle" ∧ (parseMethodDescriptor yX0_lay.desc).map (fun d => d.parameters.length) = some 5 := by decide +kernel
theorem g_X0_cross : GoodIn lw_all (wsV RX0 50 RX0 yX0_cross (ws_ yX0_cross cX0_cross 6 none)) := lw_V q75 q77 qs3 q16 q78
theorem hd_X0_cross : yX0_cross.cls = RX0 ∧ yX0_cross.cls ≠ "java/lang/invoke/MethodHandle" ∧ yX0_cross.cls ≠ "java/lang/invoke/VarHandle" ∧ (parseMethodDescriptor yX0_cross.desc).map (fun d => d.parameters.length) = some 4 := by decide +kernel
theorem g_X0_crossAll : GoodIn lw_all (wsV RX0 61 RX0 yX0_crossAll (ws_ yX0_crossAll cX0_crossAll 1 none)) := lw_V q71 q73 qs2 q16 q74
theorem hd_X0_crossAll : yX0_crossAll.cls = RX0 ∧ yX0_crossAll.cls ≠ "java/lang/invoke/MethodHandle" ∧ yX0_crossAll.cls ≠ "java/lang/invoke/VarHandle" ∧ (parseMethodDescriptor yX0_crossAll.desc).map (fun d => d.parameters.length) = some 0 := by decide +kernel
theorem g_X0_acrossA : GoodIn lw_all (wsV RX0 64 RX0 yX0_acrossA (ws_ yX0_acrossA cX0_acrossA 1 none)) := lw_V q88 q90 qs4 q16 q91
theorem hd_X0_acrossA : yX0_acrossA.cls = RX0 ∧ yX0_acrossA.cls ≠ "java/lang/invoke/MethodHandle" ∧ yX0_acrossA.cls ≠ "java/lang/invoke/VarHandle" ∧ (parseMethodDescriptor yX0_acrossA.desc).map (fun d => d.parameters.length) = some 0 := by decide +kernel
theorem g_X0_shift : GoodIn lw_all (wsV RX0 71 RX0 yX0_shift (ws_ yX0_shift cX0_shift 9 none)) := lw_V q92 q94 qs5 q16 q95
theorem hd_X0_shift : yX0_shift.cls = RX0 ∧ yX0_shift.cls ≠ "java/lang/invoke/MethodHandle" ∧ yX0_shift.cls ≠ "java/lang/invoke/VarHandle" ∧ (parseMethodDescriptor yX0_shift.desc).map (fun d => d.parameters.length) = some 2 := by decide +kernel
theorem g_X0_change : GoodIn lw_all (wsV RX0 75 RX0 yX0_change (ws_ yX0_change cX0_change 6 none)) := lw_V q96 q98 qs6 q16 q99
theorem hd_X0_change : yX0_change.cls = RX0 ∧ yX0_change.cls ≠ "java/lang/invoke/MethodHandle" ∧ yX0_change.cls ≠ "java/lang/invoke/VarHandle" ∧ (parseMethodDescriptor yX0_change.desc).map (fun d => d.parameters.length) = some 2 := by decide +kernel
theorem g_X0_word : GoodIn lw_all (wsV RX0 67 RX0 yX0_word (ws_ yX0_word cX0_word 3 (some .int))) := lw_V q100 q102 qs7 q16 q103
theorem hd_X0_word : yX0_word.cls = RX0 ∧ yX0_word.cls ≠ "java/lang/invoke/MethodHandle" ∧ yX0_word.cls ≠ "java/lang/invoke/VarHandle" ∧ (parseMethodDescriptor yX0_word.desc).map (fun d => d.parameters.length) = some 2 := by decide +kernel
theorem g_X0_mixB : GoodIn lw_all (wsV RX0 85 RX0 yX0_mixB (ws_ yX0_mixB cX0_mixB 5 none)) := lw_V q108 q110 qs8 q16 q111
theorem hd_X0_mixB : yX0_mixB.cls = RX0 ∧ yX0_mixB.cls ≠ "java/lang/invoke/MethodHandle" ∧ yX0_mixB.cls ≠ "java/lang/invoke/VarHandle" ∧ (parseMethodDescriptor yX0_mixB.desc).map (fun d => d.parameters.length) = some 2 := by decide +kernel
theorem g_X0_quarterAll : GoodIn lw_all (wsV RX0 78 RX0 yX0_quarterAll (ws_ yX0_quarterAll cX0_quarterAll 1 none)) := lw_V q112 q114 qs9 q16 q115
theorem hd_X0_quarterAll : yX0_quarterAll.cls = RX0 ∧ yX0_quarterAll.cls ≠ "java/lang/invoke/MethodHandle" ∧ yX0_quarterAll.cls ≠ "java/lang/invoke/VarHandle" ∧ (parseMethodDescriptor yX0_quarterAll.desc).map (fun d => d.parameters.length) = some 0 := by decide +kernel
theorem g_X0_quarter : GoodIn lw_all (wsV RX0 54 RX0 yX0_quarter (ws_ yX0_quarter cX0_quarter 6 none)) := lw_V q116 q118 qs10 q16 q119
theorem hd_X0_quarter : yX0_quarter.cls = RX0 ∧ yX0_quarter.cls ≠ "java/lang/invoke/MethodHandle" ∧ yX0_quarter.cls ≠ "java/lang/invoke/VarHandle" ∧ (parseMethodDescriptor yX0_quarter.desc).map (fun d => d.parameters.length) = some 4 := by decide +kernel
theorem g_X0_mixA : GoodIn lw_all (wsV RX0 81 RX0 yX0_mixA (ws_ yX0_mixA cX0_mixA 4 none)) := lw_V q59 q61 qs0 q16 q62
theorem hd_X0_mixA : yX0_mixA.cls = RX0 ∧ yX0_mixA.cls ≠ "java/lang/invoke/MethodHandle" ∧ yX0_mixA.cls ≠ "java/lang/invoke/VarHandle" ∧ (parseMethodDescriptor yX0_mixA.desc).map (fun d => d.parameters.length) = some 2 := by decide +kernel
theorem g_X1_turnIn : GoodIn lw_all (wsV RX1 46 RX1 yX1_turnIn (ws_ yX1_turnIn cX1_turnIn 4 none)) := lw_V q187 q189 qs11 q17 q190
theorem hd_X1_turnIn : yX1_turnIn.cls = RX1 ∧ yX1_turnIn.cls ≠ "java/lang/invoke/MethodHandle" ∧ yX1_turnIn.cls ≠ "java/lang/invoke/VarHandle" ∧ (parseMethodDescriptor yX1_turnIn.desc).map (fun d => d.parameters.length) = some 2 := by decide +kernel
theorem g_X1_core : GoodIn lw_all (wsV RX1 42 RX1 yX1_core (ws_ yX1_core cX1_core 5 none)) := lw_V q191 q193 qs12 q17 q194
theorem hd_X1_core : yX1_core.cls = RX1 ∧ yX1_core.cls ≠ "java/lang/invoke/MethodHandle" ∧ yX1_core.cls ≠ "java/lang/invoke/VarHandle" ∧ (parseMethodDescriptor yX1_core.desc).map (fun d => d.parameters.length) = some 2 := by decide +kernel
theorem g_X1_salsaQuarter : GoodIn lw_all (wsV RX1 35 RX1 yX1_salsaQuarter (ws_ yX1_salsaQuarter cX1_salsaQuarter 5 none)) := lw_V q195 q197 qs13 q17 q198
theorem hd_X1_salsaQuarter : yX1_salsaQuarter.cls = RX1 ∧ yX1_salsaQuarter.cls ≠ "java/lang/invoke/MethodHandle" ∧ yX1_salsaQuarter.cls ≠ "java/lang/invoke/VarHandle" ∧ (parseMethodDescriptor yX1_salsaQuarter.desc).map (fun d => d.parameters.length) = some 4 := by decide +kernel
theorem g_X1_quarter : GoodIn lw_all (wsV RX1 39 RX1 yX1_quarter (ws_ yX1_quarter cX1_quarter 5 none)) := lw_V q202 q204 qs14 q17 q205
theorem hd_X1_quarter : yX1_quarter.cls = RX1 ∧ yX1_quarter.cls ≠ "java/lang/invoke/MethodHandle" ∧ yX1_quarter.cls ≠ "java/lang/invoke/VarHandle" ∧ (parseMethodDescriptor yX1_quarter.desc).map (fun d => d.parameters.length) = some 4 := by decide +kernel
theorem g_X0_put : GoodIn lw_all (wsV R_law 13 RX0 yX0_put (ws_ yX0_put cX0_put 7 none)) := lw_V q51 q52 q53 q16 q54
theorem hd_X0_put : yX0_put.cls = RX0 ∧ yX0_put.cls ≠ "java/lang/invoke/MethodHandle" ∧ yX0_put.cls ≠ "java/lang/invoke/VarHandle" ∧ (parseMethodDescriptor yX0_put.desc).map (fun d => d.parameters.length) = some 5 := by decide +kernel
theorem g_X0_salsa : GoodIn lw_all (wsV R_law 18 RX0 yX0_salsa (ws_ yX0_salsa cX0_salsa 2 none)) := lw_V q55 q56 q57 q16 q58
theorem hd_X0_salsa : yX0_salsa.cls = RX0 ∧ yX0_salsa.cls ≠ "java/lang/invoke/MethodHandle" ∧ yX0_salsa.cls ≠ "java/lang/invoke/VarHandle" ∧ (parseMethodDescriptor yX0_salsa.desc).map (fun d => d.parameters.length) = some 1 := by decide +kernel
theorem g_X0_chacha : GoodIn lw_all (wsV R_law 23 RX0 yX0_chacha (ws_ yX0_chacha cX0_chacha 3 none)) := lw_V q104 q105 q106 q16 q107
theorem hd_X0_chacha : yX0_chacha.cls = RX0 ∧ yX0_chacha.cls ≠ "java/lang/invoke/MethodHandle" ∧ yX0_chacha.cls ≠ "java/lang/invoke/VarHandle" ∧ (parseMethodDescriptor yX0_chacha.desc).map (fun d => d.parameters.length) = some 1 := by decide +kernel
theorem g_X0_again : GoodIn lw_all (wsV R_law 27 RX0 yX0_again (ws_ yX0_again cX0_again 2 none)) := lw_V q120 q121 q122 q16 q123
theorem hd_X0_again : yX0_again.cls = RX0 ∧ yX0_again.cls ≠ "java/lang/invoke/MethodHandle" ∧ yX0_again.cls ≠ "java/lang/invoke/VarHandle" ∧ (parseMethodDescriptor yX0_again.desc).map (fun d => d.parameters.length) = some 0 := by decide +kernel
theorem g_X0_out : GoodIn lw_all (wsV R_law 31 RX0 yX0_out (ws_ yX0_out cX0_out 2 (some .int))) := lw_V q124 q125 q126 q16 q127
theorem hd_X0_out : yX0_out.cls = RX0 ∧ yX0_out.cls ≠ "java/lang/invoke/MethodHandle" ∧ yX0_out.cls ≠ "java/lang/invoke/VarHandle" ∧ (parseMethodDescriptor yX0_out.desc).map (fun d => d.parameters.length) = some 1 := by decide +kernel
theorem g_X0_key : GoodIn lw_all (wsV R_law 36 RX0 yX0_key (ws_ yX0_key cX0_key 7 none)) := lw_V q128 q129 q130 q16 q131
theorem hd_X0_key : yX0_key.cls = RX0 ∧ yX0_key.cls ≠ "java/lang/invoke/MethodHandle" ∧ yX0_key.cls ≠ "java/lang/invoke/VarHandle" ∧ (parseMethodDescriptor yX0_key.desc).map (fun d => d.parameters.length) = some 5 := by decide +kernel
theorem g_X0_nonce : GoodIn lw_all (wsV R_law 40 RX0 yX0_nonce (ws_ yX0_nonce cX0_nonce 5 none)) := lw_V q132 q133 q134 q16 q135
theorem hd_X0_nonce : yX0_nonce.cls = RX0 ∧ yX0_nonce.cls ≠ "java/lang/invoke/MethodHandle" ∧ yX0_nonce.cls ≠ "java/lang/invoke/VarHandle" ∧ (parseMethodDescriptor yX0_nonce.desc).map (fun d => d.parameters.length) = some 3 := by decide +kernel
theorem g_X0_block : GoodIn lw_all (wsV R_law 45 RX0 yX0_block (ws_ yX0_block cX0_block 4 (some .boolean))) := lw_V q140 q141 q142 q16 q143
theorem hd_X0_block : yX0_block.cls = RX0 ∧ yX0_block.cls ≠ "java/lang/invoke/MethodHandle" ∧ yX0_block.cls ≠ "java/lang/invoke/VarHandle" ∧ (parseMethodDescriptor yX0_block.desc).map (fun d => d.parameters.length) = some 0 := by decide +kernel
theorem g_X0_stream : GoodIn lw_all (wsV R_law 50 RX0 yX0_stream (ws_ yX0_stream cX0_stream 2 (some .int))) := lw_V q144 q145 q146 q16 q147
theorem hd_X0_stream : yX0_stream.cls = RX0 ∧ yX0_stream.cls ≠ "java/lang/invoke/MethodHandle" ∧ yX0_stream.cls ≠ "java/lang/invoke/VarHandle" ∧ (parseMethodDescriptor yX0_stream.desc).map (fun d => d.parameters.length) = some 1 := by decide +kernel
theorem g_X1_put : GoodIn lw_all (wsV R_law 17 RX1 yX1_put (ws_ yX1_put cX1_put 7 none)) := lw_V q179 q180 q181 q17 q182
theorem hd_X1_put : yX1_put.cls = RX1 ∧ yX1_put.cls ≠ "java/lang/invoke/MethodHandle" ∧ yX1_put.cls ≠ "java/lang/invoke/VarHandle" ∧ (parseMethodDescriptor yX1_put.desc).map (fun d => d.parameters.length) = some 5 := by decide +kernel
theorem g_X1_salsa : GoodIn lw_all (wsV R_law 22 RX1 yX1_salsa (ws_ yX1_salsa cX1_salsa 2 none)) := lw_V q183 q184 q185 q17 q186
theorem hd_X1_salsa : yX1_salsa.cls = RX1 ∧ yX1_salsa.cls ≠ "java/lang/invoke/MethodHandle" ∧ yX1_salsa.cls ≠ "java/lang/invoke/VarHandle" ∧ (parseMethodDescriptor yX1_salsa.desc).map (fun d => d.parameters.length) = some 1 := by decide +kernel
theorem g_X1_chacha : GoodIn lw_all (wsV R_law 26 RX1 yX1_chacha (ws_ yX1_chacha cX1_chacha 2 none)) := lw_V q206 q207 q208 q17 q209
theorem hd_X1_chacha : yX1_chacha.cls = RX1 ∧ yX1_chacha.cls ≠ "java/lang/invoke/MethodHandle" ∧ yX1_chacha.cls ≠ "java/lang/invoke/VarHandle" ∧ (parseMethodDescriptor yX1_chacha.desc).map (fun d => d.parameters.length) = some 1 := by decide +kernel
theorem g_X1_again : GoodIn lw_all (wsV R_law 30 RX1 yX1_again (ws_ yX1_again cX1_again 2 none)) := lw_V q210 q211 q212 q17 q213
theorem hd_X1_again : yX1_again.cls = RX1 ∧ yX1_again.cls ≠ "java/lang/invoke/MethodHandle" ∧ yX1_again.cls ≠ "java/lang/invoke/VarHandle" ∧ (parseMethodDescriptor yX1_again.desc).map (fun d => d.parameters.length) = some 0 := by decide +kernel
theorem g_X1_out : GoodIn lw_all (wsV R_law 35 RX1 yX1_out (ws_ yX1_out cX1_out 2 (some .int))) := lw_V q214 q215 q216 q17 q217
theorem hd_X1_out : yX1_out.cls = RX1 ∧ yX1_out.cls ≠ "java/lang/invoke/MethodHandle" ∧ yX1_out.cls ≠ "java/lang/invoke/VarHandle" ∧ (parseMethodDescriptor yX1_out.desc).map (fun d => d.parameters.length) = some 1 := by decide +kernel
theorem g_X1_key : GoodIn lw_all (wsV R_law 39 RX1 yX1_key (ws_ yX1_key cX1_key 7 none)) := lw_V q218 q219 q220 q17 q221
theorem hd_X1_key : yX1_key.cls = RX1 ∧ yX1_key.cls ≠ "java/lang/invoke/MethodHandle" ∧ yX1_key.cls ≠ "java/lang/invoke/VarHandle" ∧ (parseMethodDescriptor yX1_key.desc).map (fun d => d.parameters.length) = some 5 := by decide +kernel
theorem g_X1_nonce : GoodIn lw_all (wsV R_law 44 RX1 yX1_nonce (ws_ yX1_nonce cX1_nonce 5 none)) := lw_V q222 q223 q224 q17 q225
theorem hd_X1_nonce : yX1_nonce.cls = RX1 ∧ yX1_nonce.cls ≠ "java/lang/invoke/MethodHandle" ∧ yX1_nonce.cls ≠ "java/lang/invoke/VarHandle" ∧ (parseMethodDescriptor yX1_nonce.desc).map (fun d => d.parameters.length) = some 3 := by decide +kernel
theorem g_X1_block : GoodIn lw_all (wsV R_law 49 RX1 yX1_block (ws_ yX1_block cX1_block 2 (some .boolean))) := lw_V q230 q231 q232 q17 q233
theorem hd_X1_block : yX1_block.cls = RX1 ∧ yX1_block.cls ≠ "java/lang/invoke/MethodHandle" ∧ yX1_block.cls ≠ "java/lang/invoke/VarHandle" ∧ (parseMethodDescriptor yX1_block.desc).map (fun d => d.parameters.length) = some 0 := by decide +kernel
theorem g_X1_stream : GoodIn lw_all (wsV R_law 53 RX1 yX1_stream (ws_ yX1_stream cX1_stream 2 (some .int))) := lw_V q234 q235 q236 q17 q237
theorem hd_X1_stream : yX1_stream.cls = RX1 ∧ yX1_stream.cls ≠ "java/lang/invoke/MethodHandle" ∧ yX1_stream.cls ≠ "java/lang/invoke/VarHandle" ∧ (parseMethodDescriptor yX1_stream.desc).map (fun d => d.parameters.length) = some 1 := by decide +kernel
theorem g_X0_both : GoodIn lw_all (va_wsS RX0 38 yX0_both (ws_ yX0_both cX0_both 2 (some .long))) := lw_S q67 q68 q16 q69
theorem hd_X0_both : yX0_both.cls ≠ "java/lang/invoke/MethodHandle" ∧ yX0_both.cls ≠ "java/lang/invoke/VarHandle" ∧ (parseMethodDescriptor yX0_both.desc).map (fun d => d.parameters.length) = some 2 := by decide +kernel
theorem g_X0_plus : GoodIn lw_all (va_wsS RX0 42 yX0_plus (ws_ yX0_plus cX0_plus 4 (some .long))) := lw_S q79 q80 q16 q81
theorem hd_X0_plus : yX0_plus.cls ≠ "java/lang/invoke/MethodHandle" ∧ yX0_plus.cls ≠ "java/lang/invoke/VarHandle" ∧ (parseMethodDescriptor yX0_plus.desc).map (fun d => d.parameters.length) = some 2 := by decide +kernel
theorem g_X0_turned : GoodIn lw_all (va_wsS RX0 46 yX0_turned (ws_ yX0_turned cX0_turned 5 (some .long))) := lw_S q84 q85 q16 q86
theorem hd_X0_turned : yX0_turned.cls ≠ "java/lang/invoke/MethodHandle" ∧ yX0_turned.cls ≠ "java/lang/invoke/VarHandle" ∧ (parseMethodDescriptor yX0_turned.desc).map (fun d => d.parameters.length) = some 2 := by decide +kernel
theorem g_X1_turn : GoodIn lw_all (va_wsS RX1 31 yX1_turn (ws_ yX1_turn cX1_turn 2 (some .int))) := lw_S q199 q200 q17 q201
theorem hd_X1_turn : yX1_turn.cls ≠ "java/lang/invoke/MethodHandle" ∧ yX1_turn.cls ≠ "java/lang/invoke/VarHandle" ∧ (parseMethodDescriptor yX1_turn.desc).map (fun d => d.parameters.length) = some 2 := by decide +kernel
end
section
set_option maxRecDepth 100000
section PUT
variable {p : Program} {l : Launch} {e : Env} {R : Room} {s : State} {m : MethodId} {args : Array Value} {below : List Frame} {meth : Method} {c : Code} {H : Heap} {locs : List Loc} {cells slots : Nat} {Q : State → Prop}
variable {cc : ByteArray} {pc nL : Nat} {own : String} {ret : Option FieldType} {ls : Array Slot} {rest : List Value} {G : va_G} {tys : List (ClassId × FieldType)} {A : Nat → Prop} {w w' : va_W} {a : Nat}
/-- putfield of a field that isn't final -/
theorem r_putX {index : Nat} {v : Value} {ty : FieldType} (F : Fx p m c cc nL s args RX0 meth ret) (h : Wd G tys A s H locs w) (q0 k : Nat) {fs : List Value} (he : w[q0]? = some (a, obj 0 fs)) (hk : k < 7) (ho : (TX0 k).1 = RX0) (hl : Cond.fieldLink RX0 index RX0 (TX0 k).2.1 (TX0 k).2.2.1 ∈ lw_all) (hfin : (TX0 k).2.2.2 = false) (hd : parseFieldDescriptor (TX0 k).2.2.1 = some ty) (hn : narrow ty v = v) (hfit : fits ty v = true) (hlen : k < fs.length) (hw : w.set q0 (a, obj 0 (fs.set k v)) = w') (hdg : decode cc pc = .ok (.putfield index, 3))
    (kk : ∀ (H1 : Heap) (locs1 : List Loc), Wd G tys A s H1 locs1 w' → W p l e R s m args below meth c H1 locs1 cells slots Q (F0 m (pc + 3) ls rest)) : W p l e R s m args below meth c H locs cells slots Q (F0 m pc ls (v :: .ref a :: rest)) := by
  subst hw
  exact va_put (D := G) (ci := 0) (C := RX0) (T := TX0) (N := 7) F.1.1 F.1.2.1 F.1.2.2.2.2 in_X0 tyX0 tyX0_ok nmX0 F.1.2.2.2.1 h.1 h.2.1 h.2.2.1 h.2.2.2.1 q0 he rfl k hk (F.1.2.2.2.2 _ hl) (fun _ h9 => by rw [ho] at h9; exact h9) hfin hd hn hfit hlen hdg (fun H1 locs1 hP hD hS => kk H1 locs1 ⟨h.1, hP, hD, hS, h.2.2.2.2⟩)
theorem r_putM {index : Nat} {v : Value} {ty : FieldType} (F : Fx p m c cc nL s args RX1 meth ret) (h : Wd G tys A s H locs w) (q0 k : Nat) {fs : List Value} (he : w[q0]? = some (a, obj 1 fs)) (hk : k < 8) (ho : (TX1 k).1 = RX1) (hl : Cond.fieldLink RX1 index RX1 (TX1 k).2.1 (TX1 k).2.2.1 ∈ lw_all) (hfin : (TX1 k).2.2.2 = false) (hd : parseFieldDescriptor (TX1 k).2.2.1 = some ty) (hn : narrow ty v = v) (hfit : fits ty v = true) (hlen : k < fs.length) (hw : w.set q0 (a, obj 1 (fs.set k v)) = w') (hdg : decode cc pc = .ok (.putfield index, 3))
    (kk : ∀ (H1 : Heap) (locs1 : List Loc), Wd G tys A s H1 locs1 w' → W p l e R s m args below meth c H1 locs1 cells slots Q (F0 m (pc + 3) ls rest)) : W p l e R s m args below meth c H locs cells slots Q (F0 m pc ls (v :: .ref a :: rest)) := by
  subst hw
  exact va_put (D := G) (ci := 1) (C := RX1) (T := TX1) (N := 8) F.1.1 F.1.2.1 F.1.2.2.2.2 in_X1 tyX1 tyX1_ok nmX1 F.1.2.2.2.1 h.1 h.2.1 h.2.2.1 h.2.2.2.1 q0 he rfl k hk (F.1.2.2.2.2 _ hl) (fun _ h9 => by rw [ho] at h9; exact h9) hfin hd hn hfit hlen hdg (fun H1 locs1 hP hD hS => kk H1 locs1 ⟨h.1, hP, hD, hS, h.2.2.2.2⟩)
/-- putfield of a final field, in a constructor -/
theorem r_finX {index : Nat} {v : Value} {ty : FieldType} (F : Fx p m c cc nL s args RX0 meth ret) (hnm : meth.name = "<init>") (h : Wd G tys A s H locs w) (q0 k : Nat) {fs : List Value} (he : w[q0]? = some (a, obj 0 fs)) (hk : k < 7) (ho : (TX0 k).1 = RX0) (hl : Cond.fieldLink RX0 index RX0 (TX0 k).2.1 (TX0 k).2.2.1 ∈ lw_all) (hfin : (TX0 k).2.2.2 = true) (hd : parseFieldDescriptor (TX0 k).2.2.1 = some ty) (hn : narrow ty v = v) (hfit : fits ty v = true) (hlen : k < fs.length) (hw : w.set q0 (a, obj 0 (fs.set k v)) = w') (hdg : decode cc pc = .ok (.putfield index, 3))
    (kk : ∀ (H1 : Heap) (locs1 : List Loc), Wd G tys A s H1 locs1 w' → W p l e R s m args below meth c H1 locs1 cells slots Q (F0 m (pc + 3) ls rest)) : W p l e R s m args below meth c H locs cells slots Q (F0 m pc ls (v :: .ref a :: rest)) := by
  subst hw
  exact va_putF (D := G) (ci := 0) (C := RX0) (T := TX0) (N := 7) F.1.1 F.1.2.1 F.1.2.2.2.2 in_X0 tyX0 tyX0_ok nmX0 F.1.2.2.2.1 h.1 h.2.1 h.2.2.1 h.2.2.2.1 q0 he rfl k hk (F.1.2.2.2.2 _ hl) (fun _ h9 => by rw [ho] at h9; exact h9) hfin hnm ho hd hn hfit hlen hdg (fun H1 locs1 hP hD hS => kk H1 locs1 ⟨h.1, hP, hD, hS, h.2.2.2.2⟩)
theorem r_finM {index : Nat} {v : Value} {ty : FieldType} (F : Fx p m c cc nL s args RX1 meth ret) (hnm : meth.name = "<init>") (h : Wd G tys A s H locs w) (q0 k : Nat) {fs : List Value} (he : w[q0]? = some (a, obj 1 fs)) (hk : k < 8) (ho : (TX1 k).1 = RX1) (hl : Cond.fieldLink RX1 index RX1 (TX1 k).2.1 (TX1 k).2.2.1 ∈ lw_all) (hfin : (TX1 k).2.2.2 = true) (hd : parseFieldDescriptor (TX1 k).2.2.1 = some ty) (hn : narrow ty v = v) (hfit : fits ty v = true) (hlen : k < fs.length) (hw : w.set q0 (a, obj 1 (fs.set k v)) = w') (hdg : decode cc pc = .ok (.putfield index, 3))
    (kk : ∀ (H1 : Heap) (locs1 : List Loc), Wd G tys A s H1 locs1 w' → W p l e R s m args below meth c H1 locs1 cells slots Q (F0 m (pc + 3) ls rest)) : W p l e R s m args below meth c H locs cells slots Q (F0 m pc ls (v :: .ref a :: rest)) := by
  subst hw
  exact va_putF (D := G) (ci := 1) (C := RX1) (T := TX1) (N := 8) F.1.1 F.1.2.1 F.1.2.2.2.2 in_X1 tyX1 tyX1_ok nmX1 F.1.2.2.2.1 h.1 h.2.1 h.2.2.1 h.2.2.2.1 q0 he rfl k hk (F.1.2.2.2.2 _ hl) (fun _ h9 => by rw [ho] at h9; exact h9) hfin hnm ho hd hn hfit hlen hdg (fun H1 locs1 hP hD hS => kk H1 locs1 ⟨h.1, hP, hD, hS, h.2.2.2.2⟩)
/-- the classes of arrays are one a type -/
theorem ty_one {cl : List vw_C} {U : State} {c1 c2 : ClassId} {ty : FieldType} {i j : Nat} (h : va_K G cl tys U) (hp : ∀ C, ty ≠ .object C) (h1 : tys[i]? = some (c1, ty)) (h2 : tys[j]? = some (c2, ty)) : c1 = c2 := by
  have a1 := (h.2 i _ h1).2
  have a2 := (h.2 j _ h2).2
  unfold va_RA at a1 a2
  cases ty with
  | object C => exact absurd rfl (hp C)
  | _ => exact Option.some.inj (a1.symm.trans a2)
/-- newarray: one more cell, of the known class -/
theorem r_newa {cI cB cL : ClassId} (F : Fx p m c cc nL s args own meth ret) (h : Wd G (tys_ cI cB cL) A s H locs w) {atype : ArrayType} (harr : Cond.arrayClass (newarray.typeOf atype) ∈ lw_all) {ty : FieldType} (hty : newarray.typeOf atype = ty) (t0 : Nat) {cA : ClassId} (ht : (tys_ cI cB cL)[t0]? = some (cA, ty)) (hp : ∀ C, ty ≠ .object C)
    {nn : Int32} {N : Nat} {a0 : vp_A} (ha : ∀ cA : ClassId, vp_cell cA a0 = arrV cA N (fun _ => defaultValue ty)) (hn : ¬ nn < 0) (hN : nn.toNatClampNeg = N) (hbytes : N * componentBytes ty ≤ 536870912) (hcells : cells + 1 ≤ R.cells) (hslots : slots + N ≤ R.slots) (hdg : decode cc pc = .ok (.newarray atype, 2))
    (kk : ∀ (q : Nat) (H1 : Heap), Wd G (tys_ cI cB cL) A s H1 locs (w ++ [(q, .inl (cA, a0))]) → W p l e R s m args below meth c H1 locs (cells + 1) (slots + N) Q (F0 m (pc + 2) ls (.ref q :: rest))) : W p l e R s m args below meth c H locs cells slots Q (F0 m pc ls (.int nn :: rest)) := by
  refine va_newa F.1.1 F.1.2.1 (F.1.2.2.2.2 _ harr) hty h.1 h.2.1 h.2.2.1 h.2.2.2.1 h.2.2.2.2 ha hn hN hbytes hcells hslots hdg (fun q cA' H1 hK hP hD hS => ?_)
  have e1 : (tys_ cI cB cL ++ [(cA', ty)])[t0]? = some (cA, ty) := by
    rw [List.getElem?_append_left (List.getElem?_eq_some_iff.mp ht).1]; exact ht
  have e : cA' = cA := ty_one (i := 3) (j := t0) hK hp rfl e1
  subst e
  exact kk q H1 ⟨h.1, hP, hD, hS, h.2.2.2.2⟩
end PUT
end
section
set_option maxRecDepth 100000
set_option maxHeartbeats 4000000 in
theorem ct_X0_plus (l : Launch) (G : va_G) (cI cB cL : ClassId) (x y : Int64) : CL l yX0_plus (ws_ yX0_plus cX0_plus 4 (some .long)) (rm_ 0 0) G (tys_ cI cB cL) [.long x, .long y] [] [] (plusL x y) := by
  refine CL.of (by decide) (Nat.le_of_ble_eq_true rfl) ?_
  intro p e s m below meth c A ls F hW hl
  have F : Fx p m c cX0_plus 4 s ([.long x, .long y] : List Value).toArray RX0 meth (some .long) := F
  obtain ⟨⟨hx, hb, hml, hown, hts⟩, hr, hlocks⟩ := id F
  have hl : lv_has ls 4 [(0, .long x), (2, .long y)] := hl
  refine lv_lload_n hx hb dX0_plus_0 rfl (lv_at hl 0 rfl) ?_
  refine lv_ldc2 hx hb hown (hts _ q82) dX0_plus_1 ?_
  refine lv_land hx hb dX0_plus_4 ?_
  refine lv_lload_n hx hb dX0_plus_5 rfl (lv_at hl 1 rfl) ?_
  refine lv_ldc2 hx hb hown (hts _ q82) dX0_plus_6 ?_
  refine lv_land hx hb dX0_plus_9 ?_
  refine lv_ladd hx hb dX0_plus_10 ?_
  refine lv_lload_n hx hb dX0_plus_11 rfl (lv_at hl 0 rfl) ?_
  refine lv_lload_n hx hb dX0_plus_12 rfl (lv_at hl 1 rfl) ?_
  refine lv_lxor hx hb dX0_plus_13 ?_
  refine lv_ldc2 hx hb hown (hts _ q83) dX0_plus_14 ?_
  refine lv_land hx hb dX0_plus_17 ?_
  refine lv_lxor hx hb dX0_plus_18 ?_
  exact r_lret F hW rfl dX0_plus_19
set_option maxHeartbeats 4000000 in
theorem ct_X0_turned (l : Launch) (G : va_G) (cI cB cL : ClassId) (x : Int64) (k : Nat) (hk : k ≤ 32) : CL l yX0_turned (ws_ yX0_turned cX0_turned 5 (some .long)) (rm_ 0 0) G (tys_ cI cB cL) [.long x, .int (nI k)] [] [] (turnedL x k) := by
  refine CL.of (by decide) (Nat.le_of_ble_eq_true rfl) ?_
  intro p e s m below meth c A ls F hW hl
  have F : Fx p m c cX0_turned 5 s ([.long x, .int (nI k)] : List Value).toArray RX0 meth (some .long) := F
  obtain ⟨⟨hx, hb, hml, hown, hts⟩, hr, hlocks⟩ := id F
  have hl : lv_has ls 5 [(0, .long x), (2, .int (nI k))] := hl
  refine lv_lconst (v := 1) hx hb dX0_turned_0 (by decide) ?_
  refine lv_iload_n hx hb dX0_turned_1 rfl (lv_at hl 1 rfl) ?_
  refine lv_lshl hx hb dX0_turned_2 rfl ?_
  refine lv_lconst (v := 1) hx hb dX0_turned_3 (by decide) ?_
  refine lv_lsub hx hb dX0_turned_4 ?_
  refine lv_lstore_n (lv' := [(3, .long (lowM k)), (0, .long x), (2, .int (nI k))]) hx hb dX0_turned_5 rfl hl (by decide) rfl (fun ls hl => ?_)
  refine lv_lload_n hx hb dX0_turned_6 rfl (lv_at hl 0 rfl) ?_
  refine lv_lload_n hx hb dX0_turned_7 rfl (lv_at hl 0 rfl) ?_
  refine lv_bipush (v := nI 32) hx hb dX0_turned_8 (by decide) ?_
  refine lv_lshl hx hb dX0_turned_10 rfl ?_
  refine lv_lor hx hb dX0_turned_11 ?_
  refine lv_lstore_n (lv' := [(3, .long (lowB k)), (0, .long x), (2, .int (nI k))]) hx hb dX0_turned_12 rfl hl (by decide) rfl (fun ls hl => ?_)
  refine lv_lload_n hx hb dX0_turned_13 rfl (lv_at hl 1 rfl) ?_
  refine lv_iload_n hx hb dX0_turned_14 rfl (lv_at hl 2 rfl) ?_
  refine lv_lshl hx hb dX0_turned_15 rfl ?_
  refine lv_lload_n hx hb dX0_turned_16 rfl (lv_at hl 0 rfl) ?_
  refine lv_ldc2 hx hb hown (hts _ q87) dX0_turned_17 ?_
  refine lv_lxor hx hb dX0_turned_20 ?_
  refine lv_land hx hb dX0_turned_21 ?_
  refine lv_lload_n hx hb dX0_turned_22 rfl (lv_at hl 1 rfl) ?_
  refine lv_bipush (v := nI 32) hx hb dX0_turned_23 (by decide) ?_
  refine lv_iload_n hx hb dX0_turned_25 rfl (lv_at hl 2 rfl) ?_
  refine n_sub hx hb (by omega) dX0_turned_26 ?_
  refine lv_lushr (v := ushL x (32 - k)) hx hb dX0_turned_27 rfl ?_
  refine lv_lload_n hx hb dX0_turned_28 rfl (lv_at hl 0 rfl) ?_
  refine lv_land hx hb dX0_turned_29 ?_
  refine lv_lor hx hb dX0_turned_30 ?_
  exact r_lret F hW rfl dX0_turned_31
set_option maxHeartbeats 4000000 in
theorem ct_X0_both (l : Launch) (G : va_G) (cI cB cL : ClassId) (x y : Int32) : CL l yX0_both (ws_ yX0_both cX0_both 2 (some .long)) (rm_ 0 0) G (tys_ cI cB cL) [.int x, .int y] [] [] (bothL x y) := by
  refine CL.of (by decide) (Nat.le_of_ble_eq_true rfl) ?_
  intro p e s m below meth c A ls F hW hl
  have F : Fx p m c cX0_both 2 s ([.int x, .int y] : List Value).toArray RX0 meth (some .long) := F
  obtain ⟨⟨hx, hb, hml, hown, hts⟩, hr, hlocks⟩ := id F
  have hl : lv_has ls 2 [(0, .int x), (1, .int y)] := hl
  refine lv_iload_n hx hb dX0_both_0 rfl (lv_at hl 0 rfl) ?_
  refine lv_i2l hx hb dX0_both_1 rfl ?_
  refine lv_bipush (v := nI 32) hx hb dX0_both_2 (by decide) ?_
  refine lv_lshl hx hb dX0_both_4 rfl ?_
  refine lv_iload_n hx hb dX0_both_5 rfl (lv_at hl 1 rfl) ?_
  refine lv_i2l hx hb dX0_both_6 rfl ?_
  refine lv_ldc2 hx hb hown (hts _ q70) dX0_both_7 ?_
  refine lv_land hx hb dX0_both_10 ?_
  refine lv_lor hx hb dX0_both_11 ?_
  exact r_lret F hW rfl dX0_both_12
set_option maxHeartbeats 4000000 in
theorem ct_X0_lay (l : Launch) (G : va_G) (cI cB cL : ClassId) (o aR : Nat) (fs : List Value) (hf6 : fs[6]? = some (.ref aR)) (f : Nat → Int64) (r : Nat) (a b c_ d : Int32) (hr4 : r < 4) : CV l yX0_lay (ws_ yX0_lay cX0_lay 6 none) (rm_ 1 21) G (tys_ cI cB cL) [.ref o, .int (nI r), .int a, .int b, .int c_, .int d] [(o, obj 0 fs), (aR, arL cL 8 f)] [(o, obj 0 fs), (aR, arL cL 8 (layF r a b c_ d f))] := by
  refine CV.of (by decide) (Nat.le_of_ble_eq_true rfl) ?_
  intro p e s m below meth c A ls F hW hl
  have F : Fx p m c cX0_lay 6 s ([.ref o, .int (nI r), .int a, .int b, .int c_, .int d] : List Value).toArray RX0 meth none := F
  obtain ⟨⟨hx, hb, hml, hown, hts⟩, hr, hlocks⟩ := id F
  have hl : lv_has ls 6 [(0, .ref o), (1, .int (nI r)), (2, .int a), (3, .int b), (4, .int c_), (5, .int d)] := hl
  refine lv_aload_n hx hb dX0_lay_0 rfl (lv_at hl 0 rfl) ?_
  refine r_getX F hW 0 6 rfl (by decide) rfl q32 hf6 dX0_lay_1 ?_
  refine lv_iconst (v := nI 2) hx hb dX0_lay_4 (by decide) ?_
  refine lv_iload_n hx hb dX0_lay_5 rfl (lv_at hl 1 rfl) ?_
  refine n_mul hx hb dX0_lay_6 ?_
  refine lv_iload_n hx hb dX0_lay_7 rfl (lv_at hl 3 rfl) ?_
  refine lv_iload_n hx hb dX0_lay_8 rfl (lv_at hl 2 rfl) ?_
  refine k_SL (rest := [.int (nI (2 * r)), .ref aR]) F hW (ct_X0_both l G cI cB cL b a) [0, 1] rfl rfl g_X0_both ⟨rfl, rfl⟩ hd_X0_both ⟨Nat.le_of_ble_eq_true rfl, Nat.le_of_ble_eq_true rfl⟩ rfl hl.1 rfl (Nat.le_of_ble_eq_true rfl) dX0_lay_9 ⟨Nat.zero_le _, Nat.zero_le _⟩ (fun H locs hW => ?_)
  refine r_last (w' := [(o, obj 0 fs), (aR, arL cL 8 (vp_updL f (2 * r) (bothL b a)))]) F hW 1 rfl (2 * r) (by omega) (by decide) (vp_updL f (2 * r) (bothL b a)) rfl rfl dX0_lay_12 (fun H locs hW => ?_)
  refine lv_aload_n hx hb dX0_lay_13 rfl (lv_at hl 0 rfl) ?_
  refine r_getX F hW 0 6 rfl (by decide) rfl q32 hf6 dX0_lay_14 ?_
  refine lv_iconst (v := nI 2) hx hb dX0_lay_17 (by decide) ?_
  refine lv_iload_n hx hb dX0_lay_18 rfl (lv_at hl 1 rfl) ?_
  refine n_mul hx hb dX0_lay_19 ?_
  refine lv_iconst (v := nI 1) hx hb dX0_lay_20 (by decide) ?_
  refine n_add hx hb dX0_lay_21 ?_
  refine lv_iload hx hb dX0_lay_22 (lv_at hl 5 rfl) ?_
  refine lv_iload hx hb dX0_lay_24 (lv_at hl 4 rfl) ?_
  refine k_SL (rest := [.int (nI ((2 * r) + 1)), .ref aR]) F hW (ct_X0_both l G cI cB cL d c_) [0, 1] rfl rfl g_X0_both ⟨rfl, rfl⟩ hd_X0_both ⟨Nat.le_of_ble_eq_true rfl, Nat.le_of_ble_eq_true rfl⟩ rfl hl.1 rfl (Nat.le_of_ble_eq_true rfl) dX0_lay_26 ⟨Nat.zero_le _, Nat.zero_le _⟩ (fun H locs hW => ?_)
  refine r_last (w' := [(o, obj 0 fs), (aR, arL cL 8 (layF r a b c_ d f))]) F hW 1 rfl ((2 * r) + 1) (by omega) (by decide) (layF r a b c_ d f) rfl rfl dX0_lay_29 (fun H locs hW => ?_)
  exact r_vret F hW dX0_lay_30
set_option maxHeartbeats 4000000 in
theorem ct_X0_word (l : Launch) (G : va_G) (cI cB cL : ClassId) (o aR : Nat) (fs : List Value) (hf6 : fs[6]? = some (.ref aR)) (f : Nat → Int64) (r k : Nat) (hr4 : r < 4) (hk4 : k < 4) : CI l yX0_word (ws_ yX0_word cX0_word 3 (some .int)) (rm_ 0 0) G (tys_ cI cB cL) [.ref o, .int (nI r), .int (nI k)] [(o, obj 0 fs), (aR, arL cL 8 f)] [(o, obj 0 fs), (aR, arL cL 8 f)] (wordL f r k) := by
  refine CI.of (by decide) (Nat.le_of_ble_eq_true rfl) ?_
  intro p e s m below meth c A ls F hW hl
  have F : Fx p m c cX0_word 3 s ([.ref o, .int (nI r), .int (nI k)] : List Value).toArray RX0 meth (some .int) := F
  obtain ⟨⟨hx, hb, hml, hown, hts⟩, hr, hlocks⟩ := id F
  have hl : lv_has ls 3 [(0, .ref o), (1, .int (nI r)), (2, .int (nI k))] := hl
  refine lv_aload_n hx hb dX0_word_0 rfl (lv_at hl 0 rfl) ?_
  refine r_getX F hW 0 6 rfl (by decide) rfl q32 hf6 dX0_word_1 ?_
  refine lv_iconst (v := nI 2) hx hb dX0_word_4 (by decide) ?_
  refine lv_iload_n hx hb dX0_word_5 rfl (lv_at hl 1 rfl) ?_
  refine n_mul hx hb dX0_word_6 ?_
  refine lv_iload_n hx hb dX0_word_7 rfl (lv_at hl 2 rfl) ?_
  refine lv_iconst (v := nI 2) hx hb dX0_word_8 (by decide) ?_
  refine n_div hx hb (by omega) (by omega) (by omega) dX0_word_9 ?_
  refine n_add hx hb dX0_word_10 ?_
  refine r_lald F hW 1 rfl ((2 * r) + (k / 2)) (by omega) (by decide) dX0_word_11 ?_
  refine lv_bipush (v := nI 32) hx hb dX0_word_12 (by decide) ?_
  refine lv_iload_n hx hb dX0_word_14 rfl (lv_at hl 2 rfl) ?_
  refine lv_iconst (v := nI 1) hx hb dX0_word_15 (by decide) ?_
  refine n_and hx hb 1 2 (by omega) (by decide) (by decide) dX0_word_16 ?_
  refine n_mul hx hb dX0_word_17 ?_
  refine lv_lushr (v := ushL (f ((2 * r) + (k / 2))) (32 * (k % 2))) hx hb dX0_word_18 rfl ?_
  refine lv_l2i hx hb dX0_word_19 rfl ?_
  exact r_iret F hW rfl dX0_word_20
set_option maxHeartbeats 4000000 in
theorem ct_X0_shift (l : Launch) (G : va_G) (cI cB cL : ClassId) (o aR : Nat) (fs : List Value) (hf6 : fs[6]? = some (.ref aR)) (f : Nat → Int64) (r k : Nat) (hr4 : r < 4) : CV l yX0_shift (ws_ yX0_shift cX0_shift 9 none) (rm_ 0 0) G (tys_ cI cB cL) [.ref o, .int (nI r), .int (nI k)] [(o, obj 0 fs), (aR, arL cL 8 f)] [(o, obj 0 fs), (aR, arL cL 8 (shiftF r k f))] := by
  refine CV.of (by decide) (Nat.le_of_ble_eq_true rfl) ?_
  intro p e s m below meth c A ls F hW hl
  have F : Fx p m c cX0_shift 9 s ([.ref o, .int (nI r), .int (nI k)] : List Value).toArray RX0 meth none := F
  obtain ⟨⟨hx, hb, hml, hown, hts⟩, hr, hlocks⟩ := id F
  have hl : lv_has ls 9 [(0, .ref o), (1, .int (nI r)), (2, .int (nI k))] := hl
  refine lv_aload_n hx hb dX0_shift_0 rfl (lv_at hl 0 rfl) ?_
  refine r_getX F hW 0 6 rfl (by decide) rfl q32 hf6 dX0_shift_1 ?_
  refine lv_iconst (v := nI 2) hx hb dX0_shift_4 (by decide) ?_
  refine lv_iload_n hx hb dX0_shift_5 rfl (lv_at hl 1 rfl) ?_
  refine n_mul hx hb dX0_shift_6 ?_
  refine r_lald F hW 1 rfl (2 * r) (by omega) (by decide) dX0_shift_7 ?_
  refine lv_lstore_n (lv' := [(3, .long (f (2 * r))), (0, .ref o), (1, .int (nI r)), (2, .int (nI k))]) hx hb dX0_shift_8 rfl hl (by decide) rfl (fun ls hl => ?_)
  refine lv_aload_n hx hb dX0_shift_9 rfl (lv_at hl 1 rfl) ?_
  refine r_getX F hW 0 6 rfl (by decide) rfl q32 hf6 dX0_shift_10 ?_
  refine lv_iconst (v := nI 2) hx hb dX0_shift_13 (by decide) ?_
  refine lv_iload_n hx hb dX0_shift_14 rfl (lv_at hl 2 rfl) ?_
  refine n_mul hx hb dX0_shift_15 ?_
  refine lv_iconst (v := nI 1) hx hb dX0_shift_16 (by decide) ?_
  refine n_add hx hb dX0_shift_17 ?_
  refine r_lald F hW 1 rfl ((2 * r) + 1) (by omega) (by decide) dX0_shift_18 ?_
  refine lv_lstore (lv' := [(5, .long (f ((2 * r) + 1))), (3, .long (f (2 * r))), (0, .ref o), (1, .int (nI r)), (2, .int (nI k))]) hx hb dX0_shift_19 hl (by decide) rfl (fun ls hl => ?_)
  have t70 : ∀ (x y : Int64) (ls : Array Slot), lv_has ls 9 [(0, .ref o), (1, .int (nI r)), (2, .int (nI k)), (3, .long x), (5, .long y)] → W p l e (rm_ 0 0) s m ([.ref o, .int (nI r), .int (nI k)] : List Value).toArray below meth c s.heap [] 0 0 (MQ below (QV G (tys_ cI cB cL) [(o, obj 0 fs), (aR, arL cL 8 (st2 r x y f))] A) ([.ref o, .int (nI r), .int (nI k)] : List Value).toArray s 0 0 A) (F0 m 70 ls []) := by
    intro x y ls hl
    refine lv_aload_n hx hb dX0_shift_70 rfl (lv_at hl 0 rfl) ?_
    refine r_getX F hW 0 6 rfl (by decide) rfl q32 hf6 dX0_shift_71 ?_
    refine lv_iconst (v := nI 2) hx hb dX0_shift_74 (by decide) ?_
    refine lv_iload_n hx hb dX0_shift_75 rfl (lv_at hl 1 rfl) ?_
    refine n_mul hx hb dX0_shift_76 ?_
    refine lv_lload_n hx hb dX0_shift_77 rfl (lv_at hl 3 rfl) ?_
    refine r_last (w' := [(o, obj 0 fs), (aR, arL cL 8 (vp_updL f (2 * r) x))]) F hW 1 rfl (2 * r) (by omega) (by decide) (vp_updL f (2 * r) x) rfl rfl dX0_shift_78 (fun H locs hW => ?_)
    refine lv_aload_n hx hb dX0_shift_79 rfl (lv_at hl 0 rfl) ?_
    refine r_getX F hW 0 6 rfl (by decide) rfl q32 hf6 dX0_shift_80 ?_
    refine lv_iconst (v := nI 2) hx hb dX0_shift_83 (by decide) ?_
    refine lv_iload_n hx hb dX0_shift_84 rfl (lv_at hl 1 rfl) ?_
    refine n_mul hx hb dX0_shift_85 ?_
    refine lv_iconst (v := nI 1) hx hb dX0_shift_86 (by decide) ?_
    refine n_add hx hb dX0_shift_87 ?_
    refine lv_lload hx hb dX0_shift_88 (lv_at hl 4 rfl) ?_
    refine r_last (w' := [(o, obj 0 fs), (aR, arL cL 8 (st2 r x y f))]) F hW 1 rfl ((2 * r) + 1) (by omega) (by decide) (st2 r x y f) rfl rfl dX0_shift_90 (fun H locs hW => ?_)
    exact r_vret F hW dX0_shift_91
  have t37 : ∀ (z : Int64 × Int64) (ls : Array Slot), lv_has ls 9 [(0, .ref o), (1, .int (nI r)), (2, .int (nI k)), (3, .long z.1), (5, .long z.2)] → W p l e (rm_ 0 0) s m ([.ref o, .int (nI r), .int (nI k)] : List Value).toArray below meth c s.heap [] 0 0 (MQ below (QV G (tys_ cI cB cL) [(o, obj 0 fs), (aR, arL cL 8 (st2 r (sw1 k z).1 (sw1 k z).2 f))] A) ([.ref o, .int (nI r), .int (nI k)] : List Value).toArray s 0 0 A) (F0 m 37 ls []) := by
    intro z ls hl
    refine lv_iload_n hx hb dX0_shift_37 rfl (lv_at hl 2 rfl) ?_
    refine lv_iconst (v := nI 1) hx hb dX0_shift_38 (by decide) ?_
    refine lv_iand hx hb dX0_shift_39 ?_
    refine lv_if_eq (tgt := 70) hx hb dX0_shift_40 (by decide) (fun hz => ?_) (fun hz => ?_)
    · rw [show sw1 k z = z from if_pos hz]
      exact t70 z.1 z.2 ls hl
    · rw [show sw1 k z = (hlL z.1 z.2, hlL z.2 z.1) from if_neg hz]
      refine lv_lload_n hx hb dX0_shift_43 rfl (lv_at hl 3 rfl) ?_
      refine lv_bipush (v := nI 32) hx hb dX0_shift_44 (by decide) ?_
      refine lv_lushr (v := ushL z.1 32) hx hb dX0_shift_46 rfl ?_
      refine lv_lload hx hb dX0_shift_47 (lv_at hl 4 rfl) ?_
      refine lv_bipush (v := nI 32) hx hb dX0_shift_49 (by decide) ?_
      refine lv_lshl hx hb dX0_shift_51 rfl ?_
      refine lv_lor hx hb dX0_shift_52 ?_
      refine lv_lstore (lv' := [(7, .long ((ushL z.1 32) ||| (z.2 <<< ((nI 32).toInt64 &&& 63)))), (0, .ref o), (1, .int (nI r)), (2, .int (nI k)), (3, .long z.1), (5, .long z.2)]) hx hb dX0_shift_53 hl (by decide) rfl (fun ls hl => ?_)
      refine lv_lload hx hb dX0_shift_55 (lv_at hl 5 rfl) ?_
      refine lv_bipush (v := nI 32) hx hb dX0_shift_57 (by decide) ?_
      refine lv_lushr (v := ushL z.2 32) hx hb dX0_shift_59 rfl ?_
      refine lv_lload_n hx hb dX0_shift_60 rfl (lv_at hl 4 rfl) ?_
      refine lv_bipush (v := nI 32) hx hb dX0_shift_61 (by decide) ?_
      refine lv_lshl hx hb dX0_shift_63 rfl ?_
      refine lv_lor hx hb dX0_shift_64 ?_
      refine lv_lstore (lv' := [(5, .long ((ushL z.2 32) ||| (z.1 <<< ((nI 32).toInt64 &&& 63)))), (7, .long ((ushL z.1 32) ||| (z.2 <<< ((nI 32).toInt64 &&& 63)))), (0, .ref o), (1, .int (nI r)), (2, .int (nI k)), (3, .long z.1)]) hx hb dX0_shift_65 hl (by decide) rfl (fun ls hl => ?_)
      refine lv_lload hx hb dX0_shift_67 (lv_at hl 1 rfl) ?_
      refine lv_lstore_n (lv' := [(3, .long ((ushL z.1 32) ||| (z.2 <<< ((nI 32).toInt64 &&& 63)))), (5, .long ((ushL z.2 32) ||| (z.1 <<< ((nI 32).toInt64 &&& 63)))), (7, .long ((ushL z.1 32) ||| (z.2 <<< ((nI 32).toInt64 &&& 63)))), (0, .ref o), (1, .int (nI r)), (2, .int (nI k))]) hx hb dX0_shift_69 rfl hl (by decide) rfl (fun ls hl => ?_)
      exact t70 (hlL z.1 z.2) (hlL z.2 z.1) ls (lv_sub hl [3, 4, 5, 0, 1] rfl)
  refine lv_iload_n hx hb dX0_shift_21 rfl (lv_at hl 4 rfl) ?_
  refine lv_iconst (v := nI 2) hx hb dX0_shift_22 (by decide) ?_
  refine lv_iand hx hb dX0_shift_23 ?_
  refine lv_if_eq (tgt := 37) hx hb dX0_shift_24 (by decide) (fun hz => ?_) (fun hz => ?_)
  · have e2 : sw2 k (f (2 * r), f (2 * r + 1)) = (f (2 * r), f (2 * r + 1)) := if_pos hz
    have h := t37 (f (2 * r), f (2 * r + 1)) ls (lv_sub hl [2, 3, 4, 1, 0] rfl)
    rw [← e2] at h
    exact h
  · have e2 : sw2 k (f (2 * r), f (2 * r + 1)) = (f (2 * r + 1), f (2 * r)) := if_neg hz
    refine lv_lload_n hx hb dX0_shift_27 rfl (lv_at hl 1 rfl) ?_
    refine lv_lstore (lv' := [(7, .long (f (2 * r))), (5, .long (f ((2 * r) + 1))), (3, .long (f (2 * r))), (0, .ref o), (1, .int (nI r)), (2, .int (nI k))]) hx hb dX0_shift_28 hl (by decide) rfl (fun ls hl => ?_)
    refine lv_lload hx hb dX0_shift_30 (lv_at hl 1 rfl) ?_
    refine lv_lstore_n (lv' := [(3, .long (f ((2 * r) + 1))), (7, .long (f (2 * r))), (5, .long (f ((2 * r) + 1))), (0, .ref o), (1, .int (nI r)), (2, .int (nI k))]) hx hb dX0_shift_32 rfl hl (by decide) rfl (fun ls hl => ?_)
    refine lv_lload hx hb dX0_shift_33 (lv_at hl 1 rfl) ?_
    refine lv_lstore (lv' := [(5, .long (f (2 * r))), (3, .long (f ((2 * r) + 1))), (7, .long (f (2 * r))), (0, .ref o), (1, .int (nI r)), (2, .int (nI k))]) hx hb dX0_shift_35 hl (by decide) rfl (fun ls hl => ?_)
    have h := t37 (f (2 * r + 1), f (2 * r)) ls (lv_sub hl [3, 4, 5, 1, 0] rfl)
    rw [← e2] at h
    exact h
end
section
set_option maxRecDepth 100000
set_option maxHeartbeats 4000000 in
theorem ct_X0_change (l : Launch) (G : va_G) (cI cB cL : ClassId) (o aR : Nat) (fs : List Value) (hf6 : fs[6]? = some (.ref aR)) (f : Nat → Int64) (r s_ : Nat) (hr4 : r < 4) (hs4 : s_ < 4) : CV l yX0_change (ws_ yX0_change cX0_change 6 none) (rm_ 0 0) G (tys_ cI cB cL) [.ref o, .int (nI r), .int (nI s_)] [(o, obj 0 fs), (aR, arL cL 8 f)] [(o, obj 0 fs), (aR, arL cL 8 (changeF r s_ f))] := by
  refine CV.of (by decide) (Nat.le_of_ble_eq_true rfl) ?_
  intro p e s m below meth c A ls F hW hl
  have F : Fx p m c cX0_change 6 s ([.ref o, .int (nI r), .int (nI s_)] : List Value).toArray RX0 meth none := F
  obtain ⟨⟨hx, hb, hml, hown, hts⟩, hr, hlocks⟩ := id F
  have hl : lv_has ls 6 [(0, .ref o), (1, .int (nI r)), (2, .int (nI s_))] := hl
  refine lv_iconst (v := nI 0) hx hb dX0_change_0 (by decide) ?_
  refine lv_istore_n (lv' := [(3, .int (nI 0)), (0, .ref o), (1, .int (nI r)), (2, .int (nI s_))]) hx hb dX0_change_1 rfl hl (by decide) rfl (fun ls hl => ?_)
  have loop : ∀ (nk k : Nat), k + nk = 2 → ∀ (H : Heap) (locs : List Loc) (ls : Array Slot), Wd G (tys_ cI cB cL) A s H locs [(o, obj 0 fs), (aR, arL cL 8 (it_ (changeK r s_) k f))] → lv_has ls 6 [(0, .ref o), (1, .int (nI r)), (2, .int (nI s_)), (3, .int (nI k))] → W p l e (rm_ 0 0) s m ([.ref o, .int (nI r), .int (nI s_)] : List Value).toArray below meth c H locs 0 0 (MQ below (QV G (tys_ cI cB cL) [(o, obj 0 fs), (aR, arL cL 8 (changeF r s_ f))] A) ([.ref o, .int (nI r), .int (nI s_)] : List Value).toArray s 0 0 A) (F0 m 2 ls []) := by
    intro nk
    induction nk with
    | zero =>
      intro k hk H locs ls hW hl
      obtain rfl : k = 2 := by omega
      refine lv_iload_n hx hb dX0_change_2 rfl (lv_at hl 3 rfl) ?_
      refine lv_iconst (v := nI 2) hx hb dX0_change_3 (by decide) ?_
      refine n_ge_t (tgt := 57) hx hb (by omega) (by omega) dX0_change_4 (by decide) ?_
      exact r_vret F hW dX0_change_57
    | succ nk ihk =>
      intro k hk H locs ls hW hl
      have hkN : k < 2 := by omega
      refine lv_iload_n hx hb dX0_change_2 rfl (lv_at hl 3 rfl) ?_
      refine lv_iconst (v := nI 2) hx hb dX0_change_3 (by decide) ?_
      refine n_ge_f (tgt := 57) hx hb (by omega) (by omega) dX0_change_4 (by decide) ?_
      refine lv_aload_n hx hb dX0_change_7 rfl (lv_at hl 0 rfl) ?_
      refine r_getX F hW 0 6 rfl (by decide) rfl q32 hf6 dX0_change_8 ?_
      refine lv_iconst (v := nI 2) hx hb dX0_change_11 (by decide) ?_
      refine lv_iload_n hx hb dX0_change_12 rfl (lv_at hl 1 rfl) ?_
      refine n_mul hx hb dX0_change_13 ?_
      refine lv_iload_n hx hb dX0_change_14 rfl (lv_at hl 3 rfl) ?_
      refine n_add hx hb dX0_change_15 ?_
      refine r_lald F hW 1 rfl ((2 * r) + k) (by omega) (by decide) dX0_change_16 ?_
      refine lv_lstore (lv' := [(4, .long ((it_ (changeK r s_) k f) ((2 * r) + k))), (0, .ref o), (1, .int (nI r)), (2, .int (nI s_)), (3, .int (nI k))]) hx hb dX0_change_17 hl (by decide) rfl (fun ls hl => ?_)
      refine lv_aload_n hx hb dX0_change_19 rfl (lv_at hl 1 rfl) ?_
      refine r_getX F hW 0 6 rfl (by decide) rfl q32 hf6 dX0_change_20 ?_
      refine lv_iconst (v := nI 2) hx hb dX0_change_23 (by decide) ?_
      refine lv_iload_n hx hb dX0_change_24 rfl (lv_at hl 2 rfl) ?_
      refine n_mul hx hb dX0_change_25 ?_
      refine lv_iload_n hx hb dX0_change_26 rfl (lv_at hl 4 rfl) ?_
      refine n_add hx hb dX0_change_27 ?_
      refine lv_aload_n hx hb dX0_change_28 rfl (lv_at hl 1 rfl) ?_
      refine r_getX F hW 0 6 rfl (by decide) rfl q32 hf6 dX0_change_29 ?_
      refine lv_iconst (v := nI 2) hx hb dX0_change_32 (by decide) ?_
      refine lv_iload_n hx hb dX0_change_33 rfl (lv_at hl 3 rfl) ?_
      refine n_mul hx hb dX0_change_34 ?_
      refine lv_iload_n hx hb dX0_change_35 rfl (lv_at hl 4 rfl) ?_
      refine n_add hx hb dX0_change_36 ?_
      refine r_lald F hW 1 rfl ((2 * s_) + k) (by omega) (by decide) dX0_change_37 ?_
      refine r_last (w' := [(o, obj 0 fs), (aR, arL cL 8 (vp_updL (it_ (changeK r s_) k f) ((2 * r) + k) ((it_ (changeK r s_) k f) ((2 * s_) + k))))]) F hW 1 rfl ((2 * r) + k) (by omega) (by decide) (vp_updL (it_ (changeK r s_) k f) ((2 * r) + k) ((it_ (changeK r s_) k f) ((2 * s_) + k))) rfl rfl dX0_change_38 (fun H locs hW => ?_)
      refine lv_aload_n hx hb dX0_change_39 rfl (lv_at hl 1 rfl) ?_
      refine r_getX F hW 0 6 rfl (by decide) rfl q32 hf6 dX0_change_40 ?_
      refine lv_iconst (v := nI 2) hx hb dX0_change_43 (by decide) ?_
      refine lv_iload_n hx hb dX0_change_44 rfl (lv_at hl 3 rfl) ?_
      refine n_mul hx hb dX0_change_45 ?_
      refine lv_iload_n hx hb dX0_change_46 rfl (lv_at hl 4 rfl) ?_
      refine n_add hx hb dX0_change_47 ?_
      refine lv_lload hx hb dX0_change_48 (lv_at hl 0 rfl) ?_
      refine r_last (w' := [(o, obj 0 fs), (aR, arL cL 8 (changeK r s_ k (it_ (changeK r s_) k f)))]) F hW 1 rfl ((2 * s_) + k) (by omega) (by decide) (changeK r s_ k (it_ (changeK r s_) k f)) rfl rfl dX0_change_50 (fun H locs hW => ?_)
      refine n_iinc (lv' := [(3, .int (nI (k + 1))), (4, .long ((it_ (changeK r s_) k f) ((2 * r) + k))), (0, .ref o), (1, .int (nI r)), (2, .int (nI s_))]) (k := 4) (d := 1) hx hb dX0_change_51 hl rfl (by decide) (by decide) rfl (fun ls hl => ?_)
      refine lv_goto (tgt := 2) hx hb dX0_change_54 (by decide) ?_
      exact ihk (k + 1) (by omega) H locs ls (hW.eq (by rw [it_s (changeK r s_) k f])) (lv_sub hl [2, 3, 4, 0] rfl)
  exact loop 2 0 (by omega) _ _ _ (hW.eq (by rw [it_0 (changeK r s_) f])) (lv_sub hl [1, 2, 3, 0] rfl)
set_option maxHeartbeats 4000000 in
theorem ct_X0_cross (l : Launch) (G : va_G) (cI cB cL : ClassId) (o aR : Nat) (fs : List Value) (hf6 : fs[6]? = some (.ref aR)) (f : Nat → Int64) (r s_ t b : Nat) (hr4 : r < 4) (hs4 : s_ < 4) (ht4 : t < 4) (hb32 : b ≤ 32) : CV l yX0_cross (ws_ yX0_cross cX0_cross 6 none) (rm_ 1 24) G (tys_ cI cB cL) [.ref o, .int (nI r), .int (nI s_), .int (nI t), .int (nI b)] [(o, obj 0 fs), (aR, arL cL 8 f)] [(o, obj 0 fs), (aR, arL cL 8 (crossF r s_ t b f))] := by
  refine CV.of (by decide) (Nat.le_of_ble_eq_true rfl) ?_
  intro p e s m below meth c A ls F hW hl
  have F : Fx p m c cX0_cross 6 s ([.ref o, .int (nI r), .int (nI s_), .int (nI t), .int (nI b)] : List Value).toArray RX0 meth none := F
  obtain ⟨⟨hx, hb, hml, hown, hts⟩, hr, hlocks⟩ := id F
  have hl : lv_has ls 6 [(0, .ref o), (1, .int (nI r)), (2, .int (nI s_)), (3, .int (nI t)), (4, .int (nI b))] := hl
  refine lv_iconst (v := nI 0) hx hb dX0_cross_0 (by decide) ?_
  refine lv_istore (lv' := [(5, .int (nI 0)), (0, .ref o), (1, .int (nI r)), (2, .int (nI s_)), (3, .int (nI t)), (4, .int (nI b))]) hx hb dX0_cross_1 hl (by decide) rfl (fun ls hl => ?_)
  have loop : ∀ (nk k : Nat), k + nk = 2 → ∀ (H : Heap) (locs : List Loc) (ls : Array Slot), Wd G (tys_ cI cB cL) A s H locs [(o, obj 0 fs), (aR, arL cL 8 (it_ (crossK r s_ t b) k f))] → lv_has ls 6 [(0, .ref o), (1, .int (nI r)), (2, .int (nI s_)), (3, .int (nI t)), (4, .int (nI b)), (5, .int (nI k))] → W p l e (rm_ 1 24) s m ([.ref o, .int (nI r), .int (nI s_), .int (nI t), .int (nI b)] : List Value).toArray below meth c H locs 0 0 (MQ below (QV G (tys_ cI cB cL) [(o, obj 0 fs), (aR, arL cL 8 (crossF r s_ t b f))] A) ([.ref o, .int (nI r), .int (nI s_), .int (nI t), .int (nI b)] : List Value).toArray s 0 0 A) (F0 m 3 ls []) := by
    intro nk
    induction nk with
    | zero =>
      intro k hk H locs ls hW hl
      obtain rfl : k = 2 := by omega
      refine lv_iload hx hb dX0_cross_3 (lv_at hl 5 rfl) ?_
      refine lv_iconst (v := nI 2) hx hb dX0_cross_5 (by decide) ?_
      refine n_ge_t (tgt := 59) hx hb (by omega) (by omega) dX0_cross_6 (by decide) ?_
      exact r_vret F hW dX0_cross_59
    | succ nk ihk =>
      intro k hk H locs ls hW hl
      have hkN : k < 2 := by omega
      refine lv_iload hx hb dX0_cross_3 (lv_at hl 5 rfl) ?_
      refine lv_iconst (v := nI 2) hx hb dX0_cross_5 (by decide) ?_
      refine n_ge_f (tgt := 59) hx hb (by omega) (by omega) dX0_cross_6 (by decide) ?_
      refine lv_aload_n hx hb dX0_cross_9 rfl (lv_at hl 0 rfl) ?_
      refine r_getX F hW 0 6 rfl (by decide) rfl q32 hf6 dX0_cross_10 ?_
      refine lv_iconst (v := nI 2) hx hb dX0_cross_13 (by decide) ?_
      refine lv_iload_n hx hb dX0_cross_14 rfl (lv_at hl 1 rfl) ?_
      refine n_mul hx hb dX0_cross_15 ?_
      refine lv_iload hx hb dX0_cross_16 (lv_at hl 5 rfl) ?_
      refine n_add hx hb dX0_cross_18 ?_
      refine lv_dup2_11 hx hb dX0_cross_19 rfl rfl ?_
      refine r_lald F hW 1 rfl ((2 * r) + k) (by omega) (by decide) dX0_cross_20 ?_
      refine lv_aload_n hx hb dX0_cross_21 rfl (lv_at hl 0 rfl) ?_
      refine r_getX F hW 0 6 rfl (by decide) rfl q32 hf6 dX0_cross_22 ?_
      refine lv_iconst (v := nI 2) hx hb dX0_cross_25 (by decide) ?_
      refine lv_iload_n hx hb dX0_cross_26 rfl (lv_at hl 2 rfl) ?_
      refine n_mul hx hb dX0_cross_27 ?_
      refine lv_iload hx hb dX0_cross_28 (lv_at hl 5 rfl) ?_
      refine n_add hx hb dX0_cross_30 ?_
      refine r_lald F hW 1 rfl ((2 * s_) + k) (by omega) (by decide) dX0_cross_31 ?_
      refine lv_aload_n hx hb dX0_cross_32 rfl (lv_at hl 0 rfl) ?_
      refine r_getX F hW 0 6 rfl (by decide) rfl q32 hf6 dX0_cross_33 ?_
      refine lv_iconst (v := nI 2) hx hb dX0_cross_36 (by decide) ?_
      refine lv_iload_n hx hb dX0_cross_37 rfl (lv_at hl 3 rfl) ?_
      refine n_mul hx hb dX0_cross_38 ?_
      refine lv_iload hx hb dX0_cross_39 (lv_at hl 5 rfl) ?_
      refine n_add hx hb dX0_cross_41 ?_
      refine r_lald F hW 1 rfl ((2 * t) + k) (by omega) (by decide) dX0_cross_42 ?_
      refine k_SL (rest := [.long ((it_ (crossK r s_ t b) k f) ((2 * r) + k)), .int (nI ((2 * r) + k)), .ref aR]) F hW (ct_X0_plus l G cI cB cL ((it_ (crossK r s_ t b) k f) ((2 * s_) + k)) ((it_ (crossK r s_ t b) k f) ((2 * t) + k))) [0, 1] rfl rfl g_X0_plus ⟨rfl, rfl⟩ hd_X0_plus ⟨Nat.le_of_ble_eq_true rfl, Nat.le_of_ble_eq_true rfl⟩ rfl hl.1 rfl (Nat.le_of_ble_eq_true rfl) dX0_cross_43 ⟨Nat.zero_le _, Nat.zero_le _⟩ (fun H locs hW => ?_)
      refine lv_iload hx hb dX0_cross_46 (lv_at hl 4 rfl) ?_
      refine k_SL (rest := [.long ((it_ (crossK r s_ t b) k f) ((2 * r) + k)), .int (nI ((2 * r) + k)), .ref aR]) F hW (ct_X0_turned l G cI cB cL (plusL ((it_ (crossK r s_ t b) k f) ((2 * s_) + k)) ((it_ (crossK r s_ t b) k f) ((2 * t) + k))) b (by omega)) [0, 1] rfl rfl g_X0_turned ⟨rfl, rfl⟩ hd_X0_turned ⟨Nat.le_of_ble_eq_true rfl, Nat.le_of_ble_eq_true rfl⟩ rfl hl.1 rfl (Nat.le_of_ble_eq_true rfl) dX0_cross_48 ⟨Nat.zero_le _, Nat.zero_le _⟩ (fun H locs hW => ?_)
      refine lv_lxor hx hb dX0_cross_51 ?_
      refine r_last (w' := [(o, obj 0 fs), (aR, arL cL 8 (crossK r s_ t b k (it_ (crossK r s_ t b) k f)))]) F hW 1 rfl ((2 * r) + k) (by omega) (by decide) (crossK r s_ t b k (it_ (crossK r s_ t b) k f)) rfl rfl dX0_cross_52 (fun H locs hW => ?_)
      refine n_iinc (lv' := [(5, .int (nI (k + 1))), (0, .ref o), (1, .int (nI r)), (2, .int (nI s_)), (3, .int (nI t)), (4, .int (nI b))]) (k := 5) (d := 1) hx hb dX0_cross_53 hl rfl (by decide) (by decide) rfl (fun ls hl => ?_)
      refine lv_goto (tgt := 3) hx hb dX0_cross_56 (by decide) ?_
      exact ihk (k + 1) (by omega) H locs ls (hW.eq (by rw [it_s (crossK r s_ t b) k f])) (lv_sub hl [1, 2, 3, 4, 5, 0] rfl)
  exact loop 2 0 (by omega) _ _ _ (hW.eq (by rw [it_0 (crossK r s_ t b) f])) (lv_sub hl [1, 2, 3, 4, 5, 0] rfl)
set_option maxHeartbeats 4000000 in
theorem ct_X0_crossAll (l : Launch) (G : va_G) (cI cB cL : ClassId) (o aR : Nat) (fs : List Value) (hf6 : fs[6]? = some (.ref aR)) (f : Nat → Int64) : CV l yX0_crossAll (ws_ yX0_crossAll cX0_crossAll 1 none) (rm_ 2 49) G (tys_ cI cB cL) [.ref o] [(o, obj 0 fs), (aR, arL cL 8 f)] [(o, obj 0 fs), (aR, arL cL 8 (crossAllF f))] := by
  refine CV.of (by decide) (Nat.le_of_ble_eq_true rfl) ?_
  intro p e s m below meth c A ls F hW hl
  have F : Fx p m c cX0_crossAll 1 s ([.ref o] : List Value).toArray RX0 meth none := F
  obtain ⟨⟨hx, hb, hml, hown, hts⟩, hr, hlocks⟩ := id F
  have hl : lv_has ls 1 [(0, .ref o)] := hl
  refine lv_aload_n hx hb dX0_crossAll_0 rfl (lv_at hl 0 rfl) ?_
  refine lv_iconst (v := nI 1) hx hb dX0_crossAll_1 (by decide) ?_
  refine lv_iconst (v := nI 0) hx hb dX0_crossAll_2 (by decide) ?_
  refine lv_iconst (v := nI 3) hx hb dX0_crossAll_3 (by decide) ?_
  refine lv_bipush (v := nI 7) hx hb dX0_crossAll_4 (by decide) ?_
  refine k_V (rest := []) (wr := []) (w' := [(o, obj 0 fs), (aR, arL cL 8 (crossF 1 0 3 7 f))]) (q0 := 0) (ci := 0) F hW (ct_X0_cross l G cI cB cL o aR fs hf6 f 1 0 3 7 (by omega) (by omega) (by omega) (by omega)) [0, 1] [] [0, 1] rfl rfl rfl rfl (by decide) rfl rfl rfl rfl g_X0_cross ⟨rfl, rfl⟩ hd_X0_cross ⟨Nat.le_of_ble_eq_true rfl, Nat.le_of_ble_eq_true rfl⟩ rfl hl.1 rfl (Nat.le_of_ble_eq_true rfl) dX0_crossAll_6 ⟨Nat.zero_le _, Nat.zero_le _⟩ (fun H locs hW => ?_)
  refine lv_aload_n hx hb dX0_crossAll_9 rfl (lv_at hl 0 rfl) ?_
  refine lv_iconst (v := nI 2) hx hb dX0_crossAll_10 (by decide) ?_
  refine lv_iconst (v := nI 1) hx hb dX0_crossAll_11 (by decide) ?_
  refine lv_iconst (v := nI 0) hx hb dX0_crossAll_12 (by decide) ?_
  refine lv_bipush (v := nI 9) hx hb dX0_crossAll_13 (by decide) ?_
  refine k_V (rest := []) (wr := []) (w' := [(o, obj 0 fs), (aR, arL cL 8 (crossF 2 1 0 9 (crossF 1 0 3 7 f)))]) (q0 := 0) (ci := 0) F hW (ct_X0_cross l G cI cB cL o aR fs hf6 (crossF 1 0 3 7 f) 2 1 0 9 (by omega) (by omega) (by omega) (by omega)) [0, 1] [] [0, 1] rfl rfl rfl rfl (by decide) rfl rfl rfl rfl g_X0_cross ⟨rfl, rfl⟩ hd_X0_cross ⟨Nat.le_of_ble_eq_true rfl, Nat.le_of_ble_eq_true rfl⟩ rfl hl.1 rfl (Nat.le_of_ble_eq_true rfl) dX0_crossAll_15 ⟨Nat.zero_le _, Nat.zero_le _⟩ (fun H locs hW => ?_)
  refine lv_aload_n hx hb dX0_crossAll_18 rfl (lv_at hl 0 rfl) ?_
  refine lv_iconst (v := nI 3) hx hb dX0_crossAll_19 (by decide) ?_
  refine lv_iconst (v := nI 2) hx hb dX0_crossAll_20 (by decide) ?_
  refine lv_iconst (v := nI 1) hx hb dX0_crossAll_21 (by decide) ?_
  refine lv_bipush (v := nI 13) hx hb dX0_crossAll_22 (by decide) ?_
  refine k_V (rest := []) (wr := []) (w' := [(o, obj 0 fs), (aR, arL cL 8 (crossF 3 2 1 13 (crossF 2 1 0 9 (crossF 1 0 3 7 f))))]) (q0 := 0) (ci := 0) F hW (ct_X0_cross l G cI cB cL o aR fs hf6 (crossF 2 1 0 9 (crossF 1 0 3 7 f)) 3 2 1 13 (by omega) (by omega) (by omega) (by omega)) [0, 1] [] [0, 1] rfl rfl rfl rfl (by decide) rfl rfl rfl rfl g_X0_cross ⟨rfl, rfl⟩ hd_X0_cross ⟨Nat.le_of_ble_eq_true rfl, Nat.le_of_ble_eq_true rfl⟩ rfl hl.1 rfl (Nat.le_of_ble_eq_true rfl) dX0_crossAll_24 ⟨Nat.zero_le _, Nat.zero_le _⟩ (fun H locs hW => ?_)
  refine lv_aload_n hx hb dX0_crossAll_27 rfl (lv_at hl 0 rfl) ?_
  refine lv_iconst (v := nI 0) hx hb dX0_crossAll_28 (by decide) ?_
  refine lv_iconst (v := nI 3) hx hb dX0_crossAll_29 (by decide) ?_
  refine lv_iconst (v := nI 2) hx hb dX0_crossAll_30 (by decide) ?_
  refine lv_bipush (v := nI 18) hx hb dX0_crossAll_31 (by decide) ?_
  refine k_V (rest := []) (wr := []) (w' := [(o, obj 0 fs), (aR, arL cL 8 (crossF 0 3 2 18 (crossF 3 2 1 13 (crossF 2 1 0 9 (crossF 1 0 3 7 f)))))]) (q0 := 0) (ci := 0) F hW (ct_X0_cross l G cI cB cL o aR fs hf6 (crossF 3 2 1 13 (crossF 2 1 0 9 (crossF 1 0 3 7 f))) 0 3 2 18 (by omega) (by omega) (by omega) (by omega)) [0, 1] [] [0, 1] rfl rfl rfl rfl (by decide) rfl rfl rfl rfl g_X0_cross ⟨rfl, rfl⟩ hd_X0_cross ⟨Nat.le_of_ble_eq_true rfl, Nat.le_of_ble_eq_true rfl⟩ rfl hl.1 rfl (Nat.le_of_ble_eq_true rfl) dX0_crossAll_33 ⟨Nat.zero_le _, Nat.zero_le _⟩ (fun H locs hW => ?_)
  exact r_vret F hW dX0_crossAll_36
set_option maxHeartbeats 4000000 in
theorem ct_X0_quarter (l : Launch) (G : va_G) (cI cB cL : ClassId) (o aR : Nat) (fs : List Value) (hf6 : fs[6]? = some (.ref aR)) (f : Nat → Int64) (r s_ t b : Nat) (hr4 : r < 4) (hs4 : s_ < 4) (ht4 : t < 4) (hb32 : b ≤ 32) : CV l yX0_quarter (ws_ yX0_quarter cX0_quarter 6 none) (rm_ 1 24) G (tys_ cI cB cL) [.ref o, .int (nI r), .int (nI s_), .int (nI t), .int (nI b)] [(o, obj 0 fs), (aR, arL cL 8 f)] [(o, obj 0 fs), (aR, arL cL 8 (quarterF r s_ t b f))] := by
  refine CV.of (by decide) (Nat.le_of_ble_eq_true rfl) ?_
  intro p e s m below meth c A ls F hW hl
  have F : Fx p m c cX0_quarter 6 s ([.ref o, .int (nI r), .int (nI s_), .int (nI t), .int (nI b)] : List Value).toArray RX0 meth none := F
  obtain ⟨⟨hx, hb, hml, hown, hts⟩, hr, hlocks⟩ := id F
  have hl : lv_has ls 6 [(0, .ref o), (1, .int (nI r)), (2, .int (nI s_)), (3, .int (nI t)), (4, .int (nI b))] := hl
  refine lv_iconst (v := nI 0) hx hb dX0_quarter_0 (by decide) ?_
  refine lv_istore (lv' := [(5, .int (nI 0)), (0, .ref o), (1, .int (nI r)), (2, .int (nI s_)), (3, .int (nI t)), (4, .int (nI b))]) hx hb dX0_quarter_1 hl (by decide) rfl (fun ls hl => ?_)
  have loop : ∀ (nk k : Nat), k + nk = 2 → ∀ (H : Heap) (locs : List Loc) (ls : Array Slot), Wd G (tys_ cI cB cL) A s H locs [(o, obj 0 fs), (aR, arL cL 8 (it_ (quK r s_ t b) k f))] → lv_has ls 6 [(0, .ref o), (1, .int (nI r)), (2, .int (nI s_)), (3, .int (nI t)), (4, .int (nI b)), (5, .int (nI k))] → W p l e (rm_ 1 24) s m ([.ref o, .int (nI r), .int (nI s_), .int (nI t), .int (nI b)] : List Value).toArray below meth c H locs 0 0 (MQ below (QV G (tys_ cI cB cL) [(o, obj 0 fs), (aR, arL cL 8 (quarterF r s_ t b f))] A) ([.ref o, .int (nI r), .int (nI s_), .int (nI t), .int (nI b)] : List Value).toArray s 0 0 A) (F0 m 3 ls []) := by
    intro nk
    induction nk with
    | zero =>
      intro k hk H locs ls hW hl
      obtain rfl : k = 2 := by omega
      refine lv_iload hx hb dX0_quarter_3 (lv_at hl 5 rfl) ?_
      refine lv_iconst (v := nI 2) hx hb dX0_quarter_5 (by decide) ?_
      refine n_ge_t (tgt := 90) hx hb (by omega) (by omega) dX0_quarter_6 (by decide) ?_
      exact r_vret F hW dX0_quarter_90
    | succ nk ihk =>
      intro k hk H locs ls hW hl
      have hkN : k < 2 := by omega
      refine lv_iload hx hb dX0_quarter_3 (lv_at hl 5 rfl) ?_
      refine lv_iconst (v := nI 2) hx hb dX0_quarter_5 (by decide) ?_
      refine n_ge_f (tgt := 90) hx hb (by omega) (by omega) dX0_quarter_6 (by decide) ?_
      refine lv_aload_n hx hb dX0_quarter_9 rfl (lv_at hl 0 rfl) ?_
      refine r_getX F hW 0 6 rfl (by decide) rfl q32 hf6 dX0_quarter_10 ?_
      refine lv_iconst (v := nI 2) hx hb dX0_quarter_13 (by decide) ?_
      refine lv_iload_n hx hb dX0_quarter_14 rfl (lv_at hl 1 rfl) ?_
      refine n_mul hx hb dX0_quarter_15 ?_
      refine lv_iload hx hb dX0_quarter_16 (lv_at hl 5 rfl) ?_
      refine n_add hx hb dX0_quarter_18 ?_
      refine lv_aload_n hx hb dX0_quarter_19 rfl (lv_at hl 0 rfl) ?_
      refine r_getX F hW 0 6 rfl (by decide) rfl q32 hf6 dX0_quarter_20 ?_
      refine lv_iconst (v := nI 2) hx hb dX0_quarter_23 (by decide) ?_
      refine lv_iload_n hx hb dX0_quarter_24 rfl (lv_at hl 1 rfl) ?_
      refine n_mul hx hb dX0_quarter_25 ?_
      refine lv_iload hx hb dX0_quarter_26 (lv_at hl 5 rfl) ?_
      refine n_add hx hb dX0_quarter_28 ?_
      refine r_lald F hW 1 rfl ((2 * r) + k) (by omega) (by decide) dX0_quarter_29 ?_
      refine lv_aload_n hx hb dX0_quarter_30 rfl (lv_at hl 0 rfl) ?_
      refine r_getX F hW 0 6 rfl (by decide) rfl q32 hf6 dX0_quarter_31 ?_
      refine lv_iconst (v := nI 2) hx hb dX0_quarter_34 (by decide) ?_
      refine lv_iload_n hx hb dX0_quarter_35 rfl (lv_at hl 2 rfl) ?_
      refine n_mul hx hb dX0_quarter_36 ?_
      refine lv_iload hx hb dX0_quarter_37 (lv_at hl 5 rfl) ?_
      refine n_add hx hb dX0_quarter_39 ?_
      refine r_lald F hW 1 rfl ((2 * s_) + k) (by omega) (by decide) dX0_quarter_40 ?_
      refine k_SL (rest := [.int (nI ((2 * r) + k)), .ref aR]) F hW (ct_X0_plus l G cI cB cL ((it_ (quK r s_ t b) k f) ((2 * r) + k)) ((it_ (quK r s_ t b) k f) ((2 * s_) + k))) [0, 1] rfl rfl g_X0_plus ⟨rfl, rfl⟩ hd_X0_plus ⟨Nat.le_of_ble_eq_true rfl, Nat.le_of_ble_eq_true rfl⟩ rfl hl.1 rfl (Nat.le_of_ble_eq_true rfl) dX0_quarter_41 ⟨Nat.zero_le _, Nat.zero_le _⟩ (fun H locs hW => ?_)
      refine r_last (w' := [(o, obj 0 fs), (aR, arL cL 8 (quA r s_ k (it_ (quK r s_ t b) k f)))]) F hW 1 rfl ((2 * r) + k) (by omega) (by decide) (quA r s_ k (it_ (quK r s_ t b) k f)) rfl rfl dX0_quarter_44 (fun H locs hW => ?_)
      refine lv_aload_n hx hb dX0_quarter_45 rfl (lv_at hl 0 rfl) ?_
      refine r_getX F hW 0 6 rfl (by decide) rfl q32 hf6 dX0_quarter_46 ?_
      refine lv_iconst (v := nI 2) hx hb dX0_quarter_49 (by decide) ?_
      refine lv_iload_n hx hb dX0_quarter_50 rfl (lv_at hl 3 rfl) ?_
      refine n_mul hx hb dX0_quarter_51 ?_
      refine lv_iload hx hb dX0_quarter_52 (lv_at hl 5 rfl) ?_
      refine n_add hx hb dX0_quarter_54 ?_
      refine lv_aload_n hx hb dX0_quarter_55 rfl (lv_at hl 0 rfl) ?_
      refine r_getX F hW 0 6 rfl (by decide) rfl q32 hf6 dX0_quarter_56 ?_
      refine lv_iconst (v := nI 2) hx hb dX0_quarter_59 (by decide) ?_
      refine lv_iload_n hx hb dX0_quarter_60 rfl (lv_at hl 3 rfl) ?_
      refine n_mul hx hb dX0_quarter_61 ?_
      refine lv_iload hx hb dX0_quarter_62 (lv_at hl 5 rfl) ?_
      refine n_add hx hb dX0_quarter_64 ?_
      refine r_lald F hW 1 rfl ((2 * t) + k) (by omega) (by decide) dX0_quarter_65 ?_
      refine lv_aload_n hx hb dX0_quarter_66 rfl (lv_at hl 0 rfl) ?_
      refine r_getX F hW 0 6 rfl (by decide) rfl q32 hf6 dX0_quarter_67 ?_
      refine lv_iconst (v := nI 2) hx hb dX0_quarter_70 (by decide) ?_
      refine lv_iload_n hx hb dX0_quarter_71 rfl (lv_at hl 1 rfl) ?_
      refine n_mul hx hb dX0_quarter_72 ?_
      refine lv_iload hx hb dX0_quarter_73 (lv_at hl 5 rfl) ?_
      refine n_add hx hb dX0_quarter_75 ?_
      refine r_lald F hW 1 rfl ((2 * r) + k) (by omega) (by decide) dX0_quarter_76 ?_
      refine lv_lxor hx hb dX0_quarter_77 ?_
      refine lv_iload hx hb dX0_quarter_78 (lv_at hl 4 rfl) ?_
      refine k_SL (rest := [.int (nI ((2 * t) + k)), .ref aR]) F hW (ct_X0_turned l G cI cB cL (((quA r s_ k (it_ (quK r s_ t b) k f)) ((2 * t) + k)) ^^^ ((quA r s_ k (it_ (quK r s_ t b) k f)) ((2 * r) + k))) b (by omega)) [0, 1] rfl rfl g_X0_turned ⟨rfl, rfl⟩ hd_X0_turned ⟨Nat.le_of_ble_eq_true rfl, Nat.le_of_ble_eq_true rfl⟩ rfl hl.1 rfl (Nat.le_of_ble_eq_true rfl) dX0_quarter_80 ⟨Nat.zero_le _, Nat.zero_le _⟩ (fun H locs hW => ?_)
      refine r_last (w' := [(o, obj 0 fs), (aR, arL cL 8 (quK r s_ t b k (it_ (quK r s_ t b) k f)))]) F hW 1 rfl ((2 * t) + k) (by omega) (by decide) (quK r s_ t b k (it_ (quK r s_ t b) k f)) rfl rfl dX0_quarter_83 (fun H locs hW => ?_)
      refine n_iinc (lv' := [(5, .int (nI (k + 1))), (0, .ref o), (1, .int (nI r)), (2, .int (nI s_)), (3, .int (nI t)), (4, .int (nI b))]) (k := 5) (d := 1) hx hb dX0_quarter_84 hl rfl (by decide) (by decide) rfl (fun ls hl => ?_)
      refine lv_goto (tgt := 3) hx hb dX0_quarter_87 (by decide) ?_
      exact ihk (k + 1) (by omega) H locs ls (hW.eq (by rw [it_s (quK r s_ t b) k f])) (lv_sub hl [1, 2, 3, 4, 5, 0] rfl)
  exact loop 2 0 (by omega) _ _ _ (hW.eq (by rw [it_0 (quK r s_ t b) f])) (lv_sub hl [1, 2, 3, 4, 5, 0] rfl)
set_option maxHeartbeats 4000000 in
theorem ct_X0_quarterAll (l : Launch) (G : va_G) (cI cB cL : ClassId) (o aR : Nat) (fs : List Value) (hf6 : fs[6]? = some (.ref aR)) (f : Nat → Int64) : CV l yX0_quarterAll (ws_ yX0_quarterAll cX0_quarterAll 1 none) (rm_ 2 49) G (tys_ cI cB cL) [.ref o] [(o, obj 0 fs), (aR, arL cL 8 f)] [(o, obj 0 fs), (aR, arL cL 8 (quarterAllF f))] := by
  refine CV.of (by decide) (Nat.le_of_ble_eq_true rfl) ?_
  intro p e s m below meth c A ls F hW hl
  have F : Fx p m c cX0_quarterAll 1 s ([.ref o] : List Value).toArray RX0 meth none := F
  obtain ⟨⟨hx, hb, hml, hown, hts⟩, hr, hlocks⟩ := id F
  have hl : lv_has ls 1 [(0, .ref o)] := hl
  refine lv_aload_n hx hb dX0_quarterAll_0 rfl (lv_at hl 0 rfl) ?_
  refine lv_iconst (v := nI 0) hx hb dX0_quarterAll_1 (by decide) ?_
  refine lv_iconst (v := nI 1) hx hb dX0_quarterAll_2 (by decide) ?_
  refine lv_iconst (v := nI 3) hx hb dX0_quarterAll_3 (by decide) ?_
  refine lv_bipush (v := nI 16) hx hb dX0_quarterAll_4 (by decide) ?_
  refine k_V (rest := []) (wr := []) (w' := [(o, obj 0 fs), (aR, arL cL 8 (quarterF 0 1 3 16 f))]) (q0 := 0) (ci := 0) F hW (ct_X0_quarter l G cI cB cL o aR fs hf6 f 0 1 3 16 (by omega) (by omega) (by omega) (by omega)) [0, 1] [] [0, 1] rfl rfl rfl rfl (by decide) rfl rfl rfl rfl g_X0_quarter ⟨rfl, rfl⟩ hd_X0_quarter ⟨Nat.le_of_ble_eq_true rfl, Nat.le_of_ble_eq_true rfl⟩ rfl hl.1 rfl (Nat.le_of_ble_eq_true rfl) dX0_quarterAll_6 ⟨Nat.zero_le _, Nat.zero_le _⟩ (fun H locs hW => ?_)
  refine lv_aload_n hx hb dX0_quarterAll_9 rfl (lv_at hl 0 rfl) ?_
  refine lv_iconst (v := nI 2) hx hb dX0_quarterAll_10 (by decide) ?_
  refine lv_iconst (v := nI 3) hx hb dX0_quarterAll_11 (by decide) ?_
  refine lv_iconst (v := nI 1) hx hb dX0_quarterAll_12 (by decide) ?_
  refine lv_bipush (v := nI 12) hx hb dX0_quarterAll_13 (by decide) ?_
  refine k_V (rest := []) (wr := []) (w' := [(o, obj 0 fs), (aR, arL cL 8 (quarterF 2 3 1 12 (quarterF 0 1 3 16 f)))]) (q0 := 0) (ci := 0) F hW (ct_X0_quarter l G cI cB cL o aR fs hf6 (quarterF 0 1 3 16 f) 2 3 1 12 (by omega) (by omega) (by omega) (by omega)) [0, 1] [] [0, 1] rfl rfl rfl rfl (by decide) rfl rfl rfl rfl g_X0_quarter ⟨rfl, rfl⟩ hd_X0_quarter ⟨Nat.le_of_ble_eq_true rfl, Nat.le_of_ble_eq_true rfl⟩ rfl hl.1 rfl (Nat.le_of_ble_eq_true rfl) dX0_quarterAll_15 ⟨Nat.zero_le _, Nat.zero_le _⟩ (fun H locs hW => ?_)
  refine lv_aload_n hx hb dX0_quarterAll_18 rfl (lv_at hl 0 rfl) ?_
  refine lv_iconst (v := nI 0) hx hb dX0_quarterAll_19 (by decide) ?_
  refine lv_iconst (v := nI 1) hx hb dX0_quarterAll_20 (by decide) ?_
  refine lv_iconst (v := nI 3) hx hb dX0_quarterAll_21 (by decide) ?_
  refine lv_bipush (v := nI 8) hx hb dX0_quarterAll_22 (by decide) ?_
  refine k_V (rest := []) (wr := []) (w' := [(o, obj 0 fs), (aR, arL cL 8 (quarterF 0 1 3 8 (quarterF 2 3 1 12 (quarterF 0 1 3 16 f))))]) (q0 := 0) (ci := 0) F hW (ct_X0_quarter l G cI cB cL o aR fs hf6 (quarterF 2 3 1 12 (quarterF 0 1 3 16 f)) 0 1 3 8 (by omega) (by omega) (by omega) (by omega)) [0, 1] [] [0, 1] rfl rfl rfl rfl (by decide) rfl rfl rfl rfl g_X0_quarter ⟨rfl, rfl⟩ hd_X0_quarter ⟨Nat.le_of_ble_eq_true rfl, Nat.le_of_ble_eq_true rfl⟩ rfl hl.1 rfl (Nat.le_of_ble_eq_true rfl) dX0_quarterAll_24 ⟨Nat.zero_le _, Nat.zero_le _⟩ (fun H locs hW => ?_)
  refine lv_aload_n hx hb dX0_quarterAll_27 rfl (lv_at hl 0 rfl) ?_
  refine lv_iconst (v := nI 2) hx hb dX0_quarterAll_28 (by decide) ?_
  refine lv_iconst (v := nI 3) hx hb dX0_quarterAll_29 (by decide) ?_
  refine lv_iconst (v := nI 1) hx hb dX0_quarterAll_30 (by decide) ?_
  refine lv_bipush (v := nI 7) hx hb dX0_quarterAll_31 (by decide) ?_
  refine k_V (rest := []) (wr := []) (w' := [(o, obj 0 fs), (aR, arL cL 8 (quarterF 2 3 1 7 (quarterF 0 1 3 8 (quarterF 2 3 1 12 (quarterF 0 1 3 16 f)))))]) (q0 := 0) (ci := 0) F hW (ct_X0_quarter l G cI cB cL o aR fs hf6 (quarterF 0 1 3 8 (quarterF 2 3 1 12 (quarterF 0 1 3 16 f))) 2 3 1 7 (by omega) (by omega) (by omega) (by omega)) [0, 1] [] [0, 1] rfl rfl rfl rfl (by decide) rfl rfl rfl rfl g_X0_quarter ⟨rfl, rfl⟩ hd_X0_quarter ⟨Nat.le_of_ble_eq_true rfl, Nat.le_of_ble_eq_true rfl⟩ rfl hl.1 rfl (Nat.le_of_ble_eq_true rfl) dX0_quarterAll_33 ⟨Nat.zero_le _, Nat.zero_le _⟩ (fun H locs hW => ?_)
  exact r_vret F hW dX0_quarterAll_36
set_option maxHeartbeats 4000000 in
theorem ct_X0_acrossA (l : Launch) (G : va_G) (cI cB cL : ClassId) (o aR : Nat) (fs : List Value) (hf6 : fs[6]? = some (.ref aR)) (f : Nat → Int64) : CV l yX0_acrossA (ws_ yX0_acrossA cX0_acrossA 1 none) (rm_ 1 28) G (tys_ cI cB cL) [.ref o] [(o, obj 0 fs), (aR, arL cL 8 f)] [(o, obj 0 fs), (aR, arL cL 8 (acrossF f))] := by
  refine CV.of (by decide) (Nat.le_of_ble_eq_true rfl) ?_
  intro p e s m below meth c A ls F hW hl
  have F : Fx p m c cX0_acrossA 1 s ([.ref o] : List Value).toArray RX0 meth none := F
  obtain ⟨⟨hx, hb, hml, hown, hts⟩, hr, hlocks⟩ := id F
  have hl : lv_has ls 1 [(0, .ref o)] := hl
  refine lv_aload_n hx hb dX0_acrossA_0 rfl (lv_at hl 0 rfl) ?_
  refine lv_iconst (v := nI 1) hx hb dX0_acrossA_1 (by decide) ?_
  refine lv_iconst (v := nI 3) hx hb dX0_acrossA_2 (by decide) ?_
  refine k_V (rest := []) (wr := []) (w' := [(o, obj 0 fs), (aR, arL cL 8 (shiftF 1 3 f))]) (q0 := 0) (ci := 0) F hW (ct_X0_shift l G cI cB cL o aR fs hf6 f 1 3 (by omega)) [0, 1] [] [0, 1] rfl rfl rfl rfl (by decide) rfl rfl rfl rfl g_X0_shift ⟨rfl, rfl⟩ hd_X0_shift ⟨Nat.le_of_ble_eq_true rfl, Nat.le_of_ble_eq_true rfl⟩ rfl hl.1 rfl (Nat.le_of_ble_eq_true rfl) dX0_acrossA_3 ⟨Nat.zero_le _, Nat.zero_le _⟩ (fun H locs hW => ?_)
  refine lv_aload_n hx hb dX0_acrossA_6 rfl (lv_at hl 0 rfl) ?_
  refine lv_iconst (v := nI 2) hx hb dX0_acrossA_7 (by decide) ?_
  refine lv_iconst (v := nI 2) hx hb dX0_acrossA_8 (by decide) ?_
  refine k_V (rest := []) (wr := []) (w' := [(o, obj 0 fs), (aR, arL cL 8 (shiftF 2 2 (shiftF 1 3 f)))]) (q0 := 0) (ci := 0) F hW (ct_X0_shift l G cI cB cL o aR fs hf6 (shiftF 1 3 f) 2 2 (by omega)) [0, 1] [] [0, 1] rfl rfl rfl rfl (by decide) rfl rfl rfl rfl g_X0_shift ⟨rfl, rfl⟩ hd_X0_shift ⟨Nat.le_of_ble_eq_true rfl, Nat.le_of_ble_eq_true rfl⟩ rfl hl.1 rfl (Nat.le_of_ble_eq_true rfl) dX0_acrossA_9 ⟨Nat.zero_le _, Nat.zero_le _⟩ (fun H locs hW => ?_)
  refine lv_aload_n hx hb dX0_acrossA_12 rfl (lv_at hl 0 rfl) ?_
  refine lv_iconst (v := nI 3) hx hb dX0_acrossA_13 (by decide) ?_
  refine lv_iconst (v := nI 1) hx hb dX0_acrossA_14 (by decide) ?_
  refine k_V (rest := []) (wr := []) (w' := [(o, obj 0 fs), (aR, arL cL 8 (shiftF 3 1 (shiftF 2 2 (shiftF 1 3 f))))]) (q0 := 0) (ci := 0) F hW (ct_X0_shift l G cI cB cL o aR fs hf6 (shiftF 2 2 (shiftF 1 3 f)) 3 1 (by omega)) [0, 1] [] [0, 1] rfl rfl rfl rfl (by decide) rfl rfl rfl rfl g_X0_shift ⟨rfl, rfl⟩ hd_X0_shift ⟨Nat.le_of_ble_eq_true rfl, Nat.le_of_ble_eq_true rfl⟩ rfl hl.1 rfl (Nat.le_of_ble_eq_true rfl) dX0_acrossA_15 ⟨Nat.zero_le _, Nat.zero_le _⟩ (fun H locs hW => ?_)
  refine lv_aload_n hx hb dX0_acrossA_18 rfl (lv_at hl 0 rfl) ?_
  refine lv_iconst (v := nI 1) hx hb dX0_acrossA_19 (by decide) ?_
  refine lv_iconst (v := nI 3) hx hb dX0_acrossA_20 (by decide) ?_
  refine k_V (rest := []) (wr := []) (w' := [(o, obj 0 fs), (aR, arL cL 8 (changeF 1 3 (shiftF 3 1 (shiftF 2 2 (shiftF 1 3 f)))))]) (q0 := 0) (ci := 0) F hW (ct_X0_change l G cI cB cL o aR fs hf6 (shiftF 3 1 (shiftF 2 2 (shiftF 1 3 f))) 1 3 (by omega) (by omega)) [0, 1] [] [0, 1] rfl rfl rfl rfl (by decide) rfl rfl rfl rfl g_X0_change ⟨rfl, rfl⟩ hd_X0_change ⟨Nat.le_of_ble_eq_true rfl, Nat.le_of_ble_eq_true rfl⟩ rfl hl.1 rfl (Nat.le_of_ble_eq_true rfl) dX0_acrossA_21 ⟨Nat.zero_le _, Nat.zero_le _⟩ (fun H locs hW => ?_)
  exact r_vret F hW dX0_acrossA_24
end
section
set_option maxRecDepth 100000
set_option maxHeartbeats 4000000 in
theorem ct_X0_mixA (l : Launch) (G : va_G) (cI cB cL : ClassId) (o aX aO aR : Nat) (fs : List Value) (hf1 : fs[1]? = some (.ref aO)) (hf6 : fs[6]? = some (.ref aR)) (x u : Nat → Int32) (f : Nat → Int64) (M : Nat) (hM : M ≤ 16) : CV l yX0_mixA (ws_ yX0_mixA cX0_mixA 4 none) (rm_ 3 69) G (tys_ cI cB cL) [.ref o, .ref aX, .int (nI (2 * M))] [(o, obj 0 fs), (aX, arI cI 16 x), (aO, arI cI 16 u), (aR, arL cL 8 f)] [(o, obj 0 fs), (aX, arI cI 16 x), (aO, arI cI 16 (mixAo M x f u)), (aR, arL cL 8 (rowA M x f))] := by
  refine CV.of (by decide) (Nat.le_of_ble_eq_true rfl) ?_
  intro p e s m below meth c A ls F hW hl
  have F : Fx p m c cX0_mixA 4 s ([.ref o, .ref aX, .int (nI (2 * M))] : List Value).toArray RX0 meth none := F
  obtain ⟨⟨hx, hb, hml, hown, hts⟩, hr, hlocks⟩ := id F
  have hl : lv_has ls 4 [(0, .ref o), (1, .ref aX), (2, .int (nI (2 * M)))] := hl
  refine lv_aload_n hx hb dX0_mixA_0 rfl (lv_at hl 0 rfl) ?_
  refine lv_iconst (v := nI 0) hx hb dX0_mixA_1 (by decide) ?_
  refine lv_aload_n hx hb dX0_mixA_2 rfl (lv_at hl 1 rfl) ?_
  refine lv_iconst (v := nI 0) hx hb dX0_mixA_3 (by decide) ?_
  refine r_iald F hW 1 rfl 0 (by omega) (by decide) dX0_mixA_4 ?_
  refine lv_aload_n hx hb dX0_mixA_5 rfl (lv_at hl 1 rfl) ?_
  refine lv_iconst (v := nI 5) hx hb dX0_mixA_6 (by decide) ?_
  refine r_iald F hW 1 rfl 5 (by omega) (by decide) dX0_mixA_7 ?_
  refine lv_aload_n hx hb dX0_mixA_8 rfl (lv_at hl 1 rfl) ?_
  refine lv_bipush (v := nI 10) hx hb dX0_mixA_9 (by decide) ?_
  refine r_iald F hW 1 rfl 10 (by omega) (by decide) dX0_mixA_11 ?_
  refine lv_aload_n hx hb dX0_mixA_12 rfl (lv_at hl 1 rfl) ?_
  refine lv_bipush (v := nI 15) hx hb dX0_mixA_13 (by decide) ?_
  refine r_iald F hW 1 rfl 15 (by omega) (by decide) dX0_mixA_15 ?_
  refine k_V (rest := []) (wr := [(aX, arI cI 16 x), (aO, arI cI 16 u)]) (w' := [(o, obj 0 fs), (aX, arI cI 16 x), (aO, arI cI 16 u), (aR, arL cL 8 (layF 0 (x 0) (x 5) (x 10) (x 15) f))]) (q0 := 0) (ci := 0) F hW (ct_X0_lay l G cI cB cL o aR fs hf6 f 0 (x 0) (x 5) (x 10) (x 15) (by omega)) [0, 3] [1, 2] [2, 0, 1, 3] rfl rfl rfl rfl (by decide) rfl rfl rfl rfl g_X0_lay ⟨rfl, rfl⟩ hd_X0_lay ⟨Nat.le_of_ble_eq_true rfl, Nat.le_of_ble_eq_true rfl⟩ rfl hl.1 rfl (Nat.le_of_ble_eq_true rfl) dX0_mixA_16 ⟨Nat.zero_le _, Nat.zero_le _⟩ (fun H locs hW => ?_)
  refine lv_aload_n hx hb dX0_mixA_19 rfl (lv_at hl 0 rfl) ?_
  refine lv_iconst (v := nI 1) hx hb dX0_mixA_20 (by decide) ?_
  refine lv_aload_n hx hb dX0_mixA_21 rfl (lv_at hl 1 rfl) ?_
  refine lv_iconst (v := nI 4) hx hb dX0_mixA_22 (by decide) ?_
  refine r_iald F hW 1 rfl 4 (by omega) (by decide) dX0_mixA_23 ?_
  refine lv_aload_n hx hb dX0_mixA_24 rfl (lv_at hl 1 rfl) ?_
  refine lv_bipush (v := nI 9) hx hb dX0_mixA_25 (by decide) ?_
  refine r_iald F hW 1 rfl 9 (by omega) (by decide) dX0_mixA_27 ?_
  refine lv_aload_n hx hb dX0_mixA_28 rfl (lv_at hl 1 rfl) ?_
  refine lv_bipush (v := nI 14) hx hb dX0_mixA_29 (by decide) ?_
  refine r_iald F hW 1 rfl 14 (by omega) (by decide) dX0_mixA_31 ?_
  refine lv_aload_n hx hb dX0_mixA_32 rfl (lv_at hl 1 rfl) ?_
  refine lv_iconst (v := nI 3) hx hb dX0_mixA_33 (by decide) ?_
  refine r_iald F hW 1 rfl 3 (by omega) (by decide) dX0_mixA_34 ?_
  refine k_V (rest := []) (wr := [(aX, arI cI 16 x), (aO, arI cI 16 u)]) (w' := [(o, obj 0 fs), (aX, arI cI 16 x), (aO, arI cI 16 u), (aR, arL cL 8 (layF 1 (x 4) (x 9) (x 14) (x 3) (layF 0 (x 0) (x 5) (x 10) (x 15) f)))]) (q0 := 0) (ci := 0) F hW (ct_X0_lay l G cI cB cL o aR fs hf6 (layF 0 (x 0) (x 5) (x 10) (x 15) f) 1 (x 4) (x 9) (x 14) (x 3) (by omega)) [0, 3] [1, 2] [2, 0, 1, 3] rfl rfl rfl rfl (by decide) rfl rfl rfl rfl g_X0_lay ⟨rfl, rfl⟩ hd_X0_lay ⟨Nat.le_of_ble_eq_true rfl, Nat.le_of_ble_eq_true rfl⟩ rfl hl.1 rfl (Nat.le_of_ble_eq_true rfl) dX0_mixA_35 ⟨Nat.zero_le _, Nat.zero_le _⟩ (fun H locs hW => ?_)
  refine lv_aload_n hx hb dX0_mixA_38 rfl (lv_at hl 0 rfl) ?_
  refine lv_iconst (v := nI 2) hx hb dX0_mixA_39 (by decide) ?_
  refine lv_aload_n hx hb dX0_mixA_40 rfl (lv_at hl 1 rfl) ?_
  refine lv_bipush (v := nI 8) hx hb dX0_mixA_41 (by decide) ?_
  refine r_iald F hW 1 rfl 8 (by omega) (by decide) dX0_mixA_43 ?_
  refine lv_aload_n hx hb dX0_mixA_44 rfl (lv_at hl 1 rfl) ?_
  refine lv_bipush (v := nI 13) hx hb dX0_mixA_45 (by decide) ?_
  refine r_iald F hW 1 rfl 13 (by omega) (by decide) dX0_mixA_47 ?_
  refine lv_aload_n hx hb dX0_mixA_48 rfl (lv_at hl 1 rfl) ?_
  refine lv_iconst (v := nI 2) hx hb dX0_mixA_49 (by decide) ?_
  refine r_iald F hW 1 rfl 2 (by omega) (by decide) dX0_mixA_50 ?_
  refine lv_aload_n hx hb dX0_mixA_51 rfl (lv_at hl 1 rfl) ?_
  refine lv_bipush (v := nI 7) hx hb dX0_mixA_52 (by decide) ?_
  refine r_iald F hW 1 rfl 7 (by omega) (by decide) dX0_mixA_54 ?_
  refine k_V (rest := []) (wr := [(aX, arI cI 16 x), (aO, arI cI 16 u)]) (w' := [(o, obj 0 fs), (aX, arI cI 16 x), (aO, arI cI 16 u), (aR, arL cL 8 (layF 2 (x 8) (x 13) (x 2) (x 7) (layF 1 (x 4) (x 9) (x 14) (x 3) (layF 0 (x 0) (x 5) (x 10) (x 15) f))))]) (q0 := 0) (ci := 0) F hW (ct_X0_lay l G cI cB cL o aR fs hf6 (layF 1 (x 4) (x 9) (x 14) (x 3) (layF 0 (x 0) (x 5) (x 10) (x 15) f)) 2 (x 8) (x 13) (x 2) (x 7) (by omega)) [0, 3] [1, 2] [2, 0, 1, 3] rfl rfl rfl rfl (by decide) rfl rfl rfl rfl g_X0_lay ⟨rfl, rfl⟩ hd_X0_lay ⟨Nat.le_of_ble_eq_true rfl, Nat.le_of_ble_eq_true rfl⟩ rfl hl.1 rfl (Nat.le_of_ble_eq_true rfl) dX0_mixA_55 ⟨Nat.zero_le _, Nat.zero_le _⟩ (fun H locs hW => ?_)
  refine lv_aload_n hx hb dX0_mixA_58 rfl (lv_at hl 0 rfl) ?_
  refine lv_iconst (v := nI 3) hx hb dX0_mixA_59 (by decide) ?_
  refine lv_aload_n hx hb dX0_mixA_60 rfl (lv_at hl 1 rfl) ?_
  refine lv_bipush (v := nI 12) hx hb dX0_mixA_61 (by decide) ?_
  refine r_iald F hW 1 rfl 12 (by omega) (by decide) dX0_mixA_63 ?_
  refine lv_aload_n hx hb dX0_mixA_64 rfl (lv_at hl 1 rfl) ?_
  refine lv_iconst (v := nI 1) hx hb dX0_mixA_65 (by decide) ?_
  refine r_iald F hW 1 rfl 1 (by omega) (by decide) dX0_mixA_66 ?_
  refine lv_aload_n hx hb dX0_mixA_67 rfl (lv_at hl 1 rfl) ?_
  refine lv_bipush (v := nI 6) hx hb dX0_mixA_68 (by decide) ?_
  refine r_iald F hW 1 rfl 6 (by omega) (by decide) dX0_mixA_70 ?_
  refine lv_aload_n hx hb dX0_mixA_71 rfl (lv_at hl 1 rfl) ?_
  refine lv_bipush (v := nI 11) hx hb dX0_mixA_72 (by decide) ?_
  refine r_iald F hW 1 rfl 11 (by omega) (by decide) dX0_mixA_74 ?_
  refine k_V (rest := []) (wr := [(aX, arI cI 16 x), (aO, arI cI 16 u)]) (w' := [(o, obj 0 fs), (aX, arI cI 16 x), (aO, arI cI 16 u), (aR, arL cL 8 (layF 3 (x 12) (x 1) (x 6) (x 11) (layF 2 (x 8) (x 13) (x 2) (x 7) (layF 1 (x 4) (x 9) (x 14) (x 3) (layF 0 (x 0) (x 5) (x 10) (x 15) f)))))]) (q0 := 0) (ci := 0) F hW (ct_X0_lay l G cI cB cL o aR fs hf6 (layF 2 (x 8) (x 13) (x 2) (x 7) (layF 1 (x 4) (x 9) (x 14) (x 3) (layF 0 (x 0) (x 5) (x 10) (x 15) f))) 3 (x 12) (x 1) (x 6) (x 11) (by omega)) [0, 3] [1, 2] [2, 0, 1, 3] rfl rfl rfl rfl (by decide) rfl rfl rfl rfl g_X0_lay ⟨rfl, rfl⟩ hd_X0_lay ⟨Nat.le_of_ble_eq_true rfl, Nat.le_of_ble_eq_true rfl⟩ rfl hl.1 rfl (Nat.le_of_ble_eq_true rfl) dX0_mixA_75 ⟨Nat.zero_le _, Nat.zero_le _⟩ (fun H locs hW => ?_)
  refine lv_iconst (v := nI 0) hx hb dX0_mixA_78 (by decide) ?_
  refine lv_istore_n (lv' := [(3, .int (nI 0)), (0, .ref o), (1, .ref aX), (2, .int (nI (2 * M)))]) hx hb dX0_mixA_79 rfl hl (by decide) rfl (fun ls hl => ?_)
  have hW : Wd G (tys_ cI cB cL) A s H locs [(o, obj 0 fs), (aX, arI cI 16 x), (aO, arI cI 16 u), (aR, arL cL 8 (layA x f))] := hW
  have loop2 : ∀ (nk k : Nat), k + nk = 4 → ∀ (H : Heap) (locs : List Loc) (ls : Array Slot), Wd G (tys_ cI cB cL) A s H locs [(o, obj 0 fs), (aX, arI cI 16 x), (aO, arI cI 16 (it_ (outA x (rowA M x f)) k u)), (aR, arL cL 8 (rowA M x f))] → lv_has ls 4 [(0, .ref o), (1, .ref aX), (2, .int (nI (2 * M))), (3, .int (nI k))] → W p l e (rm_ 3 69) s m ([.ref o, .ref aX, .int (nI (2 * M))] : List Value).toArray below meth c H locs 0 0 (MQ below (QV G (tys_ cI cB cL) [(o, obj 0 fs), (aX, arI cI 16 x), (aO, arI cI 16 (mixAo M x f u)), (aR, arL cL 8 (rowA M x f))] A) ([.ref o, .ref aX, .int (nI (2 * M))] : List Value).toArray s 0 0 A) (F0 m 109 ls []) := by
    intro nk
    induction nk with
    | zero =>
      intro k hk H locs ls hW hl
      obtain rfl : k = 4 := by omega
      refine lv_iload_n hx hb dX0_mixA_109 rfl (lv_at hl 3 rfl) ?_
      refine lv_iconst (v := nI 4) hx hb dX0_mixA_110 (by decide) ?_
      refine n_ge_t (tgt := 240) hx hb (by omega) (by omega) dX0_mixA_111 (by decide) ?_
      exact r_vret F hW dX0_mixA_240
    | succ nk ihk =>
      intro k hk H locs ls hW hl
      have hkN : k < 4 := by omega
      refine lv_iload_n hx hb dX0_mixA_109 rfl (lv_at hl 3 rfl) ?_
      refine lv_iconst (v := nI 4) hx hb dX0_mixA_110 (by decide) ?_
      refine n_ge_f (tgt := 240) hx hb (by omega) (by omega) dX0_mixA_111 (by decide) ?_
      refine lv_aload_n hx hb dX0_mixA_114 rfl (lv_at hl 0 rfl) ?_
      refine r_getX F hW 0 1 rfl (by decide) rfl q27 hf1 dX0_mixA_115 ?_
      refine lv_iconst (v := nI 5) hx hb dX0_mixA_118 (by decide) ?_
      refine lv_iload_n hx hb dX0_mixA_119 rfl (lv_at hl 3 rfl) ?_
      refine n_mul hx hb dX0_mixA_120 ?_
      refine lv_bipush (v := nI 15) hx hb dX0_mixA_121 (by decide) ?_
      refine n_and hx hb 4 16 (by omega) (by decide) (by decide) dX0_mixA_123 ?_
      refine lv_aload_n hx hb dX0_mixA_124 rfl (lv_at hl 1 rfl) ?_
      refine lv_iconst (v := nI 5) hx hb dX0_mixA_125 (by decide) ?_
      refine lv_iload_n hx hb dX0_mixA_126 rfl (lv_at hl 3 rfl) ?_
      refine n_mul hx hb dX0_mixA_127 ?_
      refine lv_bipush (v := nI 15) hx hb dX0_mixA_128 (by decide) ?_
      refine n_and hx hb 4 16 (by omega) (by decide) (by decide) dX0_mixA_130 ?_
      refine r_iald F hW 1 rfl ((5 * k) % 16) (by omega) (by decide) dX0_mixA_131 ?_
      refine lv_aload_n hx hb dX0_mixA_132 rfl (lv_at hl 0 rfl) ?_
      refine lv_iconst (v := nI 0) hx hb dX0_mixA_133 (by decide) ?_
      refine lv_iload_n hx hb dX0_mixA_134 rfl (lv_at hl 3 rfl) ?_
      refine k_VI (rest := [.int (x ((5 * k) % 16)), .int (nI ((5 * k) % 16)), .ref aO]) (wr := [(aX, arI cI 16 x), (aO, arI cI 16 (it_ (outA x (rowA M x f)) k u))]) (w' := [(o, obj 0 fs), (aX, arI cI 16 x), (aO, arI cI 16 (it_ (outA x (rowA M x f)) k u)), (aR, arL cL 8 (rowA M x f))]) (q0 := 0) (ci := 0) F hW (ct_X0_word l G cI cB cL o aR fs hf6 (rowA M x f) 0 k (by omega) (by omega)) [0, 3] [1, 2] [2, 0, 1, 3] rfl rfl rfl rfl (by decide) rfl rfl rfl rfl g_X0_word ⟨rfl, rfl⟩ hd_X0_word ⟨Nat.le_of_ble_eq_true rfl, Nat.le_of_ble_eq_true rfl⟩ rfl hl.1 rfl (Nat.le_of_ble_eq_true rfl) dX0_mixA_135 ⟨Nat.zero_le _, Nat.zero_le _⟩ (fun H locs hW => ?_)
      refine lv_iadd hx hb dX0_mixA_138 ?_
      refine r_iast (w' := [(o, obj 0 fs), (aX, arI cI 16 x), (aO, arI cI 16 (upd (it_ (outA x (rowA M x f)) k u) ((5 * k) % 16) ((x ((5 * k) % 16)) + (wordL (rowA M x f) 0 k)))), (aR, arL cL 8 (rowA M x f))]) F hW 2 rfl ((5 * k) % 16) (by omega) (by decide) (upd (it_ (outA x (rowA M x f)) k u) ((5 * k) % 16) ((x ((5 * k) % 16)) + (wordL (rowA M x f) 0 k))) rfl rfl dX0_mixA_139 (fun H locs hW => ?_)
      refine lv_aload_n hx hb dX0_mixA_140 rfl (lv_at hl 0 rfl) ?_
      refine r_getX F hW 0 1 rfl (by decide) rfl q27 hf1 dX0_mixA_141 ?_
      refine lv_iconst (v := nI 4) hx hb dX0_mixA_144 (by decide) ?_
      refine lv_iconst (v := nI 5) hx hb dX0_mixA_145 (by decide) ?_
      refine lv_iload_n hx hb dX0_mixA_146 rfl (lv_at hl 3 rfl) ?_
      refine n_mul hx hb dX0_mixA_147 ?_
      refine n_add hx hb dX0_mixA_148 ?_
      refine lv_bipush (v := nI 15) hx hb dX0_mixA_149 (by decide) ?_
      refine n_and hx hb 4 16 (by omega) (by decide) (by decide) dX0_mixA_151 ?_
      refine lv_aload_n hx hb dX0_mixA_152 rfl (lv_at hl 1 rfl) ?_
      refine lv_iconst (v := nI 4) hx hb dX0_mixA_153 (by decide) ?_
      refine lv_iconst (v := nI 5) hx hb dX0_mixA_154 (by decide) ?_
      refine lv_iload_n hx hb dX0_mixA_155 rfl (lv_at hl 3 rfl) ?_
      refine n_mul hx hb dX0_mixA_156 ?_
      refine n_add hx hb dX0_mixA_157 ?_
      refine lv_bipush (v := nI 15) hx hb dX0_mixA_158 (by decide) ?_
      refine n_and hx hb 4 16 (by omega) (by decide) (by decide) dX0_mixA_160 ?_
      refine r_iald F hW 1 rfl ((4 + (5 * k)) % 16) (by omega) (by decide) dX0_mixA_161 ?_
      refine lv_aload_n hx hb dX0_mixA_162 rfl (lv_at hl 0 rfl) ?_
      refine lv_iconst (v := nI 1) hx hb dX0_mixA_163 (by decide) ?_
      refine lv_iload_n hx hb dX0_mixA_164 rfl (lv_at hl 3 rfl) ?_
      refine k_VI (rest := [.int (x ((4 + (5 * k)) % 16)), .int (nI ((4 + (5 * k)) % 16)), .ref aO]) (wr := [(aX, arI cI 16 x), (aO, arI cI 16 (upd (it_ (outA x (rowA M x f)) k u) ((5 * k) % 16) ((x ((5 * k) % 16)) + (wordL (rowA M x f) 0 k))))]) (w' := [(o, obj 0 fs), (aX, arI cI 16 x), (aO, arI cI 16 (upd (it_ (outA x (rowA M x f)) k u) ((5 * k) % 16) ((x ((5 * k) % 16)) + (wordL (rowA M x f) 0 k)))), (aR, arL cL 8 (rowA M x f))]) (q0 := 0) (ci := 0) F hW (ct_X0_word l G cI cB cL o aR fs hf6 (rowA M x f) 1 k (by omega) (by omega)) [0, 3] [1, 2] [2, 0, 1, 3] rfl rfl rfl rfl (by decide) rfl rfl rfl rfl g_X0_word ⟨rfl, rfl⟩ hd_X0_word ⟨Nat.le_of_ble_eq_true rfl, Nat.le_of_ble_eq_true rfl⟩ rfl hl.1 rfl (Nat.le_of_ble_eq_true rfl) dX0_mixA_165 ⟨Nat.zero_le _, Nat.zero_le _⟩ (fun H locs hW => ?_)
      refine lv_iadd hx hb dX0_mixA_168 ?_
      refine r_iast (w' := [(o, obj 0 fs), (aX, arI cI 16 x), (aO, arI cI 16 (upd (upd (it_ (outA x (rowA M x f)) k u) ((5 * k) % 16) ((x ((5 * k) % 16)) + (wordL (rowA M x f) 0 k))) ((4 + (5 * k)) % 16) ((x ((4 + (5 * k)) % 16)) + (wordL (rowA M x f) 1 k)))), (aR, arL cL 8 (rowA M x f))]) F hW 2 rfl ((4 + (5 * k)) % 16) (by omega) (by decide) (upd (upd (it_ (outA x (rowA M x f)) k u) ((5 * k) % 16) ((x ((5 * k) % 16)) + (wordL (rowA M x f) 0 k))) ((4 + (5 * k)) % 16) ((x ((4 + (5 * k)) % 16)) + (wordL (rowA M x f) 1 k))) rfl rfl dX0_mixA_169 (fun H locs hW => ?_)
      refine lv_aload_n hx hb dX0_mixA_170 rfl (lv_at hl 0 rfl) ?_
      refine r_getX F hW 0 1 rfl (by decide) rfl q27 hf1 dX0_mixA_171 ?_
      refine lv_bipush (v := nI 8) hx hb dX0_mixA_174 (by decide) ?_
      refine lv_iconst (v := nI 5) hx hb dX0_mixA_176 (by decide) ?_
      refine lv_iload_n hx hb dX0_mixA_177 rfl (lv_at hl 3 rfl) ?_
      refine n_mul hx hb dX0_mixA_178 ?_
      refine n_add hx hb dX0_mixA_179 ?_
      refine lv_bipush (v := nI 15) hx hb dX0_mixA_180 (by decide) ?_
      refine n_and hx hb 4 16 (by omega) (by decide) (by decide) dX0_mixA_182 ?_
      refine lv_aload_n hx hb dX0_mixA_183 rfl (lv_at hl 1 rfl) ?_
      refine lv_bipush (v := nI 8) hx hb dX0_mixA_184 (by decide) ?_
      refine lv_iconst (v := nI 5) hx hb dX0_mixA_186 (by decide) ?_
      refine lv_iload_n hx hb dX0_mixA_187 rfl (lv_at hl 3 rfl) ?_
      refine n_mul hx hb dX0_mixA_188 ?_
      refine n_add hx hb dX0_mixA_189 ?_
      refine lv_bipush (v := nI 15) hx hb dX0_mixA_190 (by decide) ?_
      refine n_and hx hb 4 16 (by omega) (by decide) (by decide) dX0_mixA_192 ?_
      refine r_iald F hW 1 rfl ((8 + (5 * k)) % 16) (by omega) (by decide) dX0_mixA_193 ?_
      refine lv_aload_n hx hb dX0_mixA_194 rfl (lv_at hl 0 rfl) ?_
      refine lv_iconst (v := nI 2) hx hb dX0_mixA_195 (by decide) ?_
      refine lv_iload_n hx hb dX0_mixA_196 rfl (lv_at hl 3 rfl) ?_
      refine k_VI (rest := [.int (x ((8 + (5 * k)) % 16)), .int (nI ((8 + (5 * k)) % 16)), .ref aO]) (wr := [(aX, arI cI 16 x), (aO, arI cI 16 (upd (upd (it_ (outA x (rowA M x f)) k u) ((5 * k) % 16) ((x ((5 * k) % 16)) + (wordL (rowA M x f) 0 k))) ((4 + (5 * k)) % 16) ((x ((4 + (5 * k)) % 16)) + (wordL (rowA M x f) 1 k))))]) (w' := [(o, obj 0 fs), (aX, arI cI 16 x), (aO, arI cI 16 (upd (upd (it_ (outA x (rowA M x f)) k u) ((5 * k) % 16) ((x ((5 * k) % 16)) + (wordL (rowA M x f) 0 k))) ((4 + (5 * k)) % 16) ((x ((4 + (5 * k)) % 16)) + (wordL (rowA M x f) 1 k)))), (aR, arL cL 8 (rowA M x f))]) (q0 := 0) (ci := 0) F hW (ct_X0_word l G cI cB cL o aR fs hf6 (rowA M x f) 2 k (by omega) (by omega)) [0, 3] [1, 2] [2, 0, 1, 3] rfl rfl rfl rfl (by decide) rfl rfl rfl rfl g_X0_word ⟨rfl, rfl⟩ hd_X0_word ⟨Nat.le_of_ble_eq_true rfl, Nat.le_of_ble_eq_true rfl⟩ rfl hl.1 rfl (Nat.le_of_ble_eq_true rfl) dX0_mixA_197 ⟨Nat.zero_le _, Nat.zero_le _⟩ (fun H locs hW => ?_)
      refine lv_iadd hx hb dX0_mixA_200 ?_
      refine r_iast (w' := [(o, obj 0 fs), (aX, arI cI 16 x), (aO, arI cI 16 (upd (upd (upd (it_ (outA x (rowA M x f)) k u) ((5 * k) % 16) ((x ((5 * k) % 16)) + (wordL (rowA M x f) 0 k))) ((4 + (5 * k)) % 16) ((x ((4 + (5 * k)) % 16)) + (wordL (rowA M x f) 1 k))) ((8 + (5 * k)) % 16) ((x ((8 + (5 * k)) % 16)) + (wordL (rowA M x f) 2 k)))), (aR, arL cL 8 (rowA M x f))]) F hW 2 rfl ((8 + (5 * k)) % 16) (by omega) (by decide) (upd (upd (upd (it_ (outA x (rowA M x f)) k u) ((5 * k) % 16) ((x ((5 * k) % 16)) + (wordL (rowA M x f) 0 k))) ((4 + (5 * k)) % 16) ((x ((4 + (5 * k)) % 16)) + (wordL (rowA M x f) 1 k))) ((8 + (5 * k)) % 16) ((x ((8 + (5 * k)) % 16)) + (wordL (rowA M x f) 2 k))) rfl rfl dX0_mixA_201 (fun H locs hW => ?_)
      refine lv_aload_n hx hb dX0_mixA_202 rfl (lv_at hl 0 rfl) ?_
      refine r_getX F hW 0 1 rfl (by decide) rfl q27 hf1 dX0_mixA_203 ?_
      refine lv_bipush (v := nI 12) hx hb dX0_mixA_206 (by decide) ?_
      refine lv_iconst (v := nI 5) hx hb dX0_mixA_208 (by decide) ?_
      refine lv_iload_n hx hb dX0_mixA_209 rfl (lv_at hl 3 rfl) ?_
      refine n_mul hx hb dX0_mixA_210 ?_
      refine n_add hx hb dX0_mixA_211 ?_
      refine lv_bipush (v := nI 15) hx hb dX0_mixA_212 (by decide) ?_
      refine n_and hx hb 4 16 (by omega) (by decide) (by decide) dX0_mixA_214 ?_
      refine lv_aload_n hx hb dX0_mixA_215 rfl (lv_at hl 1 rfl) ?_
      refine lv_bipush (v := nI 12) hx hb dX0_mixA_216 (by decide) ?_
      refine lv_iconst (v := nI 5) hx hb dX0_mixA_218 (by decide) ?_
      refine lv_iload_n hx hb dX0_mixA_219 rfl (lv_at hl 3 rfl) ?_
      refine n_mul hx hb dX0_mixA_220 ?_
      refine n_add hx hb dX0_mixA_221 ?_
      refine lv_bipush (v := nI 15) hx hb dX0_mixA_222 (by decide) ?_
      refine n_and hx hb 4 16 (by omega) (by decide) (by decide) dX0_mixA_224 ?_
      refine r_iald F hW 1 rfl ((12 + (5 * k)) % 16) (by omega) (by decide) dX0_mixA_225 ?_
      refine lv_aload_n hx hb dX0_mixA_226 rfl (lv_at hl 0 rfl) ?_
      refine lv_iconst (v := nI 3) hx hb dX0_mixA_227 (by decide) ?_
      refine lv_iload_n hx hb dX0_mixA_228 rfl (lv_at hl 3 rfl) ?_
      refine k_VI (rest := [.int (x ((12 + (5 * k)) % 16)), .int (nI ((12 + (5 * k)) % 16)), .ref aO]) (wr := [(aX, arI cI 16 x), (aO, arI cI 16 (upd (upd (upd (it_ (outA x (rowA M x f)) k u) ((5 * k) % 16) ((x ((5 * k) % 16)) + (wordL (rowA M x f) 0 k))) ((4 + (5 * k)) % 16) ((x ((4 + (5 * k)) % 16)) + (wordL (rowA M x f) 1 k))) ((8 + (5 * k)) % 16) ((x ((8 + (5 * k)) % 16)) + (wordL (rowA M x f) 2 k))))]) (w' := [(o, obj 0 fs), (aX, arI cI 16 x), (aO, arI cI 16 (upd (upd (upd (it_ (outA x (rowA M x f)) k u) ((5 * k) % 16) ((x ((5 * k) % 16)) + (wordL (rowA M x f) 0 k))) ((4 + (5 * k)) % 16) ((x ((4 + (5 * k)) % 16)) + (wordL (rowA M x f) 1 k))) ((8 + (5 * k)) % 16) ((x ((8 + (5 * k)) % 16)) + (wordL (rowA M x f) 2 k)))), (aR, arL cL 8 (rowA M x f))]) (q0 := 0) (ci := 0) F hW (ct_X0_word l G cI cB cL o aR fs hf6 (rowA M x f) 3 k (by omega) (by omega)) [0, 3] [1, 2] [2, 0, 1, 3] rfl rfl rfl rfl (by decide) rfl rfl rfl rfl g_X0_word ⟨rfl, rfl⟩ hd_X0_word ⟨Nat.le_of_ble_eq_true rfl, Nat.le_of_ble_eq_true rfl⟩ rfl hl.1 rfl (Nat.le_of_ble_eq_true rfl) dX0_mixA_229 ⟨Nat.zero_le _, Nat.zero_le _⟩ (fun H locs hW => ?_)
      refine lv_iadd hx hb dX0_mixA_232 ?_
      refine r_iast (w' := [(o, obj 0 fs), (aX, arI cI 16 x), (aO, arI cI 16 (outA x (rowA M x f) k (it_ (outA x (rowA M x f)) k u))), (aR, arL cL 8 (rowA M x f))]) F hW 2 rfl ((12 + (5 * k)) % 16) (by omega) (by decide) (outA x (rowA M x f) k (it_ (outA x (rowA M x f)) k u)) rfl rfl dX0_mixA_233 (fun H locs hW => ?_)
      refine n_iinc (lv' := [(3, .int (nI (k + 1))), (0, .ref o), (1, .ref aX), (2, .int (nI (2 * M)))]) (k := 3) (d := 1) hx hb dX0_mixA_234 hl rfl (by decide) (by decide) rfl (fun ls hl => ?_)
      refine lv_goto (tgt := 109) hx hb dX0_mixA_237 (by decide) ?_
      exact ihk (k + 1) (by omega) H locs ls (hW.eq (by rw [it_s (outA x (rowA M x f)) k u])) (lv_sub hl [1, 2, 3, 0] rfl)
  have loop1 : ∀ (nk k : Nat), k + nk = M → ∀ (H : Heap) (locs : List Loc) (ls : Array Slot), Wd G (tys_ cI cB cL) A s H locs [(o, obj 0 fs), (aX, arI cI 16 x), (aO, arI cI 16 u), (aR, arL cL 8 (it_ rndA k (layA x f)))] → lv_has ls 4 [(0, .ref o), (1, .ref aX), (2, .int (nI (2 * M))), (3, .int (nI (2 * k)))] → W p l e (rm_ 3 69) s m ([.ref o, .ref aX, .int (nI (2 * M))] : List Value).toArray below meth c H locs 0 0 (MQ below (QV G (tys_ cI cB cL) [(o, obj 0 fs), (aX, arI cI 16 x), (aO, arI cI 16 (mixAo M x f u)), (aR, arL cL 8 (rowA M x f))] A) ([.ref o, .ref aX, .int (nI (2 * M))] : List Value).toArray s 0 0 A) (F0 m 80 ls []) := by
    intro nk
    induction nk with
    | zero =>
      intro k hk H locs ls hW hl
      have hk : k = M := by omega
      rw [hk] at hW hl
      refine lv_iload_n hx hb dX0_mixA_80 rfl (lv_at hl 3 rfl) ?_
      refine lv_iload_n hx hb dX0_mixA_81 rfl (lv_at hl 2 rfl) ?_
      refine n_ge_t (tgt := 107) hx hb (by omega) (by omega) dX0_mixA_82 (by decide) ?_
      refine lv_iconst (v := nI 0) hx hb dX0_mixA_107 (by decide) ?_
      refine lv_istore_n (lv' := [(3, .int (nI 0)), (0, .ref o), (1, .ref aX), (2, .int (nI (2 * M)))]) hx hb dX0_mixA_108 rfl hl (by decide) rfl (fun ls hl => ?_)
      have hW : Wd G (tys_ cI cB cL) A s H locs [(o, obj 0 fs), (aX, arI cI 16 x), (aO, arI cI 16 u), (aR, arL cL 8 (rowA M x f))] := hW
      exact loop2 4 0 (by omega) _ _ _ (hW.eq (by rw [it_0 (outA x (rowA M x f)) u])) (lv_sub hl [1, 2, 3, 0] rfl)
    | succ nk ihk =>
      intro k hk H locs ls hW hl
      have hkN : k < M := by omega
      refine lv_iload_n hx hb dX0_mixA_80 rfl (lv_at hl 3 rfl) ?_
      refine lv_iload_n hx hb dX0_mixA_81 rfl (lv_at hl 2 rfl) ?_
      refine n_ge_f (tgt := 107) hx hb (by omega) (by omega) dX0_mixA_82 (by decide) ?_
      refine lv_aload_n hx hb dX0_mixA_85 rfl (lv_at hl 0 rfl) ?_
      refine k_V (rest := []) (wr := [(aX, arI cI 16 x), (aO, arI cI 16 u)]) (w' := [(o, obj 0 fs), (aX, arI cI 16 x), (aO, arI cI 16 u), (aR, arL cL 8 (crossAllF (it_ rndA k (layA x f))))]) (q0 := 0) (ci := 0) F hW (ct_X0_crossAll l G cI cB cL o aR fs hf6 (it_ rndA k (layA x f))) [0, 3] [1, 2] [2, 0, 1, 3] rfl rfl rfl rfl (by decide) rfl rfl rfl rfl g_X0_crossAll ⟨rfl, rfl⟩ hd_X0_crossAll ⟨Nat.le_of_ble_eq_true rfl, Nat.le_of_ble_eq_true rfl⟩ rfl hl.1 rfl (Nat.le_of_ble_eq_true rfl) dX0_mixA_86 ⟨Nat.zero_le _, Nat.zero_le _⟩ (fun H locs hW => ?_)
      refine lv_aload_n hx hb dX0_mixA_89 rfl (lv_at hl 0 rfl) ?_
      refine k_V (rest := []) (wr := [(aX, arI cI 16 x), (aO, arI cI 16 u)]) (w' := [(o, obj 0 fs), (aX, arI cI 16 x), (aO, arI cI 16 u), (aR, arL cL 8 (acrossF (crossAllF (it_ rndA k (layA x f)))))]) (q0 := 0) (ci := 0) F hW (ct_X0_acrossA l G cI cB cL o aR fs hf6 (crossAllF (it_ rndA k (layA x f)))) [0, 3] [1, 2] [2, 0, 1, 3] rfl rfl rfl rfl (by decide) rfl rfl rfl rfl g_X0_acrossA ⟨rfl, rfl⟩ hd_X0_acrossA ⟨Nat.le_of_ble_eq_true rfl, Nat.le_of_ble_eq_true rfl⟩ rfl hl.1 rfl (Nat.le_of_ble_eq_true rfl) dX0_mixA_90 ⟨Nat.zero_le _, Nat.zero_le _⟩ (fun H locs hW => ?_)
      refine lv_aload_n hx hb dX0_mixA_93 rfl (lv_at hl 0 rfl) ?_
      refine k_V (rest := []) (wr := [(aX, arI cI 16 x), (aO, arI cI 16 u)]) (w' := [(o, obj 0 fs), (aX, arI cI 16 x), (aO, arI cI 16 u), (aR, arL cL 8 (crossAllF (acrossF (crossAllF (it_ rndA k (layA x f))))))]) (q0 := 0) (ci := 0) F hW (ct_X0_crossAll l G cI cB cL o aR fs hf6 (acrossF (crossAllF (it_ rndA k (layA x f))))) [0, 3] [1, 2] [2, 0, 1, 3] rfl rfl rfl rfl (by decide) rfl rfl rfl rfl g_X0_crossAll ⟨rfl, rfl⟩ hd_X0_crossAll ⟨Nat.le_of_ble_eq_true rfl, Nat.le_of_ble_eq_true rfl⟩ rfl hl.1 rfl (Nat.le_of_ble_eq_true rfl) dX0_mixA_94 ⟨Nat.zero_le _, Nat.zero_le _⟩ (fun H locs hW => ?_)
      refine lv_aload_n hx hb dX0_mixA_97 rfl (lv_at hl 0 rfl) ?_
      refine k_V (rest := []) (wr := [(aX, arI cI 16 x), (aO, arI cI 16 u)]) (w' := [(o, obj 0 fs), (aX, arI cI 16 x), (aO, arI cI 16 u), (aR, arL cL 8 (acrossF (crossAllF (acrossF (crossAllF (it_ rndA k (layA x f)))))))]) (q0 := 0) (ci := 0) F hW (ct_X0_acrossA l G cI cB cL o aR fs hf6 (crossAllF (acrossF (crossAllF (it_ rndA k (layA x f)))))) [0, 3] [1, 2] [2, 0, 1, 3] rfl rfl rfl rfl (by decide) rfl rfl rfl rfl g_X0_acrossA ⟨rfl, rfl⟩ hd_X0_acrossA ⟨Nat.le_of_ble_eq_true rfl, Nat.le_of_ble_eq_true rfl⟩ rfl hl.1 rfl (Nat.le_of_ble_eq_true rfl) dX0_mixA_98 ⟨Nat.zero_le _, Nat.zero_le _⟩ (fun H locs hW => ?_)
      have hW : Wd G (tys_ cI cB cL) A s H locs [(o, obj 0 fs), (aX, arI cI 16 x), (aO, arI cI 16 u), (aR, arL cL 8 (rndA k (it_ rndA k (layA x f))))] := hW
      refine n_iinc (lv' := [(3, .int (nI ((2 * k) + 2))), (0, .ref o), (1, .ref aX), (2, .int (nI (2 * M)))]) (k := 3) (d := 2) hx hb dX0_mixA_101 hl rfl (by decide) (by decide) rfl (fun ls hl => ?_)
      refine lv_goto (tgt := 80) hx hb dX0_mixA_104 (by decide) ?_
      exact ihk (k + 1) (by omega) H locs ls (hW.eq (by rw [it_s rndA k (layA x f)])) (lv_sub hl [1, 2, 3, 0] rfl)
  exact loop1 M 0 (by omega) _ _ _ (hW.eq (by rw [it_0 rndA (layA x f)])) (lv_sub hl [1, 2, 3, 0] rfl)
set_option maxHeartbeats 4000000 in
theorem ct_X0_mixB (l : Launch) (G : va_G) (cI cB cL : ClassId) (o aX aR : Nat) (fs : List Value) (hf6 : fs[6]? = some (.ref aR)) (x : Nat → Int32) (f : Nat → Int64) (M : Nat) (hM : M ≤ 16) : CV l yX0_mixB (ws_ yX0_mixB cX0_mixB 5 none) (rm_ 3 69) G (tys_ cI cB cL) [.ref o, .ref aX, .int (nI (2 * M))] [(o, obj 0 fs), (aX, arI cI 16 x), (aR, arL cL 8 f)] [(o, obj 0 fs), (aX, arI cI 16 x), (aR, arL cL 8 (rowB M x f))] := by
  refine CV.of (by decide) (Nat.le_of_ble_eq_true rfl) ?_
  intro p e s m below meth c A ls F hW hl
  have F : Fx p m c cX0_mixB 5 s ([.ref o, .ref aX, .int (nI (2 * M))] : List Value).toArray RX0 meth none := F
  obtain ⟨⟨hx, hb, hml, hown, hts⟩, hr, hlocks⟩ := id F
  have hl : lv_has ls 5 [(0, .ref o), (1, .ref aX), (2, .int (nI (2 * M)))] := hl
  refine lv_iconst (v := nI 0) hx hb dX0_mixB_0 (by decide) ?_
  refine lv_istore_n (lv' := [(3, .int (nI 0)), (0, .ref o), (1, .ref aX), (2, .int (nI (2 * M)))]) hx hb dX0_mixB_1 rfl hl (by decide) rfl (fun ls hl => ?_)
  have loopR : ∀ (nk k : Nat), k + nk = M → ∀ (H : Heap) (locs : List Loc) (ls : Array Slot), Wd G (tys_ cI cB cL) A s H locs [(o, obj 0 fs), (aX, arI cI 16 x), (aR, arL cL 8 (it_ rndB k (it_ (layBK x) 4 f)))] → lv_has ls 5 [(0, .ref o), (1, .ref aX), (2, .int (nI (2 * M))), (3, .int (nI (2 * k)))] → W p l e (rm_ 3 69) s m ([.ref o, .ref aX, .int (nI (2 * M))] : List Value).toArray below meth c H locs 0 0 (MQ below (QV G (tys_ cI cB cL) [(o, obj 0 fs), (aX, arI cI 16 x), (aR, arL cL 8 (rowB M x f))] A) ([.ref o, .ref aX, .int (nI (2 * M))] : List Value).toArray s 0 0 A) (F0 m 46 ls []) := by
    intro nk
    induction nk with
    | zero =>
      intro k hk H locs ls hW hl
      have hk : k = M := by omega
      rw [hk] at hW hl
      refine lv_iload_n hx hb dX0_mixB_46 rfl (lv_at hl 3 rfl) ?_
      refine lv_iload_n hx hb dX0_mixB_47 rfl (lv_at hl 2 rfl) ?_
      refine n_ge_t (tgt := 113) hx hb (by omega) (by omega) dX0_mixB_48 (by decide) ?_
      have hW : Wd G (tys_ cI cB cL) A s H locs [(o, obj 0 fs), (aX, arI cI 16 x), (aR, arL cL 8 (rowB M x f))] := hW
      exact r_vret F hW dX0_mixB_113
    | succ nk ihk =>
      intro k hk H locs ls hW hl
      have hkN : k < M := by omega
      refine lv_iload_n hx hb dX0_mixB_46 rfl (lv_at hl 3 rfl) ?_
      refine lv_iload_n hx hb dX0_mixB_47 rfl (lv_at hl 2 rfl) ?_
      refine n_ge_f (tgt := 113) hx hb (by omega) (by omega) dX0_mixB_48 (by decide) ?_
      refine lv_aload_n hx hb dX0_mixB_51 rfl (lv_at hl 0 rfl) ?_
      refine k_V (rest := []) (wr := [(aX, arI cI 16 x)]) (w' := [(o, obj 0 fs), (aX, arI cI 16 x), (aR, arL cL 8 (quarterAllF (it_ rndB k (it_ (layBK x) 4 f))))]) (q0 := 0) (ci := 0) F hW (ct_X0_quarterAll l G cI cB cL o aR fs hf6 (it_ rndB k (it_ (layBK x) 4 f))) [0, 2] [1] [1, 0, 2] rfl rfl rfl rfl (by decide) rfl rfl rfl rfl g_X0_quarterAll ⟨rfl, rfl⟩ hd_X0_quarterAll ⟨Nat.le_of_ble_eq_true rfl, Nat.le_of_ble_eq_true rfl⟩ rfl hl.1 rfl (Nat.le_of_ble_eq_true rfl) dX0_mixB_52 ⟨Nat.zero_le _, Nat.zero_le _⟩ (fun H locs hW => ?_)
      refine lv_iconst (v := nI 1) hx hb dX0_mixB_55 (by decide) ?_
      refine lv_istore (lv' := [(4, .int (nI 1)), (0, .ref o), (1, .ref aX), (2, .int (nI (2 * M))), (3, .int (nI (2 * k)))]) hx hb dX0_mixB_56 hl (by decide) rfl (fun ls hl => ?_)
      have in2 : ∀ (nj j : Nat), j + nj = 3 → ∀ (H : Heap) (locs : List Loc) (ls : Array Slot), Wd G (tys_ cI cB cL) A s H locs [(o, obj 0 fs), (aX, arI cI 16 x), (aR, arL cL 8 (it_ shB2 j (quarterAllF (it_ shB1 3 (quarterAllF (it_ rndB k (it_ (layBK x) 4 f)))))))] → lv_has ls 5 [(0, .ref o), (1, .ref aX), (2, .int (nI (2 * M))), (3, .int (nI (2 * k))), (4, .int (nI (1 + j)))] → W p l e (rm_ 3 69) s m ([.ref o, .ref aX, .int (nI (2 * M))] : List Value).toArray below meth c H locs 0 0 (MQ below (QV G (tys_ cI cB cL) [(o, obj 0 fs), (aX, arI cI 16 x), (aR, arL cL 8 (rowB M x f))] A) ([.ref o, .ref aX, .int (nI (2 * M))] : List Value).toArray s 0 0 A) (F0 m 85 ls []) := by
        intro nj
        induction nj with
        | zero =>
          intro j hj H locs ls hW hl
          obtain rfl : j = 3 := by omega
          refine lv_iload hx hb dX0_mixB_85 (lv_at hl 4 rfl) ?_
          refine lv_iconst (v := nI 4) hx hb dX0_mixB_87 (by decide) ?_
          refine n_ge_t (tgt := 107) hx hb (by omega) (by omega) dX0_mixB_88 (by decide) ?_
          have hW : Wd G (tys_ cI cB cL) A s H locs [(o, obj 0 fs), (aX, arI cI 16 x), (aR, arL cL 8 (rndB k (it_ rndB k (it_ (layBK x) 4 f))))] := hW
          refine n_iinc (lv' := [(3, .int (nI ((2 * k) + 2))), (0, .ref o), (1, .ref aX), (2, .int (nI (2 * M))), (4, .int (nI (1 + 3)))]) (k := 3) (d := 2) hx hb dX0_mixB_107 hl rfl (by decide) (by decide) rfl (fun ls hl => ?_)
          refine lv_goto (tgt := 46) hx hb dX0_mixB_110 (by decide) ?_
          exact ihk (k + 1) (by omega) H locs ls (hW.eq (by rw [it_s rndB k (it_ (layBK x) 4 f)])) (lv_sub hl [1, 2, 3, 0] rfl)
        | succ nj ihj =>
          intro j hj H locs ls hW hl
          have hjN : j < 3 := by omega
          refine lv_iload hx hb dX0_mixB_85 (lv_at hl 4 rfl) ?_
          refine lv_iconst (v := nI 4) hx hb dX0_mixB_87 (by decide) ?_
          refine n_ge_f (tgt := 107) hx hb (by omega) (by omega) dX0_mixB_88 (by decide) ?_
          refine lv_aload_n hx hb dX0_mixB_91 rfl (lv_at hl 0 rfl) ?_
          refine lv_iload hx hb dX0_mixB_92 (lv_at hl 4 rfl) ?_
          refine lv_iconst (v := nI 4) hx hb dX0_mixB_94 (by decide) ?_
          refine lv_iload hx hb dX0_mixB_95 (lv_at hl 4 rfl) ?_
          refine n_sub hx hb (by omega) dX0_mixB_97 ?_
          refine k_V (rest := []) (wr := [(aX, arI cI 16 x)]) (w' := [(o, obj 0 fs), (aX, arI cI 16 x), (aR, arL cL 8 (shiftF (1 + j) (4 - (1 + j)) (it_ shB2 j (quarterAllF (it_ shB1 3 (quarterAllF (it_ rndB k (it_ (layBK x) 4 f))))))))]) (q0 := 0) (ci := 0) F hW (ct_X0_shift l G cI cB cL o aR fs hf6 (it_ shB2 j (quarterAllF (it_ shB1 3 (quarterAllF (it_ rndB k (it_ (layBK x) 4 f)))))) (1 + j) (4 - (1 + j)) (by omega)) [0, 2] [1] [1, 0, 2] rfl rfl rfl rfl (by decide) rfl rfl rfl rfl g_X0_shift ⟨rfl, rfl⟩ hd_X0_shift ⟨Nat.le_of_ble_eq_true rfl, Nat.le_of_ble_eq_true rfl⟩ rfl hl.1 rfl (Nat.le_of_ble_eq_true rfl) dX0_mixB_98 ⟨Nat.zero_le _, Nat.zero_le _⟩ (fun H locs hW => ?_)
          have hW : Wd G (tys_ cI cB cL) A s H locs [(o, obj 0 fs), (aX, arI cI 16 x), (aR, arL cL 8 (shB2 j (it_ shB2 j (quarterAllF (it_ shB1 3 (quarterAllF (it_ rndB k (it_ (layBK x) 4 f))))))))] := hW
          refine n_iinc (lv' := [(4, .int (nI ((1 + j) + 1))), (0, .ref o), (1, .ref aX), (2, .int (nI (2 * M))), (3, .int (nI (2 * k)))]) (k := 4) (d := 1) hx hb dX0_mixB_101 hl rfl (by decide) (by decide) rfl (fun ls hl => ?_)
          refine lv_goto (tgt := 85) hx hb dX0_mixB_104 (by decide) ?_
          exact ihj (j + 1) (by omega) H locs ls (hW.eq (by rw [it_s shB2 j (quarterAllF (it_ shB1 3 (quarterAllF (it_ rndB k (it_ (layBK x) 4 f)))))])) (lv_sub hl [1, 2, 3, 4, 0] rfl)
      have in1 : ∀ (nj j : Nat), j + nj = 3 → ∀ (H : Heap) (locs : List Loc) (ls : Array Slot), Wd G (tys_ cI cB cL) A s H locs [(o, obj 0 fs), (aX, arI cI 16 x), (aR, arL cL 8 (it_ shB1 j (quarterAllF (it_ rndB k (it_ (layBK x) 4 f)))))] → lv_has ls 5 [(0, .ref o), (1, .ref aX), (2, .int (nI (2 * M))), (3, .int (nI (2 * k))), (4, .int (nI (1 + j)))] → W p l e (rm_ 3 69) s m ([.ref o, .ref aX, .int (nI (2 * M))] : List Value).toArray below meth c H locs 0 0 (MQ below (QV G (tys_ cI cB cL) [(o, obj 0 fs), (aX, arI cI 16 x), (aR, arL cL 8 (rowB M x f))] A) ([.ref o, .ref aX, .int (nI (2 * M))] : List Value).toArray s 0 0 A) (F0 m 58 ls []) := by
        intro nj
        induction nj with
        | zero =>
          intro j hj H locs ls hW hl
          obtain rfl : j = 3 := by omega
          refine lv_iload hx hb dX0_mixB_58 (lv_at hl 4 rfl) ?_
          refine lv_iconst (v := nI 4) hx hb dX0_mixB_60 (by decide) ?_
          refine n_ge_t (tgt := 78) hx hb (by omega) (by omega) dX0_mixB_61 (by decide) ?_
          refine lv_aload_n hx hb dX0_mixB_78 rfl (lv_at hl 0 rfl) ?_
          refine k_V (rest := []) (wr := [(aX, arI cI 16 x)]) (w' := [(o, obj 0 fs), (aX, arI cI 16 x), (aR, arL cL 8 (quarterAllF (it_ shB1 3 (quarterAllF (it_ rndB k (it_ (layBK x) 4 f))))))]) (q0 := 0) (ci := 0) F hW (ct_X0_quarterAll l G cI cB cL o aR fs hf6 (it_ shB1 3 (quarterAllF (it_ rndB k (it_ (layBK x) 4 f))))) [0, 2] [1] [1, 0, 2] rfl rfl rfl rfl (by decide) rfl rfl rfl rfl g_X0_quarterAll ⟨rfl, rfl⟩ hd_X0_quarterAll ⟨Nat.le_of_ble_eq_true rfl, Nat.le_of_ble_eq_true rfl⟩ rfl hl.1 rfl (Nat.le_of_ble_eq_true rfl) dX0_mixB_79 ⟨Nat.zero_le _, Nat.zero_le _⟩ (fun H locs hW => ?_)
          refine lv_iconst (v := nI 1) hx hb dX0_mixB_82 (by decide) ?_
          refine lv_istore (lv' := [(4, .int (nI 1)), (0, .ref o), (1, .ref aX), (2, .int (nI (2 * M))), (3, .int (nI (2 * k)))]) hx hb dX0_mixB_83 hl (by decide) rfl (fun ls hl => ?_)
          exact in2 3 0 (by omega) _ _ _ (hW.eq (by rw [it_0 shB2 (quarterAllF (it_ shB1 3 (quarterAllF (it_ rndB k (it_ (layBK x) 4 f)))))])) (lv_sub hl [1, 2, 3, 4, 0] rfl)
        | succ nj ihj =>
          intro j hj H locs ls hW hl
          have hjN : j < 3 := by omega
          refine lv_iload hx hb dX0_mixB_58 (lv_at hl 4 rfl) ?_
          refine lv_iconst (v := nI 4) hx hb dX0_mixB_60 (by decide) ?_
          refine n_ge_f (tgt := 78) hx hb (by omega) (by omega) dX0_mixB_61 (by decide) ?_
          refine lv_aload_n hx hb dX0_mixB_64 rfl (lv_at hl 0 rfl) ?_
          refine lv_iload hx hb dX0_mixB_65 (lv_at hl 4 rfl) ?_
          refine lv_iload hx hb dX0_mixB_67 (lv_at hl 4 rfl) ?_
          refine k_V (rest := []) (wr := [(aX, arI cI 16 x)]) (w' := [(o, obj 0 fs), (aX, arI cI 16 x), (aR, arL cL 8 (shiftF (1 + j) (1 + j) (it_ shB1 j (quarterAllF (it_ rndB k (it_ (layBK x) 4 f))))))]) (q0 := 0) (ci := 0) F hW (ct_X0_shift l G cI cB cL o aR fs hf6 (it_ shB1 j (quarterAllF (it_ rndB k (it_ (layBK x) 4 f)))) (1 + j) (1 + j) (by omega)) [0, 2] [1] [1, 0, 2] rfl rfl rfl rfl (by decide) rfl rfl rfl rfl g_X0_shift ⟨rfl, rfl⟩ hd_X0_shift ⟨Nat.le_of_ble_eq_true rfl, Nat.le_of_ble_eq_true rfl⟩ rfl hl.1 rfl (Nat.le_of_ble_eq_true rfl) dX0_mixB_69 ⟨Nat.zero_le _, Nat.zero_le _⟩ (fun H locs hW => ?_)
          have hW : Wd G (tys_ cI cB cL) A s H locs [(o, obj 0 fs), (aX, arI cI 16 x), (aR, arL cL 8 (shB1 j (it_ shB1 j (quarterAllF (it_ rndB k (it_ (layBK x) 4 f))))))] := hW
          refine n_iinc (lv' := [(4, .int (nI ((1 + j) + 1))), (0, .ref o), (1, .ref aX), (2, .int (nI (2 * M))), (3, .int (nI (2 * k)))]) (k := 4) (d := 1) hx hb dX0_mixB_72 hl rfl (by decide) (by decide) rfl (fun ls hl => ?_)
          refine lv_goto (tgt := 58) hx hb dX0_mixB_75 (by decide) ?_
          exact ihj (j + 1) (by omega) H locs ls (hW.eq (by rw [it_s shB1 j (quarterAllF (it_ rndB k (it_ (layBK x) 4 f)))])) (lv_sub hl [1, 2, 3, 4, 0] rfl)
      exact in1 3 0 (by omega) _ _ _ (hW.eq (by rw [it_0 shB1 (quarterAllF (it_ rndB k (it_ (layBK x) 4 f)))])) (lv_sub hl [1, 2, 3, 4, 0] rfl)
  have loopL : ∀ (nk k : Nat), k + nk = 4 → ∀ (H : Heap) (locs : List Loc) (ls : Array Slot), Wd G (tys_ cI cB cL) A s H locs [(o, obj 0 fs), (aX, arI cI 16 x), (aR, arL cL 8 (it_ (layBK x) k f))] → lv_has ls 5 [(0, .ref o), (1, .ref aX), (2, .int (nI (2 * M))), (3, .int (nI k))] → W p l e (rm_ 3 69) s m ([.ref o, .ref aX, .int (nI (2 * M))] : List Value).toArray below meth c H locs 0 0 (MQ below (QV G (tys_ cI cB cL) [(o, obj 0 fs), (aX, arI cI 16 x), (aR, arL cL 8 (rowB M x f))] A) ([.ref o, .ref aX, .int (nI (2 * M))] : List Value).toArray s 0 0 A) (F0 m 2 ls []) := by
    intro nk
    induction nk with
    | zero =>
      intro k hk H locs ls hW hl
      obtain rfl : k = 4 := by omega
      refine lv_iload_n hx hb dX0_mixB_2 rfl (lv_at hl 3 rfl) ?_
      refine lv_iconst (v := nI 4) hx hb dX0_mixB_3 (by decide) ?_
      refine n_ge_t (tgt := 44) hx hb (by omega) (by omega) dX0_mixB_4 (by decide) ?_
      refine lv_iconst (v := nI 0) hx hb dX0_mixB_44 (by decide) ?_
      refine lv_istore_n (lv' := [(3, .int (nI 0)), (0, .ref o), (1, .ref aX), (2, .int (nI (2 * M)))]) hx hb dX0_mixB_45 rfl hl (by decide) rfl (fun ls hl => ?_)
      exact loopR M 0 (by omega) _ _ _ (hW.eq (by rw [it_0 rndB (it_ (layBK x) 4 f)])) (lv_sub hl [1, 2, 3, 0] rfl)
    | succ nk ihk =>
      intro k hk H locs ls hW hl
      have hkN : k < 4 := by omega
      refine lv_iload_n hx hb dX0_mixB_2 rfl (lv_at hl 3 rfl) ?_
      refine lv_iconst (v := nI 4) hx hb dX0_mixB_3 (by decide) ?_
      refine n_ge_f (tgt := 44) hx hb (by omega) (by omega) dX0_mixB_4 (by decide) ?_
      refine lv_aload_n hx hb dX0_mixB_7 rfl (lv_at hl 0 rfl) ?_
      refine lv_iload_n hx hb dX0_mixB_8 rfl (lv_at hl 3 rfl) ?_
      refine lv_aload_n hx hb dX0_mixB_9 rfl (lv_at hl 1 rfl) ?_
      refine lv_iconst (v := nI 4) hx hb dX0_mixB_10 (by decide) ?_
      refine lv_iload_n hx hb dX0_mixB_11 rfl (lv_at hl 3 rfl) ?_
      refine n_mul hx hb dX0_mixB_12 ?_
      refine r_iald F hW 1 rfl (4 * k) (by omega) (by decide) dX0_mixB_13 ?_
      refine lv_aload_n hx hb dX0_mixB_14 rfl (lv_at hl 1 rfl) ?_
      refine lv_iconst (v := nI 4) hx hb dX0_mixB_15 (by decide) ?_
      refine lv_iload_n hx hb dX0_mixB_16 rfl (lv_at hl 3 rfl) ?_
      refine n_mul hx hb dX0_mixB_17 ?_
      refine lv_iconst (v := nI 1) hx hb dX0_mixB_18 (by decide) ?_
      refine n_add hx hb dX0_mixB_19 ?_
      refine r_iald F hW 1 rfl ((4 * k) + 1) (by omega) (by decide) dX0_mixB_20 ?_
      refine lv_aload_n hx hb dX0_mixB_21 rfl (lv_at hl 1 rfl) ?_
      refine lv_iconst (v := nI 4) hx hb dX0_mixB_22 (by decide) ?_
      refine lv_iload_n hx hb dX0_mixB_23 rfl (lv_at hl 3 rfl) ?_
      refine n_mul hx hb dX0_mixB_24 ?_
      refine lv_iconst (v := nI 2) hx hb dX0_mixB_25 (by decide) ?_
      refine n_add hx hb dX0_mixB_26 ?_
      refine r_iald F hW 1 rfl ((4 * k) + 2) (by omega) (by decide) dX0_mixB_27 ?_
      refine lv_aload_n hx hb dX0_mixB_28 rfl (lv_at hl 1 rfl) ?_
      refine lv_iconst (v := nI 4) hx hb dX0_mixB_29 (by decide) ?_
      refine lv_iload_n hx hb dX0_mixB_30 rfl (lv_at hl 3 rfl) ?_
      refine n_mul hx hb dX0_mixB_31 ?_
      refine lv_iconst (v := nI 3) hx hb dX0_mixB_32 (by decide) ?_
      refine n_add hx hb dX0_mixB_33 ?_
      refine r_iald F hW 1 rfl ((4 * k) + 3) (by omega) (by decide) dX0_mixB_34 ?_
      refine k_V (rest := []) (wr := [(aX, arI cI 16 x)]) (w' := [(o, obj 0 fs), (aX, arI cI 16 x), (aR, arL cL 8 (layF k (x (4 * k)) (x ((4 * k) + 1)) (x ((4 * k) + 2)) (x ((4 * k) + 3)) (it_ (layBK x) k f)))]) (q0 := 0) (ci := 0) F hW (ct_X0_lay l G cI cB cL o aR fs hf6 (it_ (layBK x) k f) k (x (4 * k)) (x ((4 * k) + 1)) (x ((4 * k) + 2)) (x ((4 * k) + 3)) (by omega)) [0, 2] [1] [1, 0, 2] rfl rfl rfl rfl (by decide) rfl rfl rfl rfl g_X0_lay ⟨rfl, rfl⟩ hd_X0_lay ⟨Nat.le_of_ble_eq_true rfl, Nat.le_of_ble_eq_true rfl⟩ rfl hl.1 rfl (Nat.le_of_ble_eq_true rfl) dX0_mixB_35 ⟨Nat.zero_le _, Nat.zero_le _⟩ (fun H locs hW => ?_)
      have hW : Wd G (tys_ cI cB cL) A s H locs [(o, obj 0 fs), (aX, arI cI 16 x), (aR, arL cL 8 (layBK x k (it_ (layBK x) k f)))] := hW
      refine n_iinc (lv' := [(3, .int (nI (k + 1))), (0, .ref o), (1, .ref aX), (2, .int (nI (2 * M)))]) (k := 3) (d := 1) hx hb dX0_mixB_38 hl rfl (by decide) (by decide) rfl (fun ls hl => ?_)
      refine lv_goto (tgt := 2) hx hb dX0_mixB_41 (by decide) ?_
      exact ihk (k + 1) (by omega) H locs ls (hW.eq (by rw [it_s (layBK x) k f])) (lv_sub hl [1, 2, 3, 0] rfl)
  exact loopL 4 0 (by omega) _ _ _ (hW.eq (by rw [it_0 (layBK x) f])) (lv_sub hl [1, 2, 3, 0] rfl)
end
section
set_option maxRecDepth 100000
set_option maxHeartbeats 4000000 in
theorem ct_X0_put (l : Launch) (G : va_G) (cI cB cL : ClassId) (o aI : Nat) (fs : List Value) (hf0 : fs[0]? = some (.ref aI)) (x : Nat → Int32) (a b c_ d e_ : Int32) : CV l yX0_put (ws_ yX0_put cX0_put 7 none) (rm_ 0 0) G (tys_ cI cB cL) [.ref o, .int a, .int b, .int c_, .int d, .int e_] [(o, obj 0 fs), (aI, arI cI 16 x)] [(o, obj 0 fs), (aI, arI cI 16 (put4 (4 * (a.toBitVec.toNat % 4)) b c_ d e_ x))] := by
  refine CV.of (by decide) (Nat.le_of_ble_eq_true rfl) ?_
  intro p e s m below meth c A ls F hW hl
  have F : Fx p m c cX0_put 7 s ([.ref o, .int a, .int b, .int c_, .int d, .int e_] : List Value).toArray RX0 meth none := F
  obtain ⟨⟨hx, hb, hml, hown, hts⟩, hr, hlocks⟩ := id F
  have hl : lv_has ls 7 [(0, .ref o), (1, .int a), (2, .int b), (3, .int c_), (4, .int d), (5, .int e_)] := hl
  refine lv_iconst (v := nI 4) hx hb dX0_put_0 (by decide) ?_
  refine lv_iload_n hx hb dX0_put_1 rfl (lv_at hl 1 rfl) ?_
  refine lv_iconst (v := nI 3) hx hb dX0_put_2 (by decide) ?_
  refine x_and hx hb 2 4 (by decide) (by decide) dX0_put_3 ?_
  refine n_mul hx hb dX0_put_4 ?_
  refine lv_istore (lv' := [(6, .int (nI (4 * (a.toBitVec.toNat % 4)))), (0, .ref o), (1, .int a), (2, .int b), (3, .int c_), (4, .int d), (5, .int e_)]) hx hb dX0_put_5 hl (by decide) rfl (fun ls hl => ?_)
  refine lv_aload_n hx hb dX0_put_7 rfl (lv_at hl 1 rfl) ?_
  refine r_getX F hW 0 0 rfl (by decide) rfl q26 hf0 dX0_put_8 ?_
  refine lv_iload hx hb dX0_put_11 (lv_at hl 0 rfl) ?_
  refine lv_iload_n hx hb dX0_put_13 rfl (lv_at hl 3 rfl) ?_
  refine r_iast (w' := [(o, obj 0 fs), (aI, arI cI 16 (upd x (4 * (a.toBitVec.toNat % 4)) b))]) F hW 1 rfl (4 * (a.toBitVec.toNat % 4)) (by omega) (by decide) (upd x (4 * (a.toBitVec.toNat % 4)) b) rfl rfl dX0_put_14 (fun H locs hW => ?_)
  refine lv_aload_n hx hb dX0_put_15 rfl (lv_at hl 1 rfl) ?_
  refine r_getX F hW 0 0 rfl (by decide) rfl q26 hf0 dX0_put_16 ?_
  refine lv_iload hx hb dX0_put_19 (lv_at hl 0 rfl) ?_
  refine lv_iconst (v := nI 1) hx hb dX0_put_21 (by decide) ?_
  refine n_add hx hb dX0_put_22 ?_
  refine lv_iload_n hx hb dX0_put_23 rfl (lv_at hl 4 rfl) ?_
  refine r_iast (w' := [(o, obj 0 fs), (aI, arI cI 16 (upd (upd x (4 * (a.toBitVec.toNat % 4)) b) ((4 * (a.toBitVec.toNat % 4)) + 1) c_))]) F hW 1 rfl ((4 * (a.toBitVec.toNat % 4)) + 1) (by omega) (by decide) (upd (upd x (4 * (a.toBitVec.toNat % 4)) b) ((4 * (a.toBitVec.toNat % 4)) + 1) c_) rfl rfl dX0_put_24 (fun H locs hW => ?_)
  refine lv_aload_n hx hb dX0_put_25 rfl (lv_at hl 1 rfl) ?_
  refine r_getX F hW 0 0 rfl (by decide) rfl q26 hf0 dX0_put_26 ?_
  refine lv_iload hx hb dX0_put_29 (lv_at hl 0 rfl) ?_
  refine lv_iconst (v := nI 2) hx hb dX0_put_31 (by decide) ?_
  refine n_add hx hb dX0_put_32 ?_
  refine lv_iload hx hb dX0_put_33 (lv_at hl 5 rfl) ?_
  refine r_iast (w' := [(o, obj 0 fs), (aI, arI cI 16 (upd (upd (upd x (4 * (a.toBitVec.toNat % 4)) b) ((4 * (a.toBitVec.toNat % 4)) + 1) c_) ((4 * (a.toBitVec.toNat % 4)) + 2) d))]) F hW 1 rfl ((4 * (a.toBitVec.toNat % 4)) + 2) (by omega) (by decide) (upd (upd (upd x (4 * (a.toBitVec.toNat % 4)) b) ((4 * (a.toBitVec.toNat % 4)) + 1) c_) ((4 * (a.toBitVec.toNat % 4)) + 2) d) rfl rfl dX0_put_35 (fun H locs hW => ?_)
  refine lv_aload_n hx hb dX0_put_36 rfl (lv_at hl 1 rfl) ?_
  refine r_getX F hW 0 0 rfl (by decide) rfl q26 hf0 dX0_put_37 ?_
  refine lv_iload hx hb dX0_put_40 (lv_at hl 0 rfl) ?_
  refine lv_iconst (v := nI 3) hx hb dX0_put_42 (by decide) ?_
  refine n_add hx hb dX0_put_43 ?_
  refine lv_iload hx hb dX0_put_44 (lv_at hl 6 rfl) ?_
  refine r_iast (w' := [(o, obj 0 fs), (aI, arI cI 16 (put4 (4 * (a.toBitVec.toNat % 4)) b c_ d e_ x))]) F hW 1 rfl ((4 * (a.toBitVec.toNat % 4)) + 3) (by omega) (by decide) (put4 (4 * (a.toBitVec.toNat % 4)) b c_ d e_ x) rfl rfl dX0_put_46 (fun H locs hW => ?_)
  exact r_vret F hW dX0_put_47
set_option maxHeartbeats 4000000 in
theorem ct_X0_key (l : Launch) (G : va_G) (cI cB cL : ClassId) (o aI : Nat) (fs : List Value) (hf2 : fs[2]? = some (.ref aI)) (x : Nat → Int32) (a b c_ d e_ : Int32) : CV l yX0_key (ws_ yX0_key cX0_key 7 none) (rm_ 0 0) G (tys_ cI cB cL) [.ref o, .int a, .int b, .int c_, .int d, .int e_] [(o, obj 0 fs), (aI, arI cI 8 x)] [(o, obj 0 fs), (aI, arI cI 8 (put4 (4 * (a.toBitVec.toNat % 2)) b c_ d e_ x))] := by
  refine CV.of (by decide) (Nat.le_of_ble_eq_true rfl) ?_
  intro p e s m below meth c A ls F hW hl
  have F : Fx p m c cX0_key 7 s ([.ref o, .int a, .int b, .int c_, .int d, .int e_] : List Value).toArray RX0 meth none := F
  obtain ⟨⟨hx, hb, hml, hown, hts⟩, hr, hlocks⟩ := id F
  have hl : lv_has ls 7 [(0, .ref o), (1, .int a), (2, .int b), (3, .int c_), (4, .int d), (5, .int e_)] := hl
  refine lv_iconst (v := nI 4) hx hb dX0_key_0 (by decide) ?_
  refine lv_iload_n hx hb dX0_key_1 rfl (lv_at hl 1 rfl) ?_
  refine lv_iconst (v := nI 1) hx hb dX0_key_2 (by decide) ?_
  refine x_and hx hb 1 2 (by decide) (by decide) dX0_key_3 ?_
  refine n_mul hx hb dX0_key_4 ?_
  refine lv_istore (lv' := [(6, .int (nI (4 * (a.toBitVec.toNat % 2)))), (0, .ref o), (1, .int a), (2, .int b), (3, .int c_), (4, .int d), (5, .int e_)]) hx hb dX0_key_5 hl (by decide) rfl (fun ls hl => ?_)
  refine lv_aload_n hx hb dX0_key_7 rfl (lv_at hl 1 rfl) ?_
  refine r_getX F hW 0 2 rfl (by decide) rfl q28 hf2 dX0_key_8 ?_
  refine lv_iload hx hb dX0_key_11 (lv_at hl 0 rfl) ?_
  refine lv_iload_n hx hb dX0_key_13 rfl (lv_at hl 3 rfl) ?_
  refine r_iast (w' := [(o, obj 0 fs), (aI, arI cI 8 (upd x (4 * (a.toBitVec.toNat % 2)) b))]) F hW 1 rfl (4 * (a.toBitVec.toNat % 2)) (by omega) (by decide) (upd x (4 * (a.toBitVec.toNat % 2)) b) rfl rfl dX0_key_14 (fun H locs hW => ?_)
  refine lv_aload_n hx hb dX0_key_15 rfl (lv_at hl 1 rfl) ?_
  refine r_getX F hW 0 2 rfl (by decide) rfl q28 hf2 dX0_key_16 ?_
  refine lv_iload hx hb dX0_key_19 (lv_at hl 0 rfl) ?_
  refine lv_iconst (v := nI 1) hx hb dX0_key_21 (by decide) ?_
  refine n_add hx hb dX0_key_22 ?_
  refine lv_iload_n hx hb dX0_key_23 rfl (lv_at hl 4 rfl) ?_
  refine r_iast (w' := [(o, obj 0 fs), (aI, arI cI 8 (upd (upd x (4 * (a.toBitVec.toNat % 2)) b) ((4 * (a.toBitVec.toNat % 2)) + 1) c_))]) F hW 1 rfl ((4 * (a.toBitVec.toNat % 2)) + 1) (by omega) (by decide) (upd (upd x (4 * (a.toBitVec.toNat % 2)) b) ((4 * (a.toBitVec.toNat % 2)) + 1) c_) rfl rfl dX0_key_24 (fun H locs hW => ?_)
  refine lv_aload_n hx hb dX0_key_25 rfl (lv_at hl 1 rfl) ?_
  refine r_getX F hW 0 2 rfl (by decide) rfl q28 hf2 dX0_key_26 ?_
  refine lv_iload hx hb dX0_key_29 (lv_at hl 0 rfl) ?_
  refine lv_iconst (v := nI 2) hx hb dX0_key_31 (by decide) ?_
  refine n_add hx hb dX0_key_32 ?_
  refine lv_iload hx hb dX0_key_33 (lv_at hl 5 rfl) ?_
  refine r_iast (w' := [(o, obj 0 fs), (aI, arI cI 8 (upd (upd (upd x (4 * (a.toBitVec.toNat % 2)) b) ((4 * (a.toBitVec.toNat % 2)) + 1) c_) ((4 * (a.toBitVec.toNat % 2)) + 2) d))]) F hW 1 rfl ((4 * (a.toBitVec.toNat % 2)) + 2) (by omega) (by decide) (upd (upd (upd x (4 * (a.toBitVec.toNat % 2)) b) ((4 * (a.toBitVec.toNat % 2)) + 1) c_) ((4 * (a.toBitVec.toNat % 2)) + 2) d) rfl rfl dX0_key_35 (fun H locs hW => ?_)
  refine lv_aload_n hx hb dX0_key_36 rfl (lv_at hl 1 rfl) ?_
  refine r_getX F hW 0 2 rfl (by decide) rfl q28 hf2 dX0_key_37 ?_
  refine lv_iload hx hb dX0_key_40 (lv_at hl 0 rfl) ?_
  refine lv_iconst (v := nI 3) hx hb dX0_key_42 (by decide) ?_
  refine n_add hx hb dX0_key_43 ?_
  refine lv_iload hx hb dX0_key_44 (lv_at hl 6 rfl) ?_
  refine r_iast (w' := [(o, obj 0 fs), (aI, arI cI 8 (put4 (4 * (a.toBitVec.toNat % 2)) b c_ d e_ x))]) F hW 1 rfl ((4 * (a.toBitVec.toNat % 2)) + 3) (by omega) (by decide) (put4 (4 * (a.toBitVec.toNat % 2)) b c_ d e_ x) rfl rfl dX0_key_46 (fun H locs hW => ?_)
  exact r_vret F hW dX0_key_47
set_option maxHeartbeats 4000000 in
theorem ct_X0_salsa (l : Launch) (G : va_G) (cI cB cL : ClassId) (o aI aO aR : Nat) (fs : List Value) (hf0 : fs[0]? = some (.ref aI)) (hf1 : fs[1]? = some (.ref aO)) (hf6 : fs[6]? = some (.ref aR)) (x u : Nat → Int32) (f : Nat → Int64) (a : Int32) : CV l yX0_salsa (ws_ yX0_salsa cX0_salsa 2 none) (rm_ 4 92) G (tys_ cI cB cL) [.ref o, .int a] [(o, obj 0 fs), (aI, arI cI 16 x), (aO, arI cI 16 u), (aR, arL cL 8 f)] [(o, obj 0 fs), (aI, arI cI 16 x), (aO, arI cI 16 (mixAo (1 + a.toBitVec.toNat % 16) x f u)), (aR, arL cL 8 (rowA (1 + a.toBitVec.toNat % 16) x f))] := by
  refine CV.of (by decide) (Nat.le_of_ble_eq_true rfl) ?_
  intro p e s m below meth c A ls F hW hl
  have F : Fx p m c cX0_salsa 2 s ([.ref o, .int a] : List Value).toArray RX0 meth none := F
  obtain ⟨⟨hx, hb, hml, hown, hts⟩, hr, hlocks⟩ := id F
  have hl : lv_has ls 2 [(0, .ref o), (1, .int a)] := hl
  refine lv_aload_n hx hb dX0_salsa_0 rfl (lv_at hl 0 rfl) ?_
  refine lv_aload_n hx hb dX0_salsa_1 rfl (lv_at hl 0 rfl) ?_
  refine r_getX F hW 0 0 rfl (by decide) rfl q26 hf0 dX0_salsa_2 ?_
  refine lv_iconst (v := nI 2) hx hb dX0_salsa_5 (by decide) ?_
  refine lv_iconst (v := nI 2) hx hb dX0_salsa_6 (by decide) ?_
  refine lv_iload_n hx hb dX0_salsa_7 rfl (lv_at hl 1 rfl) ?_
  refine lv_bipush (v := nI 15) hx hb dX0_salsa_8 (by decide) ?_
  refine x_and hx hb 4 16 (by decide) (by decide) dX0_salsa_10 ?_
  refine n_mul hx hb dX0_salsa_11 ?_
  refine n_add hx hb dX0_salsa_12 ?_
  refine n_eq (y := 2 * (1 + a.toBitVec.toNat % 16)) (by omega) ?_
  refine k_V (rest := []) (wr := []) (w' := [(o, obj 0 fs), (aI, arI cI 16 x), (aO, arI cI 16 (mixAo (1 + a.toBitVec.toNat % 16) x f u)), (aR, arL cL 8 (rowA (1 + a.toBitVec.toNat % 16) x f))]) (q0 := 0) (ci := 0) F hW (ct_X0_mixA l G cI cB cL o aI aO aR fs hf1 hf6 x u f (1 + a.toBitVec.toNat % 16) (by omega)) [0, 1, 2, 3] [] [0, 1, 2, 3] rfl rfl rfl rfl (by decide) rfl rfl rfl rfl g_X0_mixA ⟨rfl, rfl⟩ hd_X0_mixA ⟨Nat.le_of_ble_eq_true rfl, Nat.le_of_ble_eq_true rfl⟩ rfl hl.1 rfl (Nat.le_of_ble_eq_true rfl) dX0_salsa_13 ⟨Nat.zero_le _, Nat.zero_le _⟩ (fun H locs hW => ?_)
  exact r_vret F hW dX0_salsa_16
set_option maxHeartbeats 4000000 in
theorem ct_X0_chacha (l : Launch) (G : va_G) (cI cB cL : ClassId) (o aI aO aR : Nat) (fs : List Value) (hf0 : fs[0]? = some (.ref aI)) (hf1 : fs[1]? = some (.ref aO)) (hf6 : fs[6]? = some (.ref aR)) (x u : Nat → Int32) (f : Nat → Int64) (a : Int32) : CV l yX0_chacha (ws_ yX0_chacha cX0_chacha 3 none) (rm_ 4 93) G (tys_ cI cB cL) [.ref o, .int a] [(o, obj 0 fs), (aI, arI cI 16 x), (aO, arI cI 16 u), (aR, arL cL 8 f)] [(o, obj 0 fs), (aI, arI cI 16 x), (aO, arI cI 16 (it_ (outB x (rowB (1 + a.toBitVec.toNat % 16) x f)) 16 u)), (aR, arL cL 8 (rowB (1 + a.toBitVec.toNat % 16) x f))] := by
  refine CV.of (by decide) (Nat.le_of_ble_eq_true rfl) ?_
  intro p e s m below meth c A ls F hW hl
  have F : Fx p m c cX0_chacha 3 s ([.ref o, .int a] : List Value).toArray RX0 meth none := F
  obtain ⟨⟨hx, hb, hml, hown, hts⟩, hr, hlocks⟩ := id F
  have hl : lv_has ls 3 [(0, .ref o), (1, .int a)] := hl
  refine lv_aload_n hx hb dX0_chacha_0 rfl (lv_at hl 0 rfl) ?_
  refine lv_aload_n hx hb dX0_chacha_1 rfl (lv_at hl 0 rfl) ?_
  refine r_getX F hW 0 0 rfl (by decide) rfl q26 hf0 dX0_chacha_2 ?_
  refine lv_iconst (v := nI 2) hx hb dX0_chacha_5 (by decide) ?_
  refine lv_iconst (v := nI 2) hx hb dX0_chacha_6 (by decide) ?_
  refine lv_iload_n hx hb dX0_chacha_7 rfl (lv_at hl 1 rfl) ?_
  refine lv_bipush (v := nI 15) hx hb dX0_chacha_8 (by decide) ?_
  refine x_and hx hb 4 16 (by decide) (by decide) dX0_chacha_10 ?_
  refine n_mul hx hb dX0_chacha_11 ?_
  refine n_add hx hb dX0_chacha_12 ?_
  refine n_eq (y := 2 * (1 + a.toBitVec.toNat % 16)) (by omega) ?_
  refine k_V (rest := []) (wr := [(aO, arI cI 16 u)]) (w' := [(o, obj 0 fs), (aI, arI cI 16 x), (aO, arI cI 16 u), (aR, arL cL 8 (rowB (1 + a.toBitVec.toNat % 16) x f))]) (q0 := 0) (ci := 0) F hW (ct_X0_mixB l G cI cB cL o aI aR fs hf6 x f (1 + a.toBitVec.toNat % 16) (by omega)) [0, 1, 3] [2] [1, 2, 0, 3] rfl rfl rfl rfl (by decide) rfl rfl rfl rfl g_X0_mixB ⟨rfl, rfl⟩ hd_X0_mixB ⟨Nat.le_of_ble_eq_true rfl, Nat.le_of_ble_eq_true rfl⟩ rfl hl.1 rfl (Nat.le_of_ble_eq_true rfl) dX0_chacha_13 ⟨Nat.zero_le _, Nat.zero_le _⟩ (fun H locs hW => ?_)
  refine lv_iconst (v := nI 0) hx hb dX0_chacha_16 (by decide) ?_
  refine lv_istore_n (lv' := [(2, .int (nI 0)), (0, .ref o), (1, .int a)]) hx hb dX0_chacha_17 rfl hl (by decide) rfl (fun ls hl => ?_)
  have loop : ∀ (nk k : Nat), k + nk = 16 → ∀ (H : Heap) (locs : List Loc) (ls : Array Slot), Wd G (tys_ cI cB cL) A s H locs [(o, obj 0 fs), (aI, arI cI 16 x), (aO, arI cI 16 (it_ (outB x (rowB (1 + a.toBitVec.toNat % 16) x f)) k u)), (aR, arL cL 8 (rowB (1 + a.toBitVec.toNat % 16) x f))] → lv_has ls 3 [(0, .ref o), (1, .int a), (2, .int (nI k))] → W p l e (rm_ 4 93) s m ([.ref o, .int a] : List Value).toArray below meth c H locs 0 0 (MQ below (QV G (tys_ cI cB cL) [(o, obj 0 fs), (aI, arI cI 16 x), (aO, arI cI 16 (it_ (outB x (rowB (1 + a.toBitVec.toNat % 16) x f)) 16 u)), (aR, arL cL 8 (rowB (1 + a.toBitVec.toNat % 16) x f))] A) ([.ref o, .int a] : List Value).toArray s 0 0 A) (F0 m 18 ls []) := by
    intro nk
    induction nk with
    | zero =>
      intro k hk H locs ls hW hl
      obtain rfl : k = 16 := by omega
      refine lv_iload_n hx hb dX0_chacha_18 rfl (lv_at hl 2 rfl) ?_
      refine lv_bipush (v := nI 16) hx hb dX0_chacha_19 (by decide) ?_
      refine n_ge_t (tgt := 53) hx hb (by omega) (by omega) dX0_chacha_21 (by decide) ?_
      exact r_vret F hW dX0_chacha_53
    | succ nk ihk =>
      intro k hk H locs ls hW hl
      have hkN : k < 16 := by omega
      refine lv_iload_n hx hb dX0_chacha_18 rfl (lv_at hl 2 rfl) ?_
      refine lv_bipush (v := nI 16) hx hb dX0_chacha_19 (by decide) ?_
      refine n_ge_f (tgt := 53) hx hb (by omega) (by omega) dX0_chacha_21 (by decide) ?_
      refine lv_aload_n hx hb dX0_chacha_24 rfl (lv_at hl 0 rfl) ?_
      refine r_getX F hW 0 1 rfl (by decide) rfl q27 hf1 dX0_chacha_25 ?_
      refine lv_iload_n hx hb dX0_chacha_28 rfl (lv_at hl 2 rfl) ?_
      refine lv_aload_n hx hb dX0_chacha_29 rfl (lv_at hl 0 rfl) ?_
      refine r_getX F hW 0 0 rfl (by decide) rfl q26 hf0 dX0_chacha_30 ?_
      refine lv_iload_n hx hb dX0_chacha_33 rfl (lv_at hl 2 rfl) ?_
      refine r_iald F hW 1 rfl k (by omega) (by decide) dX0_chacha_34 ?_
      refine lv_aload_n hx hb dX0_chacha_35 rfl (lv_at hl 0 rfl) ?_
      refine lv_iload_n hx hb dX0_chacha_36 rfl (lv_at hl 2 rfl) ?_
      refine lv_iconst (v := nI 4) hx hb dX0_chacha_37 (by decide) ?_
      refine n_div hx hb (by omega) (by omega) (by omega) dX0_chacha_38 ?_
      refine lv_iload_n hx hb dX0_chacha_39 rfl (lv_at hl 2 rfl) ?_
      refine lv_iconst (v := nI 3) hx hb dX0_chacha_40 (by decide) ?_
      refine n_and hx hb 2 4 (by omega) (by decide) (by decide) dX0_chacha_41 ?_
      refine k_VI (rest := [.int (x k), .int (nI k), .ref aO]) (wr := [(aI, arI cI 16 x), (aO, arI cI 16 (it_ (outB x (rowB (1 + a.toBitVec.toNat % 16) x f)) k u))]) (w' := [(o, obj 0 fs), (aI, arI cI 16 x), (aO, arI cI 16 (it_ (outB x (rowB (1 + a.toBitVec.toNat % 16) x f)) k u)), (aR, arL cL 8 (rowB (1 + a.toBitVec.toNat % 16) x f))]) (q0 := 0) (ci := 0) F hW (ct_X0_word l G cI cB cL o aR fs hf6 (rowB (1 + a.toBitVec.toNat % 16) x f) (k / 4) (k % 4) (by omega) (by omega)) [0, 3] [1, 2] [2, 0, 1, 3] rfl rfl rfl rfl (by decide) rfl rfl rfl rfl g_X0_word ⟨rfl, rfl⟩ hd_X0_word ⟨Nat.le_of_ble_eq_true rfl, Nat.le_of_ble_eq_true rfl⟩ rfl hl.1 rfl (Nat.le_of_ble_eq_true rfl) dX0_chacha_42 ⟨Nat.zero_le _, Nat.zero_le _⟩ (fun H locs hW => ?_)
      refine lv_iadd hx hb dX0_chacha_45 ?_
      refine r_iast (w' := [(o, obj 0 fs), (aI, arI cI 16 x), (aO, arI cI 16 (outB x (rowB (1 + a.toBitVec.toNat % 16) x f) k (it_ (outB x (rowB (1 + a.toBitVec.toNat % 16) x f)) k u))), (aR, arL cL 8 (rowB (1 + a.toBitVec.toNat % 16) x f))]) F hW 2 rfl k (by omega) (by decide) (outB x (rowB (1 + a.toBitVec.toNat % 16) x f) k (it_ (outB x (rowB (1 + a.toBitVec.toNat % 16) x f)) k u)) rfl rfl dX0_chacha_46 (fun H locs hW => ?_)
      refine n_iinc (lv' := [(2, .int (nI (k + 1))), (0, .ref o), (1, .int a)]) (k := 2) (d := 1) hx hb dX0_chacha_47 hl rfl (by decide) (by decide) rfl (fun ls hl => ?_)
      refine lv_goto (tgt := 18) hx hb dX0_chacha_50 (by decide) ?_
      exact ihk (k + 1) (by omega) H locs ls (hW.eq (by rw [it_s (outB x (rowB (1 + a.toBitVec.toNat % 16) x f)) k u])) (lv_sub hl [1, 2, 0] rfl)
  exact loop 16 0 (by omega) _ _ _ (hW.eq (by rw [it_0 (outB x (rowB (1 + a.toBitVec.toNat % 16) x f)) u])) (lv_sub hl [1, 2, 0] rfl)
set_option maxHeartbeats 4000000 in
theorem ct_X0_again (l : Launch) (G : va_G) (cI cB cL : ClassId) (o aI aO : Nat) (fs : List Value) (hf0 : fs[0]? = some (.ref aI)) (hf1 : fs[1]? = some (.ref aO)) (x u : Nat → Int32) : CV l yX0_again (ws_ yX0_again cX0_again 2 none) (rm_ 0 0) G (tys_ cI cB cL) [.ref o] [(o, obj 0 fs), (aI, arI cI 16 x), (aO, arI cI 16 u)] [(o, obj 0 fs), (aI, arI cI 16 (it_ (cpK u) 16 x)), (aO, arI cI 16 u)] := by
  refine CV.of (by decide) (Nat.le_of_ble_eq_true rfl) ?_
  intro p e s m below meth c A ls F hW hl
  have F : Fx p m c cX0_again 2 s ([.ref o] : List Value).toArray RX0 meth none := F
  obtain ⟨⟨hx, hb, hml, hown, hts⟩, hr, hlocks⟩ := id F
  have hl : lv_has ls 2 [(0, .ref o)] := hl
  refine lv_iconst (v := nI 0) hx hb dX0_again_0 (by decide) ?_
  refine lv_istore_n (lv' := [(1, .int (nI 0)), (0, .ref o)]) hx hb dX0_again_1 rfl hl (by decide) rfl (fun ls hl => ?_)
  have loop : ∀ (nk k : Nat), k + nk = 16 → ∀ (H : Heap) (locs : List Loc) (ls : Array Slot), Wd G (tys_ cI cB cL) A s H locs [(o, obj 0 fs), (aI, arI cI 16 (it_ (cpK u) k x)), (aO, arI cI 16 u)] → lv_has ls 2 [(0, .ref o), (1, .int (nI k))] → W p l e (rm_ 0 0) s m ([.ref o] : List Value).toArray below meth c H locs 0 0 (MQ below (QV G (tys_ cI cB cL) [(o, obj 0 fs), (aI, arI cI 16 (it_ (cpK u) 16 x)), (aO, arI cI 16 u)] A) ([.ref o] : List Value).toArray s 0 0 A) (F0 m 2 ls []) := by
    intro nk
    induction nk with
    | zero =>
      intro k hk H locs ls hW hl
      obtain rfl : k = 16 := by omega
      refine lv_iload_n hx hb dX0_again_2 rfl (lv_at hl 1 rfl) ?_
      refine lv_bipush (v := nI 16) hx hb dX0_again_3 (by decide) ?_
      refine n_ge_t (tgt := 26) hx hb (by omega) (by omega) dX0_again_5 (by decide) ?_
      exact r_vret F hW dX0_again_26
    | succ nk ihk =>
      intro k hk H locs ls hW hl
      have hkN : k < 16 := by omega
      refine lv_iload_n hx hb dX0_again_2 rfl (lv_at hl 1 rfl) ?_
      refine lv_bipush (v := nI 16) hx hb dX0_again_3 (by decide) ?_
      refine n_ge_f (tgt := 26) hx hb (by omega) (by omega) dX0_again_5 (by decide) ?_
      refine lv_aload_n hx hb dX0_again_8 rfl (lv_at hl 0 rfl) ?_
      refine r_getX F hW 0 0 rfl (by decide) rfl q26 hf0 dX0_again_9 ?_
      refine lv_iload_n hx hb dX0_again_12 rfl (lv_at hl 1 rfl) ?_
      refine lv_aload_n hx hb dX0_again_13 rfl (lv_at hl 0 rfl) ?_
      refine r_getX F hW 0 1 rfl (by decide) rfl q27 hf1 dX0_again_14 ?_
      refine lv_iload_n hx hb dX0_again_17 rfl (lv_at hl 1 rfl) ?_
      refine r_iald F hW 2 rfl k (by omega) (by decide) dX0_again_18 ?_
      refine r_iast (w' := [(o, obj 0 fs), (aI, arI cI 16 (cpK u k (it_ (cpK u) k x))), (aO, arI cI 16 u)]) F hW 1 rfl k (by omega) (by decide) (cpK u k (it_ (cpK u) k x)) rfl rfl dX0_again_19 (fun H locs hW => ?_)
      refine n_iinc (lv' := [(1, .int (nI (k + 1))), (0, .ref o)]) (k := 1) (d := 1) hx hb dX0_again_20 hl rfl (by decide) (by decide) rfl (fun ls hl => ?_)
      refine lv_goto (tgt := 2) hx hb dX0_again_23 (by decide) ?_
      exact ihk (k + 1) (by omega) H locs ls (hW.eq (by rw [it_s (cpK u) k x])) (lv_sub hl [1, 0] rfl)
  exact loop 16 0 (by omega) _ _ _ (hW.eq (by rw [it_0 (cpK u) x])) (lv_sub hl [1, 0] rfl)
set_option maxHeartbeats 4000000 in
theorem ct_X0_out (l : Launch) (G : va_G) (cI cB cL : ClassId) (o aO : Nat) (fs : List Value) (hf1 : fs[1]? = some (.ref aO)) (u : Nat → Int32) (a : Int32) : CI l yX0_out (ws_ yX0_out cX0_out 2 (some .int)) (rm_ 0 0) G (tys_ cI cB cL) [.ref o, .int a] [(o, obj 0 fs), (aO, arI cI 16 u)] [(o, obj 0 fs), (aO, arI cI 16 u)] (u (a.toBitVec.toNat % 16)) := by
  refine CI.of (by decide) (Nat.le_of_ble_eq_true rfl) ?_
  intro p e s m below meth c A ls F hW hl
  have F : Fx p m c cX0_out 2 s ([.ref o, .int a] : List Value).toArray RX0 meth (some .int) := F
  obtain ⟨⟨hx, hb, hml, hown, hts⟩, hr, hlocks⟩ := id F
  have hl : lv_has ls 2 [(0, .ref o), (1, .int a)] := hl
  refine lv_aload_n hx hb dX0_out_0 rfl (lv_at hl 0 rfl) ?_
  refine r_getX F hW 0 1 rfl (by decide) rfl q27 hf1 dX0_out_1 ?_
  refine lv_iload_n hx hb dX0_out_4 rfl (lv_at hl 1 rfl) ?_
  refine lv_bipush (v := nI 15) hx hb dX0_out_5 (by decide) ?_
  refine x_and hx hb 4 16 (by decide) (by decide) dX0_out_7 ?_
  refine r_iald F hW 1 rfl (a.toBitVec.toNat % 16) (by omega) (by decide) dX0_out_8 ?_
  exact r_iret F hW rfl dX0_out_9
set_option maxHeartbeats 4000000 in
theorem ct_X0_nonce (l : Launch) (G : va_G) (cI cB cL : ClassId) (o aI aO aK aS aB aR : Nat) (on : Int32) (g h : Nat → Int32) (a b c_ : Int32) : CV l yX0_nonce (ws_ yX0_nonce cX0_nonce 5 none) (rm_ 0 0) G (tys_ cI cB cL) [.ref o, .int a, .int b, .int c_] [(o, obj 0 [.ref aI, .ref aO, .ref aK, .ref aS, .int on, .ref aB, .ref aR]), (aK, arI cI 8 g), (aS, arI cI 16 h)] [(o, obj 0 [.ref aI, .ref aO, .ref aK, .ref aS, .int (nI 1), .ref aB, .ref aR]), (aK, arI cI 8 g), (aS, arI cI 16 (nonceF g a b c_ h))] := by
  refine CV.of (by decide) (Nat.le_of_ble_eq_true rfl) ?_
  intro p e s m below meth c A ls F hW hl
  have F : Fx p m c cX0_nonce 5 s ([.ref o, .int a, .int b, .int c_] : List Value).toArray RX0 meth none := F
  obtain ⟨⟨hx, hb, hml, hown, hts⟩, hr, hlocks⟩ := id F
  have hl : lv_has ls 5 [(0, .ref o), (1, .int a), (2, .int b), (3, .int c_)] := hl
  refine lv_aload_n hx hb dX0_nonce_0 rfl (lv_at hl 0 rfl) ?_
  refine r_getX F hW 0 3 rfl (by decide) rfl q29 rfl dX0_nonce_1 ?_
  refine lv_iconst (v := nI 0) hx hb dX0_nonce_4 (by decide) ?_
  refine lv_ldc hx hb hown (hts _ q136) dX0_nonce_5 ?_
  refine r_iast (w' := [(o, obj 0 [.ref aI, .ref aO, .ref aK, .ref aS, .int on, .ref aB, .ref aR]), (aK, arI cI 8 g), (aS, arI cI 16 (upd h 0 1634760805))]) F hW 2 rfl 0 (by omega) (by decide) (upd h 0 1634760805) rfl rfl dX0_nonce_7 (fun H locs hW => ?_)
  refine lv_aload_n hx hb dX0_nonce_8 rfl (lv_at hl 0 rfl) ?_
  refine r_getX F hW 0 3 rfl (by decide) rfl q29 rfl dX0_nonce_9 ?_
  refine lv_iconst (v := nI 1) hx hb dX0_nonce_12 (by decide) ?_
  refine lv_ldc hx hb hown (hts _ q137) dX0_nonce_13 ?_
  refine r_iast (w' := [(o, obj 0 [.ref aI, .ref aO, .ref aK, .ref aS, .int on, .ref aB, .ref aR]), (aK, arI cI 8 g), (aS, arI cI 16 (upd (upd h 0 1634760805) 1 857760878))]) F hW 2 rfl 1 (by omega) (by decide) (upd (upd h 0 1634760805) 1 857760878) rfl rfl dX0_nonce_15 (fun H locs hW => ?_)
  refine lv_aload_n hx hb dX0_nonce_16 rfl (lv_at hl 0 rfl) ?_
  refine r_getX F hW 0 3 rfl (by decide) rfl q29 rfl dX0_nonce_17 ?_
  refine lv_iconst (v := nI 2) hx hb dX0_nonce_20 (by decide) ?_
  refine lv_ldc hx hb hown (hts _ q138) dX0_nonce_21 ?_
  refine r_iast (w' := [(o, obj 0 [.ref aI, .ref aO, .ref aK, .ref aS, .int on, .ref aB, .ref aR]), (aK, arI cI 8 g), (aS, arI cI 16 (upd (upd (upd h 0 1634760805) 1 857760878) 2 2036477234))]) F hW 2 rfl 2 (by omega) (by decide) (upd (upd (upd h 0 1634760805) 1 857760878) 2 2036477234) rfl rfl dX0_nonce_23 (fun H locs hW => ?_)
  refine lv_aload_n hx hb dX0_nonce_24 rfl (lv_at hl 0 rfl) ?_
  refine r_getX F hW 0 3 rfl (by decide) rfl q29 rfl dX0_nonce_25 ?_
  refine lv_iconst (v := nI 3) hx hb dX0_nonce_28 (by decide) ?_
  refine lv_ldc hx hb hown (hts _ q139) dX0_nonce_29 ?_
  refine r_iast (w' := [(o, obj 0 [.ref aI, .ref aO, .ref aK, .ref aS, .int on, .ref aB, .ref aR]), (aK, arI cI 8 g), (aS, arI cI 16 (noA h))]) F hW 2 rfl 3 (by omega) (by decide) (noA h) rfl rfl dX0_nonce_31 (fun H locs hW => ?_)
  refine lv_iconst (v := nI 0) hx hb dX0_nonce_32 (by decide) ?_
  refine lv_istore (lv' := [(4, .int (nI 0)), (0, .ref o), (1, .int a), (2, .int b), (3, .int c_)]) hx hb dX0_nonce_33 hl (by decide) rfl (fun ls hl => ?_)
  have loop : ∀ (nk k : Nat), k + nk = 8 → ∀ (H : Heap) (locs : List Loc) (ls : Array Slot), Wd G (tys_ cI cB cL) A s H locs [(o, obj 0 [.ref aI, .ref aO, .ref aK, .ref aS, .int on, .ref aB, .ref aR]), (aK, arI cI 8 g), (aS, arI cI 16 (it_ (noK g) k (noA h)))] → lv_has ls 5 [(0, .ref o), (1, .int a), (2, .int b), (3, .int c_), (4, .int (nI k))] → W p l e (rm_ 0 0) s m ([.ref o, .int a, .int b, .int c_] : List Value).toArray below meth c H locs 0 0 (MQ below (QV G (tys_ cI cB cL) [(o, obj 0 [.ref aI, .ref aO, .ref aK, .ref aS, .int (nI 1), .ref aB, .ref aR]), (aK, arI cI 8 g), (aS, arI cI 16 (nonceF g a b c_ h))] A) ([.ref o, .int a, .int b, .int c_] : List Value).toArray s 0 0 A) (F0 m 35 ls []) := by
    intro nk
    induction nk with
    | zero =>
      intro k hk H locs ls hW hl
      obtain rfl : k = 8 := by omega
      refine lv_iload hx hb dX0_nonce_35 (lv_at hl 4 rfl) ?_
      refine lv_bipush (v := nI 8) hx hb dX0_nonce_37 (by decide) ?_
      refine n_ge_t (tgt := 64) hx hb (by omega) (by omega) dX0_nonce_39 (by decide) ?_
      refine lv_aload_n hx hb dX0_nonce_64 rfl (lv_at hl 0 rfl) ?_
      refine r_getX F hW 0 3 rfl (by decide) rfl q29 rfl dX0_nonce_65 ?_
      refine lv_bipush (v := nI 12) hx hb dX0_nonce_68 (by decide) ?_
      refine lv_iconst (v := nI 0) hx hb dX0_nonce_70 (by decide) ?_
      refine r_iast (w' := [(o, obj 0 [.ref aI, .ref aO, .ref aK, .ref aS, .int on, .ref aB, .ref aR]), (aK, arI cI 8 g), (aS, arI cI 16 (upd (it_ (noK g) 8 (noA h)) 12 (nI 0)))]) F hW 2 rfl 12 (by omega) (by decide) (upd (it_ (noK g) 8 (noA h)) 12 (nI 0)) rfl rfl dX0_nonce_71 (fun H locs hW => ?_)
      refine lv_aload_n hx hb dX0_nonce_72 rfl (lv_at hl 0 rfl) ?_
      refine r_getX F hW 0 3 rfl (by decide) rfl q29 rfl dX0_nonce_73 ?_
      refine lv_bipush (v := nI 13) hx hb dX0_nonce_76 (by decide) ?_
      refine lv_iload_n hx hb dX0_nonce_78 rfl (lv_at hl 1 rfl) ?_
      refine r_iast (w' := [(o, obj 0 [.ref aI, .ref aO, .ref aK, .ref aS, .int on, .ref aB, .ref aR]), (aK, arI cI 8 g), (aS, arI cI 16 (upd (upd (it_ (noK g) 8 (noA h)) 12 (nI 0)) 13 a))]) F hW 2 rfl 13 (by omega) (by decide) (upd (upd (it_ (noK g) 8 (noA h)) 12 (nI 0)) 13 a) rfl rfl dX0_nonce_79 (fun H locs hW => ?_)
      refine lv_aload_n hx hb dX0_nonce_80 rfl (lv_at hl 0 rfl) ?_
      refine r_getX F hW 0 3 rfl (by decide) rfl q29 rfl dX0_nonce_81 ?_
      refine lv_bipush (v := nI 14) hx hb dX0_nonce_84 (by decide) ?_
      refine lv_iload_n hx hb dX0_nonce_86 rfl (lv_at hl 2 rfl) ?_
      refine r_iast (w' := [(o, obj 0 [.ref aI, .ref aO, .ref aK, .ref aS, .int on, .ref aB, .ref aR]), (aK, arI cI 8 g), (aS, arI cI 16 (upd (upd (upd (it_ (noK g) 8 (noA h)) 12 (nI 0)) 13 a) 14 b))]) F hW 2 rfl 14 (by omega) (by decide) (upd (upd (upd (it_ (noK g) 8 (noA h)) 12 (nI 0)) 13 a) 14 b) rfl rfl dX0_nonce_87 (fun H locs hW => ?_)
      refine lv_aload_n hx hb dX0_nonce_88 rfl (lv_at hl 0 rfl) ?_
      refine r_getX F hW 0 3 rfl (by decide) rfl q29 rfl dX0_nonce_89 ?_
      refine lv_bipush (v := nI 15) hx hb dX0_nonce_92 (by decide) ?_
      refine lv_iload_n hx hb dX0_nonce_94 rfl (lv_at hl 3 rfl) ?_
      refine r_iast (w' := [(o, obj 0 [.ref aI, .ref aO, .ref aK, .ref aS, .int on, .ref aB, .ref aR]), (aK, arI cI 8 g), (aS, arI cI 16 (nonceF g a b c_ h))]) F hW 2 rfl 15 (by omega) (by decide) (nonceF g a b c_ h) rfl rfl dX0_nonce_95 (fun H locs hW => ?_)
      refine lv_aload_n hx hb dX0_nonce_96 rfl (lv_at hl 0 rfl) ?_
      refine lv_iconst (v := nI 1) hx hb dX0_nonce_97 (by decide) ?_
      refine r_putX (w' := [(o, obj 0 [.ref aI, .ref aO, .ref aK, .ref aS, .int (nI 1), .ref aB, .ref aR]), (aK, arI cI 8 g), (aS, arI cI 16 (nonceF g a b c_ h))]) (ty := .boolean) F hW 0 4 rfl (by decide) rfl q30 rfl (by decide +kernel) rfl rfl (Nat.le_of_ble_eq_true rfl) rfl dX0_nonce_98 (fun H locs hW => ?_)
      exact r_vret F hW dX0_nonce_101
    | succ nk ihk =>
      intro k hk H locs ls hW hl
      have hkN : k < 8 := by omega
      refine lv_iload hx hb dX0_nonce_35 (lv_at hl 4 rfl) ?_
      refine lv_bipush (v := nI 8) hx hb dX0_nonce_37 (by decide) ?_
      refine n_ge_f (tgt := 64) hx hb (by omega) (by omega) dX0_nonce_39 (by decide) ?_
      refine lv_aload_n hx hb dX0_nonce_42 rfl (lv_at hl 0 rfl) ?_
      refine r_getX F hW 0 3 rfl (by decide) rfl q29 rfl dX0_nonce_43 ?_
      refine lv_iconst (v := nI 4) hx hb dX0_nonce_46 (by decide) ?_
      refine lv_iload hx hb dX0_nonce_47 (lv_at hl 4 rfl) ?_
      refine n_add hx hb dX0_nonce_49 ?_
      refine lv_aload_n hx hb dX0_nonce_50 rfl (lv_at hl 0 rfl) ?_
      refine r_getX F hW 0 2 rfl (by decide) rfl q28 rfl dX0_nonce_51 ?_
      refine lv_iload hx hb dX0_nonce_54 (lv_at hl 4 rfl) ?_
      refine r_iald F hW 1 rfl k (by omega) (by decide) dX0_nonce_56 ?_
      refine r_iast (w' := [(o, obj 0 [.ref aI, .ref aO, .ref aK, .ref aS, .int on, .ref aB, .ref aR]), (aK, arI cI 8 g), (aS, arI cI 16 (noK g k (it_ (noK g) k (noA h))))]) F hW 2 rfl (4 + k) (by omega) (by decide) (noK g k (it_ (noK g) k (noA h))) rfl rfl dX0_nonce_57 (fun H locs hW => ?_)
      refine n_iinc (lv' := [(4, .int (nI (k + 1))), (0, .ref o), (1, .int a), (2, .int b), (3, .int c_)]) (k := 4) (d := 1) hx hb dX0_nonce_58 hl rfl (by decide) (by decide) rfl (fun ls hl => ?_)
      refine lv_goto (tgt := 35) hx hb dX0_nonce_61 (by decide) ?_
      exact ihk (k + 1) (by omega) H locs ls (hW.eq (by rw [it_s (noK g) k (noA h)])) (lv_sub hl [1, 2, 3, 4, 0] rfl)
  exact loop 8 0 (by omega) _ _ _ (hW.eq (by rw [it_0 (noK g) (noA h)])) (lv_sub hl [1, 2, 3, 4, 0] rfl)
set_option maxHeartbeats 4000000 in
theorem ct_X0_block0 (l : Launch) (G : va_G) (cI cB cL : ClassId) (o : Nat) (fs : List Value) (hf4 : fs[4]? = some (.int (nI 0))) : CI l yX0_block (ws_ yX0_block cX0_block 4 (some .boolean)) (rm_ 4 93) G (tys_ cI cB cL) [.ref o] [(o, obj 0 fs)] [(o, obj 0 fs)] (nI 0) := by
  refine CI.of (by decide) (Nat.le_of_ble_eq_true rfl) ?_
  intro p e s m below meth c A ls F hW hl
  have F : Fx p m c cX0_block 4 s ([.ref o] : List Value).toArray RX0 meth (some .boolean) := F
  obtain ⟨⟨hx, hb, hml, hown, hts⟩, hr, hlocks⟩ := id F
  have hl : lv_has ls 4 [(0, .ref o)] := hl
  refine lv_aload_n hx hb dX0_block_0 rfl (lv_at hl 0 rfl) ?_
  refine r_getX F hW 0 4 rfl (by decide) rfl q30 hf4 dX0_block_1 ?_
  refine n_ne_f (tgt := 9) hx hb (by omega) dX0_block_4 (by decide) ?_
  refine lv_iconst (v := nI 0) hx hb dX0_block_7 (by decide) ?_
  exact r_zret F hW rfl rfl dX0_block_8
set_option maxHeartbeats 4000000 in
theorem ct_X0_block1 (l : Launch) (G : va_G) (cI cB cL : ClassId) (o aS aB aR : Nat) (fs : List Value) (hf3 : fs[3]? = some (.ref aS)) (hf5 : fs[5]? = some (.ref aB)) (hf6 : fs[6]? = some (.ref aR)) (hf4 : fs[4]? = some (.int (nI 1))) (h b : Nat → Int32) (f : Nat → Int64) : CI l yX0_block (ws_ yX0_block cX0_block 4 (some .boolean)) (rm_ 4 93) G (tys_ cI cB cL) [.ref o] [(o, obj 0 fs), (aS, arI cI 16 h), (aB, arI cB 64 b), (aR, arL cL 8 f)] [(o, obj 0 fs), (aS, arI cI 16 (incF h)), (aB, arI cB 64 (it_ (blK h (rowB 10 h f)) 16 b)), (aR, arL cL 8 (rowB 10 h f))] (nI 1) := by
  refine CI.of (by decide) (Nat.le_of_ble_eq_true rfl) ?_
  intro p e s m below meth c A ls F hW hl
  have F : Fx p m c cX0_block 4 s ([.ref o] : List Value).toArray RX0 meth (some .boolean) := F
  obtain ⟨⟨hx, hb, hml, hown, hts⟩, hr, hlocks⟩ := id F
  have hl : lv_has ls 4 [(0, .ref o)] := hl
  refine lv_aload_n hx hb dX0_block_0 rfl (lv_at hl 0 rfl) ?_
  refine r_getX F hW 0 4 rfl (by decide) rfl q30 hf4 dX0_block_1 ?_
  refine n_ne_t (tgt := 9) hx hb (by omega) (by omega) dX0_block_4 (by decide) ?_
  refine lv_aload_n hx hb dX0_block_9 rfl (lv_at hl 0 rfl) ?_
  refine lv_aload_n hx hb dX0_block_10 rfl (lv_at hl 0 rfl) ?_
  refine r_getX F hW 0 3 rfl (by decide) rfl q29 hf3 dX0_block_11 ?_
  refine lv_bipush (v := nI 20) hx hb dX0_block_14 (by decide) ?_
  refine n_eq (y := 2 * 10) (by omega) ?_
  refine k_V (rest := []) (wr := [(aB, arI cB 64 b)]) (w' := [(o, obj 0 fs), (aS, arI cI 16 h), (aB, arI cB 64 b), (aR, arL cL 8 (rowB 10 h f))]) (q0 := 0) (ci := 0) F hW (ct_X0_mixB l G cI cB cL o aS aR fs hf6 h f 10 (by omega)) [0, 1, 3] [2] [1, 2, 0, 3] rfl rfl rfl rfl (by decide) rfl rfl rfl rfl g_X0_mixB ⟨rfl, rfl⟩ hd_X0_mixB ⟨Nat.le_of_ble_eq_true rfl, Nat.le_of_ble_eq_true rfl⟩ rfl hl.1 rfl (Nat.le_of_ble_eq_true rfl) dX0_block_16 ⟨Nat.zero_le _, Nat.zero_le _⟩ (fun H locs hW => ?_)
  refine lv_iconst (v := nI 0) hx hb dX0_block_19 (by decide) ?_
  refine lv_istore_n (lv' := [(1, .int (nI 0)), (0, .ref o)]) hx hb dX0_block_20 rfl hl (by decide) rfl (fun ls hl => ?_)
  have loop : ∀ (nk k : Nat), k + nk = 16 → ∀ (H : Heap) (locs : List Loc) (ls : Array Slot), Wd G (tys_ cI cB cL) A s H locs [(o, obj 0 fs), (aS, arI cI 16 h), (aB, arI cB 64 (it_ (blK h (rowB 10 h f)) k b)), (aR, arL cL 8 (rowB 10 h f))] → lv_has ls 4 [(0, .ref o), (1, .int (nI k))] → W p l e (rm_ 4 93) s m ([.ref o] : List Value).toArray below meth c H locs 0 0 (MQ below (QI (nI 1) G (tys_ cI cB cL) [(o, obj 0 fs), (aS, arI cI 16 (incF h)), (aB, arI cB 64 (it_ (blK h (rowB 10 h f)) 16 b)), (aR, arL cL 8 (rowB 10 h f))] A) ([.ref o] : List Value).toArray s 0 0 A) (F0 m 21 ls []) := by
    intro nk
    induction nk with
    | zero =>
      intro k hk H locs ls hW hl
      obtain rfl : k = 16 := by omega
      refine lv_iload_n hx hb dX0_block_21 rfl (lv_at hl 1 rfl) ?_
      refine lv_bipush (v := nI 16) hx hb dX0_block_22 (by decide) ?_
      refine n_ge_t (tgt := 81) hx hb (by omega) (by omega) dX0_block_24 (by decide) ?_
      refine lv_aload_n hx hb dX0_block_81 rfl (lv_at hl 0 rfl) ?_
      refine r_getX F hW 0 3 rfl (by decide) rfl q29 hf3 dX0_block_82 ?_
      refine lv_bipush (v := nI 12) hx hb dX0_block_85 (by decide) ?_
      refine lv_dup2_11 hx hb dX0_block_87 rfl rfl ?_
      refine r_iald F hW 1 rfl 12 (by omega) (by decide) dX0_block_88 ?_
      refine lv_iconst (v := nI 1) hx hb dX0_block_89 (by decide) ?_
      refine lv_iadd hx hb dX0_block_90 ?_
      refine r_iast (w' := [(o, obj 0 fs), (aS, arI cI 16 (incF h)), (aB, arI cB 64 (it_ (blK h (rowB 10 h f)) 16 b)), (aR, arL cL 8 (rowB 10 h f))]) F hW 1 rfl 12 (by omega) (by decide) (incF h) rfl rfl dX0_block_91 (fun H locs hW => ?_)
      refine lv_iconst (v := nI 1) hx hb dX0_block_92 (by decide) ?_
      exact r_zret F hW rfl rfl dX0_block_93
    | succ nk ihk =>
      intro k hk H locs ls hW hl
      have hkN : k < 16 := by omega
      refine lv_iload_n hx hb dX0_block_21 rfl (lv_at hl 1 rfl) ?_
      refine lv_bipush (v := nI 16) hx hb dX0_block_22 (by decide) ?_
      refine n_ge_f (tgt := 81) hx hb (by omega) (by omega) dX0_block_24 (by decide) ?_
      refine lv_aload_n hx hb dX0_block_27 rfl (lv_at hl 0 rfl) ?_
      refine r_getX F hW 0 3 rfl (by decide) rfl q29 hf3 dX0_block_28 ?_
      refine lv_iload_n hx hb dX0_block_31 rfl (lv_at hl 1 rfl) ?_
      refine r_iald F hW 1 rfl k (by omega) (by decide) dX0_block_32 ?_
      refine lv_aload_n hx hb dX0_block_33 rfl (lv_at hl 0 rfl) ?_
      refine lv_iload_n hx hb dX0_block_34 rfl (lv_at hl 1 rfl) ?_
      refine lv_iconst (v := nI 4) hx hb dX0_block_35 (by decide) ?_
      refine n_div hx hb (by omega) (by omega) (by omega) dX0_block_36 ?_
      refine lv_iload_n hx hb dX0_block_37 rfl (lv_at hl 1 rfl) ?_
      refine lv_iconst (v := nI 3) hx hb dX0_block_38 (by decide) ?_
      refine n_and hx hb 2 4 (by omega) (by decide) (by decide) dX0_block_39 ?_
      refine k_VI (rest := [.int (h k)]) (wr := [(aS, arI cI 16 h), (aB, arI cB 64 (it_ (blK h (rowB 10 h f)) k b))]) (w' := [(o, obj 0 fs), (aS, arI cI 16 h), (aB, arI cB 64 (it_ (blK h (rowB 10 h f)) k b)), (aR, arL cL 8 (rowB 10 h f))]) (q0 := 0) (ci := 0) F hW (ct_X0_word l G cI cB cL o aR fs hf6 (rowB 10 h f) (k / 4) (k % 4) (by omega) (by omega)) [0, 3] [1, 2] [2, 0, 1, 3] rfl rfl rfl rfl (by decide) rfl rfl rfl rfl g_X0_word ⟨rfl, rfl⟩ hd_X0_word ⟨Nat.le_of_ble_eq_true rfl, Nat.le_of_ble_eq_true rfl⟩ rfl hl.1 rfl (Nat.le_of_ble_eq_true rfl) dX0_block_40 ⟨Nat.zero_le _, Nat.zero_le _⟩ (fun H locs hW => ?_)
      refine lv_iadd hx hb dX0_block_43 ?_
      refine lv_istore_n (lv' := [(2, .int ((h k) + (wordL (rowB 10 h f) (k / 4) (k % 4)))), (0, .ref o), (1, .int (nI k))]) hx hb dX0_block_44 rfl hl (by decide) rfl (fun ls hl => ?_)
      refine lv_iconst (v := nI 0) hx hb dX0_block_45 (by decide) ?_
      refine lv_istore_n (lv' := [(3, .int (nI 0)), (2, .int ((h k) + (wordL (rowB 10 h f) (k / 4) (k % 4)))), (0, .ref o), (1, .int (nI k))]) hx hb dX0_block_46 rfl hl (by decide) rfl (fun ls hl => ?_)
      have inn : ∀ (nj j : Nat), j + nj = 4 → ∀ (H : Heap) (locs : List Loc) (ls : Array Slot), Wd G (tys_ cI cB cL) A s H locs [(o, obj 0 fs), (aS, arI cI 16 h), (aB, arI cB 64 (it_ (kbK ((h k) + (wordL (rowB 10 h f) (k / 4) (k % 4))) k) j (it_ (blK h (rowB 10 h f)) k b))), (aR, arL cL 8 (rowB 10 h f))] → lv_has ls 4 [(0, .ref o), (1, .int (nI k)), (2, .int ((h k) + (wordL (rowB 10 h f) (k / 4) (k % 4)))), (3, .int (nI j))] → W p l e (rm_ 4 93) s m ([.ref o] : List Value).toArray below meth c H locs 0 0 (MQ below (QI (nI 1) G (tys_ cI cB cL) [(o, obj 0 fs), (aS, arI cI 16 (incF h)), (aB, arI cB 64 (it_ (blK h (rowB 10 h f)) 16 b)), (aR, arL cL 8 (rowB 10 h f))] A) ([.ref o] : List Value).toArray s 0 0 A) (F0 m 47 ls []) := by
        intro nj
        induction nj with
        | zero =>
          intro j hj H locs ls hW hl
          obtain rfl : j = 4 := by omega
          refine lv_iload_n hx hb dX0_block_47 rfl (lv_at hl 3 rfl) ?_
          refine lv_iconst (v := nI 4) hx hb dX0_block_48 (by decide) ?_
          refine n_ge_t (tgt := 75) hx hb (by omega) (by omega) dX0_block_49 (by decide) ?_
          have hW : Wd G (tys_ cI cB cL) A s H locs [(o, obj 0 fs), (aS, arI cI 16 h), (aB, arI cB 64 (blK h (rowB 10 h f) k (it_ (blK h (rowB 10 h f)) k b))), (aR, arL cL 8 (rowB 10 h f))] := hW
          refine n_iinc (lv' := [(1, .int (nI (k + 1))), (0, .ref o), (2, .int ((h k) + (wordL (rowB 10 h f) (k / 4) (k % 4)))), (3, .int (nI 4))]) (k := 1) (d := 1) hx hb dX0_block_75 hl rfl (by decide) (by decide) rfl (fun ls hl => ?_)
          refine lv_goto (tgt := 21) hx hb dX0_block_78 (by decide) ?_
          exact ihk (k + 1) (by omega) H locs ls (hW.eq (by rw [it_s (blK h (rowB 10 h f)) k b])) (lv_sub hl [1, 0] rfl)
        | succ nj ihj =>
          intro j hj H locs ls hW hl
          have hjN : j < 4 := by omega
          refine lv_iload_n hx hb dX0_block_47 rfl (lv_at hl 3 rfl) ?_
          refine lv_iconst (v := nI 4) hx hb dX0_block_48 (by decide) ?_
          refine n_ge_f (tgt := 75) hx hb (by omega) (by omega) dX0_block_49 (by decide) ?_
          refine lv_aload_n hx hb dX0_block_52 rfl (lv_at hl 0 rfl) ?_
          refine r_getX F hW 0 5 rfl (by decide) rfl q31 hf5 dX0_block_53 ?_
          refine lv_iconst (v := nI 4) hx hb dX0_block_56 (by decide) ?_
          refine lv_iload_n hx hb dX0_block_57 rfl (lv_at hl 1 rfl) ?_
          refine n_mul hx hb dX0_block_58 ?_
          refine lv_iload_n hx hb dX0_block_59 rfl (lv_at hl 3 rfl) ?_
          refine n_add hx hb dX0_block_60 ?_
          refine lv_iload_n hx hb dX0_block_61 rfl (lv_at hl 2 rfl) ?_
          refine lv_bipush (v := nI 8) hx hb dX0_block_62 (by decide) ?_
          refine lv_iload_n hx hb dX0_block_64 rfl (lv_at hl 3 rfl) ?_
          refine n_mul hx hb dX0_block_65 ?_
          refine lv_ishr hx hb dX0_block_66 ?_
          refine lv_i2b hx hb dX0_block_67 rfl ?_
          refine r_bast (w' := [(o, obj 0 fs), (aS, arI cI 16 h), (aB, arI cB 64 (kbK ((h k) + (wordL (rowB 10 h f) (k / 4) (k % 4))) k j (it_ (kbK ((h k) + (wordL (rowB 10 h f) (k / 4) (k % 4))) k) j (it_ (blK h (rowB 10 h f)) k b)))), (aR, arL cL 8 (rowB 10 h f))]) F hW 2 rfl ((4 * k) + j) (by omega) (by decide) (kbK ((h k) + (wordL (rowB 10 h f) (k / 4) (k % 4))) k j (it_ (kbK ((h k) + (wordL (rowB 10 h f) (k / 4) (k % 4))) k) j (it_ (blK h (rowB 10 h f)) k b))) (by rw [pk_vb]; first | done | rfl) rfl dX0_block_68 (fun H locs hW => ?_)
          refine n_iinc (lv' := [(3, .int (nI (j + 1))), (0, .ref o), (1, .int (nI k)), (2, .int ((h k) + (wordL (rowB 10 h f) (k / 4) (k % 4))))]) (k := 3) (d := 1) hx hb dX0_block_69 hl rfl (by decide) (by decide) rfl (fun ls hl => ?_)
          refine lv_goto (tgt := 47) hx hb dX0_block_72 (by decide) ?_
          exact ihj (j + 1) (by omega) H locs ls (hW.eq (by rw [it_s (kbK ((h k) + (wordL (rowB 10 h f) (k / 4) (k % 4))) k) j (it_ (blK h (rowB 10 h f)) k b)])) (lv_sub hl [1, 2, 3, 0] rfl)
      exact inn 4 0 (by omega) _ _ _ (hW.eq (by rw [it_0 (kbK ((h k) + (wordL (rowB 10 h f) (k / 4) (k % 4))) k) (it_ (blK h (rowB 10 h f)) k b)])) (lv_sub hl [2, 3, 1, 0] rfl)
  exact loop 16 0 (by omega) _ _ _ (hW.eq (by rw [it_0 (blK h (rowB 10 h f)) b])) (lv_sub hl [1, 0] rfl)
set_option maxHeartbeats 4000000 in
theorem ct_X0_stream (l : Launch) (G : va_G) (cI cB cL : ClassId) (o aB : Nat) (fs : List Value) (hf5 : fs[5]? = some (.ref aB)) (u : Nat → Int32) (a : Int32) : CI l yX0_stream (ws_ yX0_stream cX0_stream 2 (some .int)) (rm_ 0 0) G (tys_ cI cB cL) [.ref o, .int a] [(o, obj 0 fs), (aB, arI cB 64 u)] [(o, obj 0 fs), (aB, arI cB 64 u)] (u (a.toBitVec.toNat % 64) &&& nI 255) := by
  refine CI.of (by decide) (Nat.le_of_ble_eq_true rfl) ?_
  intro p e s m below meth c A ls F hW hl
  have F : Fx p m c cX0_stream 2 s ([.ref o, .int a] : List Value).toArray RX0 meth (some .int) := F
  obtain ⟨⟨hx, hb, hml, hown, hts⟩, hr, hlocks⟩ := id F
  have hl : lv_has ls 2 [(0, .ref o), (1, .int a)] := hl
  refine lv_aload_n hx hb dX0_stream_0 rfl (lv_at hl 0 rfl) ?_
  refine r_getX F hW 0 5 rfl (by decide) rfl q31 hf5 dX0_stream_1 ?_
  refine lv_iload_n hx hb dX0_stream_4 rfl (lv_at hl 1 rfl) ?_
  refine lv_bipush (v := nI 63) hx hb dX0_stream_5 (by decide) ?_
  refine x_and hx hb 6 64 (by decide) (by decide) dX0_stream_7 ?_
  refine r_bald F hW 1 rfl (a.toBitVec.toNat % 64) (by omega) (by decide) dX0_stream_8 ?_
  refine lv_sipush (v := nI 255) hx hb dX0_stream_9 (by decide) ?_
  refine lv_iand hx hb dX0_stream_12 ?_
  exact r_iret F hW rfl dX0_stream_13
end
section
set_option maxRecDepth 100000
set_option maxHeartbeats 4000000 in
theorem ct_X1_turn (l : Launch) (G : va_G) (cI cB cL : ClassId) (v : Int32) (k : Nat) (hk : k ≤ 32) : CI l yX1_turn (ws_ yX1_turn cX1_turn 2 (some .int)) (rm_ 0 0) G (tys_ cI cB cL) [.int v, .int (nI k)] [] [] (turnI v k) := by
  refine CI.of (by decide) (Nat.le_of_ble_eq_true rfl) ?_
  intro p e s m below meth c A ls F hW hl
  have F : Fx p m c cX1_turn 2 s ([.int v, .int (nI k)] : List Value).toArray RX1 meth (some .int) := F
  obtain ⟨⟨hx, hb, hml, hown, hts⟩, hr, hlocks⟩ := id F
  have hl : lv_has ls 2 [(0, .int v), (1, .int (nI k))] := hl
  refine lv_iload_n hx hb dX1_turn_0 rfl (lv_at hl 0 rfl) ?_
  refine lv_iload_n hx hb dX1_turn_1 rfl (lv_at hl 1 rfl) ?_
  refine lv_ishl hx hb dX1_turn_2 ?_
  refine lv_iload_n hx hb dX1_turn_3 rfl (lv_at hl 0 rfl) ?_
  refine lv_bipush (v := nI 32) hx hb dX1_turn_4 (by decide) ?_
  refine lv_iload_n hx hb dX1_turn_6 rfl (lv_at hl 1 rfl) ?_
  refine n_sub hx hb (by omega) dX1_turn_7 ?_
  refine lv_iushr hx hb dX1_turn_8 rfl ?_
  refine lv_ior hx hb dX1_turn_9 ?_
  exact r_iret F hW rfl dX1_turn_10
set_option maxHeartbeats 4000000 in
theorem ct_X1_quarter (l : Launch) (G : va_G) (cI cB cL : ClassId) (o aX : Nat) (fs : List Value) (hf2 : fs[2]? = some (.ref aX)) (x : Nat → Int32) (a b c_ d : Nat) (ha : a < 16) (hb16 : b < 16) (hc : c_ < 16) (hd : d < 16) : CV l yX1_quarter (ws_ yX1_quarter cX1_quarter 5 none) (rm_ 1 21) G (tys_ cI cB cL) [.ref o, .int (nI a), .int (nI b), .int (nI c_), .int (nI d)] [(o, obj 1 fs), (aX, arI cI 16 x)] [(o, obj 1 fs), (aX, arI cI 16 (quarterM a b c_ d x))] := by
  refine CV.of (by decide) (Nat.le_of_ble_eq_true rfl) ?_
  intro p e s m below meth c A ls F hW hl
  have F : Fx p m c cX1_quarter 5 s ([.ref o, .int (nI a), .int (nI b), .int (nI c_), .int (nI d)] : List Value).toArray RX1 meth none := F
  obtain ⟨⟨hx, hb, hml, hown, hts⟩, hr, hlocks⟩ := id F
  have hl : lv_has ls 5 [(0, .ref o), (1, .int (nI a)), (2, .int (nI b)), (3, .int (nI c_)), (4, .int (nI d))] := hl
  refine lv_aload_n hx hb dX1_quarter_0 rfl (lv_at hl 0 rfl) ?_
  refine r_getM F hW 0 2 rfl (by decide) rfl q156 hf2 dX1_quarter_1 ?_
  refine lv_iload_n hx hb dX1_quarter_4 rfl (lv_at hl 1 rfl) ?_
  refine lv_aload_n hx hb dX1_quarter_5 rfl (lv_at hl 0 rfl) ?_
  refine r_getM F hW 0 2 rfl (by decide) rfl q156 hf2 dX1_quarter_6 ?_
  refine lv_iload_n hx hb dX1_quarter_9 rfl (lv_at hl 1 rfl) ?_
  refine r_iald F hW 1 rfl a (by omega) (by decide) dX1_quarter_10 ?_
  refine lv_aload_n hx hb dX1_quarter_11 rfl (lv_at hl 0 rfl) ?_
  refine r_getM F hW 0 2 rfl (by decide) rfl q156 hf2 dX1_quarter_12 ?_
  refine lv_iload_n hx hb dX1_quarter_15 rfl (lv_at hl 2 rfl) ?_
  refine r_iald F hW 1 rfl b (by omega) (by decide) dX1_quarter_16 ?_
  refine lv_iadd hx hb dX1_quarter_17 ?_
  refine r_iast (w' := [(o, obj 1 fs), (aX, arI cI 16 (mqA a b x))]) F hW 1 rfl a (by omega) (by decide) (mqA a b x) rfl rfl dX1_quarter_18 (fun H locs hW => ?_)
  refine lv_aload_n hx hb dX1_quarter_19 rfl (lv_at hl 0 rfl) ?_
  refine r_getM F hW 0 2 rfl (by decide) rfl q156 hf2 dX1_quarter_20 ?_
  refine lv_iload hx hb dX1_quarter_23 (lv_at hl 4 rfl) ?_
  refine lv_aload_n hx hb dX1_quarter_25 rfl (lv_at hl 0 rfl) ?_
  refine r_getM F hW 0 2 rfl (by decide) rfl q156 hf2 dX1_quarter_26 ?_
  refine lv_iload hx hb dX1_quarter_29 (lv_at hl 4 rfl) ?_
  refine r_iald F hW 1 rfl d (by omega) (by decide) dX1_quarter_31 ?_
  refine lv_aload_n hx hb dX1_quarter_32 rfl (lv_at hl 0 rfl) ?_
  refine r_getM F hW 0 2 rfl (by decide) rfl q156 hf2 dX1_quarter_33 ?_
  refine lv_iload_n hx hb dX1_quarter_36 rfl (lv_at hl 1 rfl) ?_
  refine r_iald F hW 1 rfl a (by omega) (by decide) dX1_quarter_37 ?_
  refine lv_ixor hx hb dX1_quarter_38 ?_
  refine lv_bipush (v := nI 16) hx hb dX1_quarter_39 (by decide) ?_
  refine k_SI (rest := [.int (nI d), .ref aX]) F hW (ct_X1_turn l G cI cB cL (((mqA a b x) d) ^^^ ((mqA a b x) a)) 16 (by omega)) [0, 1] rfl rfl g_X1_turn ⟨rfl, rfl⟩ hd_X1_turn ⟨Nat.le_of_ble_eq_true rfl, Nat.le_of_ble_eq_true rfl⟩ rfl hl.1 rfl (Nat.le_of_ble_eq_true rfl) dX1_quarter_41 ⟨Nat.zero_le _, Nat.zero_le _⟩ (fun H locs hW => ?_)
  refine r_iast (w' := [(o, obj 1 fs), (aX, arI cI 16 (mqR d a 16 (mqA a b x)))]) F hW 1 rfl d (by omega) (by decide) (mqR d a 16 (mqA a b x)) rfl rfl dX1_quarter_44 (fun H locs hW => ?_)
  refine lv_aload_n hx hb dX1_quarter_45 rfl (lv_at hl 0 rfl) ?_
  refine r_getM F hW 0 2 rfl (by decide) rfl q156 hf2 dX1_quarter_46 ?_
  refine lv_iload_n hx hb dX1_quarter_49 rfl (lv_at hl 3 rfl) ?_
  refine lv_aload_n hx hb dX1_quarter_50 rfl (lv_at hl 0 rfl) ?_
  refine r_getM F hW 0 2 rfl (by decide) rfl q156 hf2 dX1_quarter_51 ?_
  refine lv_iload_n hx hb dX1_quarter_54 rfl (lv_at hl 3 rfl) ?_
  refine r_iald F hW 1 rfl c_ (by omega) (by decide) dX1_quarter_55 ?_
  refine lv_aload_n hx hb dX1_quarter_56 rfl (lv_at hl 0 rfl) ?_
  refine r_getM F hW 0 2 rfl (by decide) rfl q156 hf2 dX1_quarter_57 ?_
  refine lv_iload hx hb dX1_quarter_60 (lv_at hl 4 rfl) ?_
  refine r_iald F hW 1 rfl d (by omega) (by decide) dX1_quarter_62 ?_
  refine lv_iadd hx hb dX1_quarter_63 ?_
  refine r_iast (w' := [(o, obj 1 fs), (aX, arI cI 16 (mqA c_ d (mqR d a 16 (mqA a b x))))]) F hW 1 rfl c_ (by omega) (by decide) (mqA c_ d (mqR d a 16 (mqA a b x))) rfl rfl dX1_quarter_64 (fun H locs hW => ?_)
  refine lv_aload_n hx hb dX1_quarter_65 rfl (lv_at hl 0 rfl) ?_
  refine r_getM F hW 0 2 rfl (by decide) rfl q156 hf2 dX1_quarter_66 ?_
  refine lv_iload_n hx hb dX1_quarter_69 rfl (lv_at hl 2 rfl) ?_
  refine lv_aload_n hx hb dX1_quarter_70 rfl (lv_at hl 0 rfl) ?_
  refine r_getM F hW 0 2 rfl (by decide) rfl q156 hf2 dX1_quarter_71 ?_
  refine lv_iload_n hx hb dX1_quarter_74 rfl (lv_at hl 2 rfl) ?_
  refine r_iald F hW 1 rfl b (by omega) (by decide) dX1_quarter_75 ?_
  refine lv_aload_n hx hb dX1_quarter_76 rfl (lv_at hl 0 rfl) ?_
  refine r_getM F hW 0 2 rfl (by decide) rfl q156 hf2 dX1_quarter_77 ?_
  refine lv_iload_n hx hb dX1_quarter_80 rfl (lv_at hl 3 rfl) ?_
  refine r_iald F hW 1 rfl c_ (by omega) (by decide) dX1_quarter_81 ?_
  refine lv_ixor hx hb dX1_quarter_82 ?_
  refine lv_bipush (v := nI 12) hx hb dX1_quarter_83 (by decide) ?_
  refine k_SI (rest := [.int (nI b), .ref aX]) F hW (ct_X1_turn l G cI cB cL (((mqA c_ d (mqR d a 16 (mqA a b x))) b) ^^^ ((mqA c_ d (mqR d a 16 (mqA a b x))) c_)) 12 (by omega)) [0, 1] rfl rfl g_X1_turn ⟨rfl, rfl⟩ hd_X1_turn ⟨Nat.le_of_ble_eq_true rfl, Nat.le_of_ble_eq_true rfl⟩ rfl hl.1 rfl (Nat.le_of_ble_eq_true rfl) dX1_quarter_85 ⟨Nat.zero_le _, Nat.zero_le _⟩ (fun H locs hW => ?_)
  refine r_iast (w' := [(o, obj 1 fs), (aX, arI cI 16 (mqR b c_ 12 (mqA c_ d (mqR d a 16 (mqA a b x)))))]) F hW 1 rfl b (by omega) (by decide) (mqR b c_ 12 (mqA c_ d (mqR d a 16 (mqA a b x)))) rfl rfl dX1_quarter_88 (fun H locs hW => ?_)
  refine lv_aload_n hx hb dX1_quarter_89 rfl (lv_at hl 0 rfl) ?_
  refine r_getM F hW 0 2 rfl (by decide) rfl q156 hf2 dX1_quarter_90 ?_
  refine lv_iload_n hx hb dX1_quarter_93 rfl (lv_at hl 1 rfl) ?_
  refine lv_aload_n hx hb dX1_quarter_94 rfl (lv_at hl 0 rfl) ?_
  refine r_getM F hW 0 2 rfl (by decide) rfl q156 hf2 dX1_quarter_95 ?_
  refine lv_iload_n hx hb dX1_quarter_98 rfl (lv_at hl 1 rfl) ?_
  refine r_iald F hW 1 rfl a (by omega) (by decide) dX1_quarter_99 ?_
  refine lv_aload_n hx hb dX1_quarter_100 rfl (lv_at hl 0 rfl) ?_
  refine r_getM F hW 0 2 rfl (by decide) rfl q156 hf2 dX1_quarter_101 ?_
  refine lv_iload_n hx hb dX1_quarter_104 rfl (lv_at hl 2 rfl) ?_
  refine r_iald F hW 1 rfl b (by omega) (by decide) dX1_quarter_105 ?_
  refine lv_iadd hx hb dX1_quarter_106 ?_
  refine r_iast (w' := [(o, obj 1 fs), (aX, arI cI 16 (mqA a b (mqR b c_ 12 (mqA c_ d (mqR d a 16 (mqA a b x))))))]) F hW 1 rfl a (by omega) (by decide) (mqA a b (mqR b c_ 12 (mqA c_ d (mqR d a 16 (mqA a b x))))) rfl rfl dX1_quarter_107 (fun H locs hW => ?_)
  refine lv_aload_n hx hb dX1_quarter_108 rfl (lv_at hl 0 rfl) ?_
  refine r_getM F hW 0 2 rfl (by decide) rfl q156 hf2 dX1_quarter_109 ?_
  refine lv_iload hx hb dX1_quarter_112 (lv_at hl 4 rfl) ?_
  refine lv_aload_n hx hb dX1_quarter_114 rfl (lv_at hl 0 rfl) ?_
  refine r_getM F hW 0 2 rfl (by decide) rfl q156 hf2 dX1_quarter_115 ?_
  refine lv_iload hx hb dX1_quarter_118 (lv_at hl 4 rfl) ?_
  refine r_iald F hW 1 rfl d (by omega) (by decide) dX1_quarter_120 ?_
  refine lv_aload_n hx hb dX1_quarter_121 rfl (lv_at hl 0 rfl) ?_
  refine r_getM F hW 0 2 rfl (by decide) rfl q156 hf2 dX1_quarter_122 ?_
  refine lv_iload_n hx hb dX1_quarter_125 rfl (lv_at hl 1 rfl) ?_
  refine r_iald F hW 1 rfl a (by omega) (by decide) dX1_quarter_126 ?_
  refine lv_ixor hx hb dX1_quarter_127 ?_
  refine lv_bipush (v := nI 8) hx hb dX1_quarter_128 (by decide) ?_
  refine k_SI (rest := [.int (nI d), .ref aX]) F hW (ct_X1_turn l G cI cB cL (((mqA a b (mqR b c_ 12 (mqA c_ d (mqR d a 16 (mqA a b x))))) d) ^^^ ((mqA a b (mqR b c_ 12 (mqA c_ d (mqR d a 16 (mqA a b x))))) a)) 8 (by omega)) [0, 1] rfl rfl g_X1_turn ⟨rfl, rfl⟩ hd_X1_turn ⟨Nat.le_of_ble_eq_true rfl, Nat.le_of_ble_eq_true rfl⟩ rfl hl.1 rfl (Nat.le_of_ble_eq_true rfl) dX1_quarter_130 ⟨Nat.zero_le _, Nat.zero_le _⟩ (fun H locs hW => ?_)
  refine r_iast (w' := [(o, obj 1 fs), (aX, arI cI 16 (mqR d a 8 (mqA a b (mqR b c_ 12 (mqA c_ d (mqR d a 16 (mqA a b x)))))))]) F hW 1 rfl d (by omega) (by decide) (mqR d a 8 (mqA a b (mqR b c_ 12 (mqA c_ d (mqR d a 16 (mqA a b x)))))) rfl rfl dX1_quarter_133 (fun H locs hW => ?_)
  refine lv_aload_n hx hb dX1_quarter_134 rfl (lv_at hl 0 rfl) ?_
  refine r_getM F hW 0 2 rfl (by decide) rfl q156 hf2 dX1_quarter_135 ?_
  refine lv_iload_n hx hb dX1_quarter_138 rfl (lv_at hl 3 rfl) ?_
  refine lv_aload_n hx hb dX1_quarter_139 rfl (lv_at hl 0 rfl) ?_
  refine r_getM F hW 0 2 rfl (by decide) rfl q156 hf2 dX1_quarter_140 ?_
  refine lv_iload_n hx hb dX1_quarter_143 rfl (lv_at hl 3 rfl) ?_
  refine r_iald F hW 1 rfl c_ (by omega) (by decide) dX1_quarter_144 ?_
  refine lv_aload_n hx hb dX1_quarter_145 rfl (lv_at hl 0 rfl) ?_
  refine r_getM F hW 0 2 rfl (by decide) rfl q156 hf2 dX1_quarter_146 ?_
  refine lv_iload hx hb dX1_quarter_149 (lv_at hl 4 rfl) ?_
  refine r_iald F hW 1 rfl d (by omega) (by decide) dX1_quarter_151 ?_
  refine lv_iadd hx hb dX1_quarter_152 ?_
  refine r_iast (w' := [(o, obj 1 fs), (aX, arI cI 16 (mqA c_ d (mqR d a 8 (mqA a b (mqR b c_ 12 (mqA c_ d (mqR d a 16 (mqA a b x))))))))]) F hW 1 rfl c_ (by omega) (by decide) (mqA c_ d (mqR d a 8 (mqA a b (mqR b c_ 12 (mqA c_ d (mqR d a 16 (mqA a b x))))))) rfl rfl dX1_quarter_153 (fun H locs hW => ?_)
  refine lv_aload_n hx hb dX1_quarter_154 rfl (lv_at hl 0 rfl) ?_
  refine r_getM F hW 0 2 rfl (by decide) rfl q156 hf2 dX1_quarter_155 ?_
  refine lv_iload_n hx hb dX1_quarter_158 rfl (lv_at hl 2 rfl) ?_
  refine lv_aload_n hx hb dX1_quarter_159 rfl (lv_at hl 0 rfl) ?_
  refine r_getM F hW 0 2 rfl (by decide) rfl q156 hf2 dX1_quarter_160 ?_
  refine lv_iload_n hx hb dX1_quarter_163 rfl (lv_at hl 2 rfl) ?_
  refine r_iald F hW 1 rfl b (by omega) (by decide) dX1_quarter_164 ?_
  refine lv_aload_n hx hb dX1_quarter_165 rfl (lv_at hl 0 rfl) ?_
  refine r_getM F hW 0 2 rfl (by decide) rfl q156 hf2 dX1_quarter_166 ?_
  refine lv_iload_n hx hb dX1_quarter_169 rfl (lv_at hl 3 rfl) ?_
  refine r_iald F hW 1 rfl c_ (by omega) (by decide) dX1_quarter_170 ?_
  refine lv_ixor hx hb dX1_quarter_171 ?_
  refine lv_bipush (v := nI 7) hx hb dX1_quarter_172 (by decide) ?_
  refine k_SI (rest := [.int (nI b), .ref aX]) F hW (ct_X1_turn l G cI cB cL (((mqA c_ d (mqR d a 8 (mqA a b (mqR b c_ 12 (mqA c_ d (mqR d a 16 (mqA a b x))))))) b) ^^^ ((mqA c_ d (mqR d a 8 (mqA a b (mqR b c_ 12 (mqA c_ d (mqR d a 16 (mqA a b x))))))) c_)) 7 (by omega)) [0, 1] rfl rfl g_X1_turn ⟨rfl, rfl⟩ hd_X1_turn ⟨Nat.le_of_ble_eq_true rfl, Nat.le_of_ble_eq_true rfl⟩ rfl hl.1 rfl (Nat.le_of_ble_eq_true rfl) dX1_quarter_174 ⟨Nat.zero_le _, Nat.zero_le _⟩ (fun H locs hW => ?_)
  refine r_iast (w' := [(o, obj 1 fs), (aX, arI cI 16 (mqR b c_ 7 (mqA c_ d (mqR d a 8 (mqA a b (mqR b c_ 12 (mqA c_ d (mqR d a 16 (mqA a b x)))))))))]) F hW 1 rfl b (by omega) (by decide) (mqR b c_ 7 (mqA c_ d (mqR d a 8 (mqA a b (mqR b c_ 12 (mqA c_ d (mqR d a 16 (mqA a b x)))))))) rfl rfl dX1_quarter_177 (fun H locs hW => ?_)
  exact r_vret F hW dX1_quarter_178
set_option maxHeartbeats 4000000 in
theorem ct_X1_salsaQuarter (l : Launch) (G : va_G) (cI cB cL : ClassId) (o aX : Nat) (fs : List Value) (hf2 : fs[2]? = some (.ref aX)) (x : Nat → Int32) (a b c_ d : Nat) (ha : a < 16) (hb16 : b < 16) (hc : c_ < 16) (hd : d < 16) : CV l yX1_salsaQuarter (ws_ yX1_salsaQuarter cX1_salsaQuarter 5 none) (rm_ 1 21) G (tys_ cI cB cL) [.ref o, .int (nI a), .int (nI b), .int (nI c_), .int (nI d)] [(o, obj 1 fs), (aX, arI cI 16 x)] [(o, obj 1 fs), (aX, arI cI 16 (salsaQ a b c_ d x))] := by
  refine CV.of (by decide) (Nat.le_of_ble_eq_true rfl) ?_
  intro p e s m below meth c A ls F hW hl
  have F : Fx p m c cX1_salsaQuarter 5 s ([.ref o, .int (nI a), .int (nI b), .int (nI c_), .int (nI d)] : List Value).toArray RX1 meth none := F
  obtain ⟨⟨hx, hb, hml, hown, hts⟩, hr, hlocks⟩ := id F
  have hl : lv_has ls 5 [(0, .ref o), (1, .int (nI a)), (2, .int (nI b)), (3, .int (nI c_)), (4, .int (nI d))] := hl
  refine lv_aload_n hx hb dX1_salsaQuarter_0 rfl (lv_at hl 0 rfl) ?_
  refine r_getM F hW 0 2 rfl (by decide) rfl q156 hf2 dX1_salsaQuarter_1 ?_
  refine lv_iload_n hx hb dX1_salsaQuarter_4 rfl (lv_at hl 2 rfl) ?_
  refine lv_aload_n hx hb dX1_salsaQuarter_5 rfl (lv_at hl 0 rfl) ?_
  refine r_getM F hW 0 2 rfl (by decide) rfl q156 hf2 dX1_salsaQuarter_6 ?_
  refine lv_iload_n hx hb dX1_salsaQuarter_9 rfl (lv_at hl 2 rfl) ?_
  refine r_iald F hW 1 rfl b (by omega) (by decide) dX1_salsaQuarter_10 ?_
  refine lv_aload_n hx hb dX1_salsaQuarter_11 rfl (lv_at hl 0 rfl) ?_
  refine r_getM F hW 0 2 rfl (by decide) rfl q156 hf2 dX1_salsaQuarter_12 ?_
  refine lv_iload_n hx hb dX1_salsaQuarter_15 rfl (lv_at hl 1 rfl) ?_
  refine r_iald F hW 1 rfl a (by omega) (by decide) dX1_salsaQuarter_16 ?_
  refine lv_aload_n hx hb dX1_salsaQuarter_17 rfl (lv_at hl 0 rfl) ?_
  refine r_getM F hW 0 2 rfl (by decide) rfl q156 hf2 dX1_salsaQuarter_18 ?_
  refine lv_iload hx hb dX1_salsaQuarter_21 (lv_at hl 4 rfl) ?_
  refine r_iald F hW 1 rfl d (by omega) (by decide) dX1_salsaQuarter_23 ?_
  refine lv_iadd hx hb dX1_salsaQuarter_24 ?_
  refine lv_bipush (v := nI 7) hx hb dX1_salsaQuarter_25 (by decide) ?_
  refine k_SI (rest := [.int (x b), .int (nI b), .ref aX]) F hW (ct_X1_turn l G cI cB cL ((x a) + (x d)) 7 (by omega)) [0, 1] rfl rfl g_X1_turn ⟨rfl, rfl⟩ hd_X1_turn ⟨Nat.le_of_ble_eq_true rfl, Nat.le_of_ble_eq_true rfl⟩ rfl hl.1 rfl (Nat.le_of_ble_eq_true rfl) dX1_salsaQuarter_27 ⟨Nat.zero_le _, Nat.zero_le _⟩ (fun H locs hW => ?_)
  refine lv_ixor hx hb dX1_salsaQuarter_30 ?_
  refine r_iast (w' := [(o, obj 1 fs), (aX, arI cI 16 (sqS b a d 7 x))]) F hW 1 rfl b (by omega) (by decide) (sqS b a d 7 x) rfl rfl dX1_salsaQuarter_31 (fun H locs hW => ?_)
  refine lv_aload_n hx hb dX1_salsaQuarter_32 rfl (lv_at hl 0 rfl) ?_
  refine r_getM F hW 0 2 rfl (by decide) rfl q156 hf2 dX1_salsaQuarter_33 ?_
  refine lv_iload_n hx hb dX1_salsaQuarter_36 rfl (lv_at hl 3 rfl) ?_
  refine lv_aload_n hx hb dX1_salsaQuarter_37 rfl (lv_at hl 0 rfl) ?_
  refine r_getM F hW 0 2 rfl (by decide) rfl q156 hf2 dX1_salsaQuarter_38 ?_
  refine lv_iload_n hx hb dX1_salsaQuarter_41 rfl (lv_at hl 3 rfl) ?_
  refine r_iald F hW 1 rfl c_ (by omega) (by decide) dX1_salsaQuarter_42 ?_
  refine lv_aload_n hx hb dX1_salsaQuarter_43 rfl (lv_at hl 0 rfl) ?_
  refine r_getM F hW 0 2 rfl (by decide) rfl q156 hf2 dX1_salsaQuarter_44 ?_
  refine lv_iload_n hx hb dX1_salsaQuarter_47 rfl (lv_at hl 2 rfl) ?_
  refine r_iald F hW 1 rfl b (by omega) (by decide) dX1_salsaQuarter_48 ?_
  refine lv_aload_n hx hb dX1_salsaQuarter_49 rfl (lv_at hl 0 rfl) ?_
  refine r_getM F hW 0 2 rfl (by decide) rfl q156 hf2 dX1_salsaQuarter_50 ?_
  refine lv_iload_n hx hb dX1_salsaQuarter_53 rfl (lv_at hl 1 rfl) ?_
  refine r_iald F hW 1 rfl a (by omega) (by decide) dX1_salsaQuarter_54 ?_
  refine lv_iadd hx hb dX1_salsaQuarter_55 ?_
  refine lv_bipush (v := nI 9) hx hb dX1_salsaQuarter_56 (by decide) ?_
  refine k_SI (rest := [.int ((sqS b a d 7 x) c_), .int (nI c_), .ref aX]) F hW (ct_X1_turn l G cI cB cL (((sqS b a d 7 x) b) + ((sqS b a d 7 x) a)) 9 (by omega)) [0, 1] rfl rfl g_X1_turn ⟨rfl, rfl⟩ hd_X1_turn ⟨Nat.le_of_ble_eq_true rfl, Nat.le_of_ble_eq_true rfl⟩ rfl hl.1 rfl (Nat.le_of_ble_eq_true rfl) dX1_salsaQuarter_58 ⟨Nat.zero_le _, Nat.zero_le _⟩ (fun H locs hW => ?_)
  refine lv_ixor hx hb dX1_salsaQuarter_61 ?_
  refine r_iast (w' := [(o, obj 1 fs), (aX, arI cI 16 (sqS c_ b a 9 (sqS b a d 7 x)))]) F hW 1 rfl c_ (by omega) (by decide) (sqS c_ b a 9 (sqS b a d 7 x)) rfl rfl dX1_salsaQuarter_62 (fun H locs hW => ?_)
  refine lv_aload_n hx hb dX1_salsaQuarter_63 rfl (lv_at hl 0 rfl) ?_
  refine r_getM F hW 0 2 rfl (by decide) rfl q156 hf2 dX1_salsaQuarter_64 ?_
  refine lv_iload hx hb dX1_salsaQuarter_67 (lv_at hl 4 rfl) ?_
  refine lv_aload_n hx hb dX1_salsaQuarter_69 rfl (lv_at hl 0 rfl) ?_
  refine r_getM F hW 0 2 rfl (by decide) rfl q156 hf2 dX1_salsaQuarter_70 ?_
  refine lv_iload hx hb dX1_salsaQuarter_73 (lv_at hl 4 rfl) ?_
  refine r_iald F hW 1 rfl d (by omega) (by decide) dX1_salsaQuarter_75 ?_
  refine lv_aload_n hx hb dX1_salsaQuarter_76 rfl (lv_at hl 0 rfl) ?_
  refine r_getM F hW 0 2 rfl (by decide) rfl q156 hf2 dX1_salsaQuarter_77 ?_
  refine lv_iload_n hx hb dX1_salsaQuarter_80 rfl (lv_at hl 3 rfl) ?_
  refine r_iald F hW 1 rfl c_ (by omega) (by decide) dX1_salsaQuarter_81 ?_
  refine lv_aload_n hx hb dX1_salsaQuarter_82 rfl (lv_at hl 0 rfl) ?_
  refine r_getM F hW 0 2 rfl (by decide) rfl q156 hf2 dX1_salsaQuarter_83 ?_
  refine lv_iload_n hx hb dX1_salsaQuarter_86 rfl (lv_at hl 2 rfl) ?_
  refine r_iald F hW 1 rfl b (by omega) (by decide) dX1_salsaQuarter_87 ?_
  refine lv_iadd hx hb dX1_salsaQuarter_88 ?_
  refine lv_bipush (v := nI 13) hx hb dX1_salsaQuarter_89 (by decide) ?_
  refine k_SI (rest := [.int ((sqS c_ b a 9 (sqS b a d 7 x)) d), .int (nI d), .ref aX]) F hW (ct_X1_turn l G cI cB cL (((sqS c_ b a 9 (sqS b a d 7 x)) c_) + ((sqS c_ b a 9 (sqS b a d 7 x)) b)) 13 (by omega)) [0, 1] rfl rfl g_X1_turn ⟨rfl, rfl⟩ hd_X1_turn ⟨Nat.le_of_ble_eq_true rfl, Nat.le_of_ble_eq_true rfl⟩ rfl hl.1 rfl (Nat.le_of_ble_eq_true rfl) dX1_salsaQuarter_91 ⟨Nat.zero_le _, Nat.zero_le _⟩ (fun H locs hW => ?_)
  refine lv_ixor hx hb dX1_salsaQuarter_94 ?_
  refine r_iast (w' := [(o, obj 1 fs), (aX, arI cI 16 (sqS d c_ b 13 (sqS c_ b a 9 (sqS b a d 7 x))))]) F hW 1 rfl d (by omega) (by decide) (sqS d c_ b 13 (sqS c_ b a 9 (sqS b a d 7 x))) rfl rfl dX1_salsaQuarter_95 (fun H locs hW => ?_)
  refine lv_aload_n hx hb dX1_salsaQuarter_96 rfl (lv_at hl 0 rfl) ?_
  refine r_getM F hW 0 2 rfl (by decide) rfl q156 hf2 dX1_salsaQuarter_97 ?_
  refine lv_iload_n hx hb dX1_salsaQuarter_100 rfl (lv_at hl 1 rfl) ?_
  refine lv_aload_n hx hb dX1_salsaQuarter_101 rfl (lv_at hl 0 rfl) ?_
  refine r_getM F hW 0 2 rfl (by decide) rfl q156 hf2 dX1_salsaQuarter_102 ?_
  refine lv_iload_n hx hb dX1_salsaQuarter_105 rfl (lv_at hl 1 rfl) ?_
  refine r_iald F hW 1 rfl a (by omega) (by decide) dX1_salsaQuarter_106 ?_
  refine lv_aload_n hx hb dX1_salsaQuarter_107 rfl (lv_at hl 0 rfl) ?_
  refine r_getM F hW 0 2 rfl (by decide) rfl q156 hf2 dX1_salsaQuarter_108 ?_
  refine lv_iload hx hb dX1_salsaQuarter_111 (lv_at hl 4 rfl) ?_
  refine r_iald F hW 1 rfl d (by omega) (by decide) dX1_salsaQuarter_113 ?_
  refine lv_aload_n hx hb dX1_salsaQuarter_114 rfl (lv_at hl 0 rfl) ?_
  refine r_getM F hW 0 2 rfl (by decide) rfl q156 hf2 dX1_salsaQuarter_115 ?_
  refine lv_iload_n hx hb dX1_salsaQuarter_118 rfl (lv_at hl 3 rfl) ?_
  refine r_iald F hW 1 rfl c_ (by omega) (by decide) dX1_salsaQuarter_119 ?_
  refine lv_iadd hx hb dX1_salsaQuarter_120 ?_
  refine lv_bipush (v := nI 18) hx hb dX1_salsaQuarter_121 (by decide) ?_
  refine k_SI (rest := [.int ((sqS d c_ b 13 (sqS c_ b a 9 (sqS b a d 7 x))) a), .int (nI a), .ref aX]) F hW (ct_X1_turn l G cI cB cL (((sqS d c_ b 13 (sqS c_ b a 9 (sqS b a d 7 x))) d) + ((sqS d c_ b 13 (sqS c_ b a 9 (sqS b a d 7 x))) c_)) 18 (by omega)) [0, 1] rfl rfl g_X1_turn ⟨rfl, rfl⟩ hd_X1_turn ⟨Nat.le_of_ble_eq_true rfl, Nat.le_of_ble_eq_true rfl⟩ rfl hl.1 rfl (Nat.le_of_ble_eq_true rfl) dX1_salsaQuarter_123 ⟨Nat.zero_le _, Nat.zero_le _⟩ (fun H locs hW => ?_)
  refine lv_ixor hx hb dX1_salsaQuarter_126 ?_
  refine r_iast (w' := [(o, obj 1 fs), (aX, arI cI 16 (sqS a d c_ 18 (sqS d c_ b 13 (sqS c_ b a 9 (sqS b a d 7 x)))))]) F hW 1 rfl a (by omega) (by decide) (sqS a d c_ 18 (sqS d c_ b 13 (sqS c_ b a 9 (sqS b a d 7 x)))) rfl rfl dX1_salsaQuarter_127 (fun H locs hW => ?_)
  exact r_vret F hW dX1_salsaQuarter_128
end
section
set_option maxRecDepth 100000
set_option maxHeartbeats 4000000 in
theorem ct_X1_coreS (l : Launch) (G : va_G) (cI cB cL : ClassId) (o aX aS : Nat) (fs : List Value) (hf2 : fs[2]? = some (.ref aX)) (hf3 : fs[3]? = some (.ref aS)) (x y : Nat → Int32) (N : Nat) (hN : N ≤ 64) : CV l yX1_core (ws_ yX1_core cX1_core 5 none) (rm_ 2 45) G (tys_ cI cB cL) [.ref o, .int (nI N), .int (nI 1)] [(o, obj 1 fs), (aX, arI cI 16 x), (aS, arI cI 16 y)] [(o, obj 1 fs), (aX, arI cI 16 (coreG rS N y x)), (aS, arI cI 16 y)] := by
  refine CV.of (by decide) (Nat.le_of_ble_eq_true rfl) ?_
  intro p e s m below meth c A ls F hW hl
  have F : Fx p m c cX1_core 5 s ([.ref o, .int (nI N), .int (nI 1)] : List Value).toArray RX1 meth none := F
  obtain ⟨⟨hx, hb, hml, hown, hts⟩, hr, hlocks⟩ := id F
  have hl : lv_has ls 5 [(0, .ref o), (1, .int (nI N)), (2, .int (nI 1))] := hl
  refine lv_iconst (v := nI 0) hx hb dX1_core_0 (by decide) ?_
  refine lv_istore_n (lv' := [(3, .int (nI 0)), (0, .ref o), (1, .int (nI N)), (2, .int (nI 1))]) hx hb dX1_core_1 rfl hl (by decide) rfl (fun ls hl => ?_)
  have loop3 : ∀ (nk k : Nat), k + nk = 16 → ∀ (H : Heap) (locs : List Loc) (ls : Array Slot), Wd G (tys_ cI cB cL) A s H locs [(o, obj 1 fs), (aX, arI cI 16 (it_ (addK y) k (it_ (rnM rS) N (it_ (cpK y) 16 x)))), (aS, arI cI 16 y)] → lv_has ls 5 [(0, .ref o), (1, .int (nI N)), (2, .int (nI 1)), (3, .int (nI k))] → W p l e (rm_ 2 45) s m ([.ref o, .int (nI N), .int (nI 1)] : List Value).toArray below meth c H locs 0 0 (MQ below (QV G (tys_ cI cB cL) [(o, obj 1 fs), (aX, arI cI 16 (coreG rS N y x)), (aS, arI cI 16 y)] A) ([.ref o, .int (nI N), .int (nI 1)] : List Value).toArray s 0 0 A) (F0 m 211 ls []) := by
    intro nk
    induction nk with
    | zero =>
      intro k hk H locs ls hW hl
      obtain rfl : k = 16 := by omega
      refine lv_iload_n hx hb dX1_core_211 rfl (lv_at hl 3 rfl) ?_
      refine lv_bipush (v := nI 16) hx hb dX1_core_212 (by decide) ?_
      refine n_ge_t (tgt := 242) hx hb (by omega) (by omega) dX1_core_214 (by decide) ?_
      have hW : Wd G (tys_ cI cB cL) A s H locs [(o, obj 1 fs), (aX, arI cI 16 (coreG rS N y x)), (aS, arI cI 16 y)] := hW
      exact r_vret F hW dX1_core_242
    | succ nk ihk =>
      intro k hk H locs ls hW hl
      have hkN : k < 16 := by omega
      refine lv_iload_n hx hb dX1_core_211 rfl (lv_at hl 3 rfl) ?_
      refine lv_bipush (v := nI 16) hx hb dX1_core_212 (by decide) ?_
      refine n_ge_f (tgt := 242) hx hb (by omega) (by omega) dX1_core_214 (by decide) ?_
      refine lv_aload_n hx hb dX1_core_217 rfl (lv_at hl 0 rfl) ?_
      refine r_getM F hW 0 2 rfl (by decide) rfl q156 hf2 dX1_core_218 ?_
      refine lv_iload_n hx hb dX1_core_221 rfl (lv_at hl 3 rfl) ?_
      refine lv_aload_n hx hb dX1_core_222 rfl (lv_at hl 0 rfl) ?_
      refine r_getM F hW 0 2 rfl (by decide) rfl q156 hf2 dX1_core_223 ?_
      refine lv_iload_n hx hb dX1_core_226 rfl (lv_at hl 3 rfl) ?_
      refine r_iald F hW 1 rfl k (by omega) (by decide) dX1_core_227 ?_
      refine lv_aload_n hx hb dX1_core_228 rfl (lv_at hl 0 rfl) ?_
      refine r_getM F hW 0 3 rfl (by decide) rfl q157 hf3 dX1_core_229 ?_
      refine lv_iload_n hx hb dX1_core_232 rfl (lv_at hl 3 rfl) ?_
      refine r_iald F hW 2 rfl k (by omega) (by decide) dX1_core_233 ?_
      refine lv_iadd hx hb dX1_core_234 ?_
      refine r_iast (w' := [(o, obj 1 fs), (aX, arI cI 16 (addK y k (it_ (addK y) k (it_ (rnM rS) N (it_ (cpK y) 16 x))))), (aS, arI cI 16 y)]) F hW 1 rfl k (by omega) (by decide) (addK y k (it_ (addK y) k (it_ (rnM rS) N (it_ (cpK y) 16 x)))) rfl rfl dX1_core_235 (fun H locs hW => ?_)
      refine n_iinc (lv' := [(3, .int (nI (k + 1))), (0, .ref o), (1, .int (nI N)), (2, .int (nI 1))]) (k := 3) (d := 1) hx hb dX1_core_236 hl rfl (by decide) (by decide) rfl (fun ls hl => ?_)
      refine lv_goto (tgt := 211) hx hb dX1_core_239 (by decide) ?_
      exact ihk (k + 1) (by omega) H locs ls (hW.eq (by rw [it_s (addK y) k (it_ (rnM rS) N (it_ (cpK y) 16 x))])) (lv_sub hl [1, 2, 3, 0] rfl)
  have loop2 : ∀ (nk k : Nat), k + nk = N → ∀ (H : Heap) (locs : List Loc) (ls : Array Slot), Wd G (tys_ cI cB cL) A s H locs [(o, obj 1 fs), (aX, arI cI 16 (it_ (rnM rS) k (it_ (cpK y) 16 x))), (aS, arI cI 16 y)] → lv_has ls 5 [(0, .ref o), (1, .int (nI N)), (2, .int (nI 1)), (3, .int (nI k))] → W p l e (rm_ 2 45) s m ([.ref o, .int (nI N), .int (nI 1)] : List Value).toArray below meth c H locs 0 0 (MQ below (QV G (tys_ cI cB cL) [(o, obj 1 fs), (aX, arI cI 16 (coreG rS N y x)), (aS, arI cI 16 y)] A) ([.ref o, .int (nI N), .int (nI 1)] : List Value).toArray s 0 0 A) (F0 m 28 ls []) := by
    intro nk
    induction nk with
    | zero =>
      intro k hk H locs ls hW hl
      have hk : k = N := by omega
      rw [hk] at hW hl
      refine lv_iload_n hx hb dX1_core_28 rfl (lv_at hl 3 rfl) ?_
      refine lv_iload_n hx hb dX1_core_29 rfl (lv_at hl 1 rfl) ?_
      refine n_ge_t (tgt := 209) hx hb (by omega) (by omega) dX1_core_30 (by decide) ?_
      refine lv_iconst (v := nI 0) hx hb dX1_core_209 (by decide) ?_
      refine lv_istore_n (lv' := [(3, .int (nI 0)), (0, .ref o), (1, .int (nI N)), (2, .int (nI 1))]) hx hb dX1_core_210 rfl hl (by decide) rfl (fun ls hl => ?_)
      exact loop3 16 0 (by omega) _ _ _ (hW.eq (by rw [it_0 (addK y) (it_ (rnM rS) N (it_ (cpK y) 16 x))])) (lv_sub hl [1, 2, 3, 0] rfl)
    | succ nk ihk =>
      intro k hk H locs ls hW hl
      have hkN : k < N := by omega
      refine lv_iload_n hx hb dX1_core_28 rfl (lv_at hl 3 rfl) ?_
      refine lv_iload_n hx hb dX1_core_29 rfl (lv_at hl 1 rfl) ?_
      refine n_ge_f (tgt := 209) hx hb (by omega) (by omega) dX1_core_30 (by decide) ?_
      refine lv_iconst (v := nI 0) hx hb dX1_core_33 (by decide) ?_
      refine lv_istore (lv' := [(4, .int (nI 0)), (0, .ref o), (1, .int (nI N)), (2, .int (nI 1)), (3, .int (nI k))]) hx hb dX1_core_34 hl (by decide) rfl (fun ls hl => ?_)
      have inn : ∀ (nj j : Nat), j + nj = 4 → ∀ (H : Heap) (locs : List Loc) (ls : Array Slot), Wd G (tys_ cI cB cL) A s H locs [(o, obj 1 fs), (aX, arI cI 16 (it_ (rS k) j (it_ (rnM rS) k (it_ (cpK y) 16 x)))), (aS, arI cI 16 y)] → lv_has ls 5 [(0, .ref o), (1, .int (nI N)), (2, .int (nI 1)), (3, .int (nI k)), (4, .int (nI j))] → W p l e (rm_ 2 45) s m ([.ref o, .int (nI N), .int (nI 1)] : List Value).toArray below meth c H locs 0 0 (MQ below (QV G (tys_ cI cB cL) [(o, obj 1 fs), (aX, arI cI 16 (coreG rS N y x)), (aS, arI cI 16 y)] A) ([.ref o, .int (nI N), .int (nI 1)] : List Value).toArray s 0 0 A) (F0 m 36 ls []) := by
        intro nj
        induction nj with
        | zero =>
          intro j hj H locs ls hW hl
          obtain rfl : j = 4 := by omega
          refine lv_iload hx hb dX1_core_36 (lv_at hl 4 rfl) ?_
          refine lv_iconst (v := nI 4) hx hb dX1_core_38 (by decide) ?_
          refine n_ge_t (tgt := 203) hx hb (by omega) (by omega) dX1_core_39 (by decide) ?_
          have hW : Wd G (tys_ cI cB cL) A s H locs [(o, obj 1 fs), (aX, arI cI 16 (rnM rS k (it_ (rnM rS) k (it_ (cpK y) 16 x)))), (aS, arI cI 16 y)] := hW
          refine n_iinc (lv' := [(3, .int (nI (k + 1))), (0, .ref o), (1, .int (nI N)), (2, .int (nI 1)), (4, .int (nI 4))]) (k := 3) (d := 1) hx hb dX1_core_203 hl rfl (by decide) (by decide) rfl (fun ls hl => ?_)
          refine lv_goto (tgt := 28) hx hb dX1_core_206 (by decide) ?_
          exact ihk (k + 1) (by omega) H locs ls (hW.eq (by rw [it_s (rnM rS) k (it_ (cpK y) 16 x)])) (lv_sub hl [1, 2, 3, 0] rfl)
        | succ nj ihj =>
          intro j hj H locs ls hW hl
          have hjN : j < 4 := by omega
          refine lv_iload hx hb dX1_core_36 (lv_at hl 4 rfl) ?_
          refine lv_iconst (v := nI 4) hx hb dX1_core_38 (by decide) ?_
          refine n_ge_f (tgt := 203) hx hb (by omega) (by omega) dX1_core_39 (by decide) ?_
          refine lv_iload_n hx hb dX1_core_42 rfl (lv_at hl 2 rfl) ?_
          refine n_eq_f (tgt := 136) hx hb (by omega) (by omega) dX1_core_43 (by decide) ?_
          refine lv_iload_n hx hb dX1_core_46 rfl (lv_at hl 3 rfl) ?_
          refine lv_iconst (v := nI 1) hx hb dX1_core_47 (by decide) ?_
          refine n_and hx hb 1 2 (by omega) (by decide) (by decide) dX1_core_48 ?_
          by_cases hp : k % 2 = 0
          · refine n_ne_f (tgt := 92) hx hb (by omega) dX1_core_49 (by decide) ?_
            refine lv_aload_n hx hb dX1_core_52 rfl (lv_at hl 0 rfl) ?_
            refine lv_iconst (v := nI 5) hx hb dX1_core_53 (by decide) ?_
            refine lv_iload hx hb dX1_core_54 (lv_at hl 4 rfl) ?_
            refine n_mul hx hb dX1_core_56 ?_
            refine lv_iconst (v := nI 5) hx hb dX1_core_57 (by decide) ?_
            refine lv_iload hx hb dX1_core_58 (lv_at hl 4 rfl) ?_
            refine n_mul hx hb dX1_core_60 ?_
            refine lv_iconst (v := nI 4) hx hb dX1_core_61 (by decide) ?_
            refine n_add hx hb dX1_core_62 ?_
            refine lv_bipush (v := nI 16) hx hb dX1_core_63 (by decide) ?_
            refine n_rem hx hb (by omega) (by omega) (by omega) dX1_core_65 ?_
            refine lv_iconst (v := nI 5) hx hb dX1_core_66 (by decide) ?_
            refine lv_iload hx hb dX1_core_67 (lv_at hl 4 rfl) ?_
            refine n_mul hx hb dX1_core_69 ?_
            refine lv_bipush (v := nI 8) hx hb dX1_core_70 (by decide) ?_
            refine n_add hx hb dX1_core_72 ?_
            refine lv_bipush (v := nI 16) hx hb dX1_core_73 (by decide) ?_
            refine n_rem hx hb (by omega) (by omega) (by omega) dX1_core_75 ?_
            refine lv_iconst (v := nI 5) hx hb dX1_core_76 (by decide) ?_
            refine lv_iload hx hb dX1_core_77 (lv_at hl 4 rfl) ?_
            refine n_mul hx hb dX1_core_79 ?_
            refine lv_bipush (v := nI 12) hx hb dX1_core_80 (by decide) ?_
            refine n_add hx hb dX1_core_82 ?_
            refine lv_bipush (v := nI 16) hx hb dX1_core_83 (by decide) ?_
            refine n_rem hx hb (by omega) (by omega) (by omega) dX1_core_85 ?_
            refine k_V (rest := []) (wr := [(aS, arI cI 16 y)]) (w' := [(o, obj 1 fs), (aX, arI cI 16 (salsaQ (5 * j) (((5 * j) + 4) % 16) (((5 * j) + 8) % 16) (((5 * j) + 12) % 16) (it_ (rS k) j (it_ (rnM rS) k (it_ (cpK y) 16 x))))), (aS, arI cI 16 y)]) (q0 := 0) (ci := 1) F hW (ct_X1_salsaQuarter l G cI cB cL o aX fs hf2 (it_ (rS k) j (it_ (rnM rS) k (it_ (cpK y) 16 x))) (5 * j) (((5 * j) + 4) % 16) (((5 * j) + 8) % 16) (((5 * j) + 12) % 16) (by omega) (by omega) (by omega) (by omega)) [0, 1] [2] [1, 2, 0] rfl rfl rfl rfl (by decide) rfl rfl rfl rfl g_X1_salsaQuarter ⟨rfl, rfl⟩ hd_X1_salsaQuarter ⟨Nat.le_of_ble_eq_true rfl, Nat.le_of_ble_eq_true rfl⟩ rfl hl.1 rfl (Nat.le_of_ble_eq_true rfl) dX1_core_86 ⟨Nat.zero_le _, Nat.zero_le _⟩ (fun H locs hW => ?_)
            refine lv_goto (tgt := 197) hx hb dX1_core_89 (by decide) ?_
            have hW : Wd G (tys_ cI cB cL) A s H locs [(o, obj 1 fs), (aX, arI cI 16 (rS k j (it_ (rS k) j (it_ (rnM rS) k (it_ (cpK y) 16 x))))), (aS, arI cI 16 y)] := hW.eq (by rw [show rS k j (it_ (rS k) j (it_ (rnM rS) k (it_ (cpK y) 16 x))) = salsaQ (5 * j) (((5 * j) + 4) % 16) (((5 * j) + 8) % 16) (((5 * j) + 12) % 16) (it_ (rS k) j (it_ (rnM rS) k (it_ (cpK y) 16 x))) from if_pos hp])
            refine n_iinc (lv' := [(4, .int (nI (j + 1))), (0, .ref o), (1, .int (nI N)), (2, .int (nI 1)), (3, .int (nI k))]) (k := 4) (d := 1) hx hb dX1_core_197 hl rfl (by decide) (by decide) rfl (fun ls hl => ?_)
            refine lv_goto (tgt := 36) hx hb dX1_core_200 (by decide) ?_
            exact ihj (j + 1) (by omega) H locs ls (hW.eq (by rw [it_s (rS k) j (it_ (rnM rS) k (it_ (cpK y) 16 x))])) (lv_sub hl [1, 2, 3, 4, 0] rfl)
          · refine n_ne_t (tgt := 92) hx hb (by omega) (by omega) dX1_core_49 (by decide) ?_
            refine lv_aload_n hx hb dX1_core_92 rfl (lv_at hl 0 rfl) ?_
            refine lv_iconst (v := nI 5) hx hb dX1_core_93 (by decide) ?_
            refine lv_iload hx hb dX1_core_94 (lv_at hl 4 rfl) ?_
            refine n_mul hx hb dX1_core_96 ?_
            refine lv_iconst (v := nI 4) hx hb dX1_core_97 (by decide) ?_
            refine lv_iload hx hb dX1_core_98 (lv_at hl 4 rfl) ?_
            refine n_mul hx hb dX1_core_100 ?_
            refine lv_iload hx hb dX1_core_101 (lv_at hl 4 rfl) ?_
            refine lv_iconst (v := nI 1) hx hb dX1_core_103 (by decide) ?_
            refine n_add hx hb dX1_core_104 ?_
            refine lv_iconst (v := nI 4) hx hb dX1_core_105 (by decide) ?_
            refine n_rem hx hb (by omega) (by omega) (by omega) dX1_core_106 ?_
            refine n_add hx hb dX1_core_107 ?_
            refine lv_iconst (v := nI 4) hx hb dX1_core_108 (by decide) ?_
            refine lv_iload hx hb dX1_core_109 (lv_at hl 4 rfl) ?_
            refine n_mul hx hb dX1_core_111 ?_
            refine lv_iload hx hb dX1_core_112 (lv_at hl 4 rfl) ?_
            refine lv_iconst (v := nI 2) hx hb dX1_core_114 (by decide) ?_
            refine n_add hx hb dX1_core_115 ?_
            refine lv_iconst (v := nI 4) hx hb dX1_core_116 (by decide) ?_
            refine n_rem hx hb (by omega) (by omega) (by omega) dX1_core_117 ?_
            refine n_add hx hb dX1_core_118 ?_
            refine lv_iconst (v := nI 4) hx hb dX1_core_119 (by decide) ?_
            refine lv_iload hx hb dX1_core_120 (lv_at hl 4 rfl) ?_
            refine n_mul hx hb dX1_core_122 ?_
            refine lv_iload hx hb dX1_core_123 (lv_at hl 4 rfl) ?_
            refine lv_iconst (v := nI 3) hx hb dX1_core_125 (by decide) ?_
            refine n_add hx hb dX1_core_126 ?_
            refine lv_iconst (v := nI 4) hx hb dX1_core_127 (by decide) ?_
            refine n_rem hx hb (by omega) (by omega) (by omega) dX1_core_128 ?_
            refine n_add hx hb dX1_core_129 ?_
            refine k_V (rest := []) (wr := [(aS, arI cI 16 y)]) (w' := [(o, obj 1 fs), (aX, arI cI 16 (salsaQ (5 * j) ((4 * j) + ((j + 1) % 4)) ((4 * j) + ((j + 2) % 4)) ((4 * j) + ((j + 3) % 4)) (it_ (rS k) j (it_ (rnM rS) k (it_ (cpK y) 16 x))))), (aS, arI cI 16 y)]) (q0 := 0) (ci := 1) F hW (ct_X1_salsaQuarter l G cI cB cL o aX fs hf2 (it_ (rS k) j (it_ (rnM rS) k (it_ (cpK y) 16 x))) (5 * j) ((4 * j) + ((j + 1) % 4)) ((4 * j) + ((j + 2) % 4)) ((4 * j) + ((j + 3) % 4)) (by omega) (by omega) (by omega) (by omega)) [0, 1] [2] [1, 2, 0] rfl rfl rfl rfl (by decide) rfl rfl rfl rfl g_X1_salsaQuarter ⟨rfl, rfl⟩ hd_X1_salsaQuarter ⟨Nat.le_of_ble_eq_true rfl, Nat.le_of_ble_eq_true rfl⟩ rfl hl.1 rfl (Nat.le_of_ble_eq_true rfl) dX1_core_130 ⟨Nat.zero_le _, Nat.zero_le _⟩ (fun H locs hW => ?_)
            refine lv_goto (tgt := 197) hx hb dX1_core_133 (by decide) ?_
            have hW : Wd G (tys_ cI cB cL) A s H locs [(o, obj 1 fs), (aX, arI cI 16 (rS k j (it_ (rS k) j (it_ (rnM rS) k (it_ (cpK y) 16 x))))), (aS, arI cI 16 y)] := hW.eq (by rw [show rS k j (it_ (rS k) j (it_ (rnM rS) k (it_ (cpK y) 16 x))) = salsaQ (5 * j) ((4 * j) + ((j + 1) % 4)) ((4 * j) + ((j + 2) % 4)) ((4 * j) + ((j + 3) % 4)) (it_ (rS k) j (it_ (rnM rS) k (it_ (cpK y) 16 x))) from if_neg hp])
            refine n_iinc (lv' := [(4, .int (nI (j + 1))), (0, .ref o), (1, .int (nI N)), (2, .int (nI 1)), (3, .int (nI k))]) (k := 4) (d := 1) hx hb dX1_core_197 hl rfl (by decide) (by decide) rfl (fun ls hl => ?_)
            refine lv_goto (tgt := 36) hx hb dX1_core_200 (by decide) ?_
            exact ihj (j + 1) (by omega) H locs ls (hW.eq (by rw [it_s (rS k) j (it_ (rnM rS) k (it_ (cpK y) 16 x))])) (lv_sub hl [1, 2, 3, 4, 0] rfl)
      exact inn 4 0 (by omega) _ _ _ (hW.eq (by rw [it_0 (rS k) (it_ (rnM rS) k (it_ (cpK y) 16 x))])) (lv_sub hl [1, 2, 3, 4, 0] rfl)
  have loop1 : ∀ (nk k : Nat), k + nk = 16 → ∀ (H : Heap) (locs : List Loc) (ls : Array Slot), Wd G (tys_ cI cB cL) A s H locs [(o, obj 1 fs), (aX, arI cI 16 (it_ (cpK y) k x)), (aS, arI cI 16 y)] → lv_has ls 5 [(0, .ref o), (1, .int (nI N)), (2, .int (nI 1)), (3, .int (nI k))] → W p l e (rm_ 2 45) s m ([.ref o, .int (nI N), .int (nI 1)] : List Value).toArray below meth c H locs 0 0 (MQ below (QV G (tys_ cI cB cL) [(o, obj 1 fs), (aX, arI cI 16 (coreG rS N y x)), (aS, arI cI 16 y)] A) ([.ref o, .int (nI N), .int (nI 1)] : List Value).toArray s 0 0 A) (F0 m 2 ls []) := by
    intro nk
    induction nk with
    | zero =>
      intro k hk H locs ls hW hl
      obtain rfl : k = 16 := by omega
      refine lv_iload_n hx hb dX1_core_2 rfl (lv_at hl 3 rfl) ?_
      refine lv_bipush (v := nI 16) hx hb dX1_core_3 (by decide) ?_
      refine n_ge_t (tgt := 26) hx hb (by omega) (by omega) dX1_core_5 (by decide) ?_
      refine lv_iconst (v := nI 0) hx hb dX1_core_26 (by decide) ?_
      refine lv_istore_n (lv' := [(3, .int (nI 0)), (0, .ref o), (1, .int (nI N)), (2, .int (nI 1))]) hx hb dX1_core_27 rfl hl (by decide) rfl (fun ls hl => ?_)
      exact loop2 N 0 (by omega) _ _ _ (hW.eq (by rw [it_0 (rnM rS) (it_ (cpK y) 16 x)])) (lv_sub hl [1, 2, 3, 0] rfl)
    | succ nk ihk =>
      intro k hk H locs ls hW hl
      have hkN : k < 16 := by omega
      refine lv_iload_n hx hb dX1_core_2 rfl (lv_at hl 3 rfl) ?_
      refine lv_bipush (v := nI 16) hx hb dX1_core_3 (by decide) ?_
      refine n_ge_f (tgt := 26) hx hb (by omega) (by omega) dX1_core_5 (by decide) ?_
      refine lv_aload_n hx hb dX1_core_8 rfl (lv_at hl 0 rfl) ?_
      refine r_getM F hW 0 2 rfl (by decide) rfl q156 hf2 dX1_core_9 ?_
      refine lv_iload_n hx hb dX1_core_12 rfl (lv_at hl 3 rfl) ?_
      refine lv_aload_n hx hb dX1_core_13 rfl (lv_at hl 0 rfl) ?_
      refine r_getM F hW 0 3 rfl (by decide) rfl q157 hf3 dX1_core_14 ?_
      refine lv_iload_n hx hb dX1_core_17 rfl (lv_at hl 3 rfl) ?_
      refine r_iald F hW 2 rfl k (by omega) (by decide) dX1_core_18 ?_
      refine r_iast (w' := [(o, obj 1 fs), (aX, arI cI 16 (cpK y k (it_ (cpK y) k x))), (aS, arI cI 16 y)]) F hW 1 rfl k (by omega) (by decide) (cpK y k (it_ (cpK y) k x)) rfl rfl dX1_core_19 (fun H locs hW => ?_)
      refine n_iinc (lv' := [(3, .int (nI (k + 1))), (0, .ref o), (1, .int (nI N)), (2, .int (nI 1))]) (k := 3) (d := 1) hx hb dX1_core_20 hl rfl (by decide) (by decide) rfl (fun ls hl => ?_)
      refine lv_goto (tgt := 2) hx hb dX1_core_23 (by decide) ?_
      exact ihk (k + 1) (by omega) H locs ls (hW.eq (by rw [it_s (cpK y) k x])) (lv_sub hl [1, 2, 3, 0] rfl)
  exact loop1 16 0 (by omega) _ _ _ (hW.eq (by rw [it_0 (cpK y) x])) (lv_sub hl [1, 2, 3, 0] rfl)
set_option maxHeartbeats 4000000 in
theorem ct_X1_coreC (l : Launch) (G : va_G) (cI cB cL : ClassId) (o aX aS : Nat) (fs : List Value) (hf2 : fs[2]? = some (.ref aX)) (hf3 : fs[3]? = some (.ref aS)) (x y : Nat → Int32) (N : Nat) (hN : N ≤ 64) : CV l yX1_core (ws_ yX1_core cX1_core 5 none) (rm_ 2 45) G (tys_ cI cB cL) [.ref o, .int (nI N), .int (nI 0)] [(o, obj 1 fs), (aX, arI cI 16 x), (aS, arI cI 16 y)] [(o, obj 1 fs), (aX, arI cI 16 (coreG rC N y x)), (aS, arI cI 16 y)] := by
  refine CV.of (by decide) (Nat.le_of_ble_eq_true rfl) ?_
  intro p e s m below meth c A ls F hW hl
  have F : Fx p m c cX1_core 5 s ([.ref o, .int (nI N), .int (nI 0)] : List Value).toArray RX1 meth none := F
  obtain ⟨⟨hx, hb, hml, hown, hts⟩, hr, hlocks⟩ := id F
  have hl : lv_has ls 5 [(0, .ref o), (1, .int (nI N)), (2, .int (nI 0))] := hl
  refine lv_iconst (v := nI 0) hx hb dX1_core_0 (by decide) ?_
  refine lv_istore_n (lv' := [(3, .int (nI 0)), (0, .ref o), (1, .int (nI N)), (2, .int (nI 0))]) hx hb dX1_core_1 rfl hl (by decide) rfl (fun ls hl => ?_)
  have loop3 : ∀ (nk k : Nat), k + nk = 16 → ∀ (H : Heap) (locs : List Loc) (ls : Array Slot), Wd G (tys_ cI cB cL) A s H locs [(o, obj 1 fs), (aX, arI cI 16 (it_ (addK y) k (it_ (rnM rC) N (it_ (cpK y) 16 x)))), (aS, arI cI 16 y)] → lv_has ls 5 [(0, .ref o), (1, .int (nI N)), (2, .int (nI 0)), (3, .int (nI k))] → W p l e (rm_ 2 45) s m ([.ref o, .int (nI N), .int (nI 0)] : List Value).toArray below meth c H locs 0 0 (MQ below (QV G (tys_ cI cB cL) [(o, obj 1 fs), (aX, arI cI 16 (coreG rC N y x)), (aS, arI cI 16 y)] A) ([.ref o, .int (nI N), .int (nI 0)] : List Value).toArray s 0 0 A) (F0 m 211 ls []) := by
    intro nk
    induction nk with
    | zero =>
      intro k hk H locs ls hW hl
      obtain rfl : k = 16 := by omega
      refine lv_iload_n hx hb dX1_core_211 rfl (lv_at hl 3 rfl) ?_
      refine lv_bipush (v := nI 16) hx hb dX1_core_212 (by decide) ?_
      refine n_ge_t (tgt := 242) hx hb (by omega) (by omega) dX1_core_214 (by decide) ?_
      have hW : Wd G (tys_ cI cB cL) A s H locs [(o, obj 1 fs), (aX, arI cI 16 (coreG rC N y x)), (aS, arI cI 16 y)] := hW
      exact r_vret F hW dX1_core_242
    | succ nk ihk =>
      intro k hk H locs ls hW hl
      have hkN : k < 16 := by omega
      refine lv_iload_n hx hb dX1_core_211 rfl (lv_at hl 3 rfl) ?_
      refine lv_bipush (v := nI 16) hx hb dX1_core_212 (by decide) ?_
      refine n_ge_f (tgt := 242) hx hb (by omega) (by omega) dX1_core_214 (by decide) ?_
      refine lv_aload_n hx hb dX1_core_217 rfl (lv_at hl 0 rfl) ?_
      refine r_getM F hW 0 2 rfl (by decide) rfl q156 hf2 dX1_core_218 ?_
      refine lv_iload_n hx hb dX1_core_221 rfl (lv_at hl 3 rfl) ?_
      refine lv_aload_n hx hb dX1_core_222 rfl (lv_at hl 0 rfl) ?_
      refine r_getM F hW 0 2 rfl (by decide) rfl q156 hf2 dX1_core_223 ?_
      refine lv_iload_n hx hb dX1_core_226 rfl (lv_at hl 3 rfl) ?_
      refine r_iald F hW 1 rfl k (by omega) (by decide) dX1_core_227 ?_
      refine lv_aload_n hx hb dX1_core_228 rfl (lv_at hl 0 rfl) ?_
      refine r_getM F hW 0 3 rfl (by decide) rfl q157 hf3 dX1_core_229 ?_
      refine lv_iload_n hx hb dX1_core_232 rfl (lv_at hl 3 rfl) ?_
      refine r_iald F hW 2 rfl k (by omega) (by decide) dX1_core_233 ?_
      refine lv_iadd hx hb dX1_core_234 ?_
      refine r_iast (w' := [(o, obj 1 fs), (aX, arI cI 16 (addK y k (it_ (addK y) k (it_ (rnM rC) N (it_ (cpK y) 16 x))))), (aS, arI cI 16 y)]) F hW 1 rfl k (by omega) (by decide) (addK y k (it_ (addK y) k (it_ (rnM rC) N (it_ (cpK y) 16 x)))) rfl rfl dX1_core_235 (fun H locs hW => ?_)
      refine n_iinc (lv' := [(3, .int (nI (k + 1))), (0, .ref o), (1, .int (nI N)), (2, .int (nI 0))]) (k := 3) (d := 1) hx hb dX1_core_236 hl rfl (by decide) (by decide) rfl (fun ls hl => ?_)
      refine lv_goto (tgt := 211) hx hb dX1_core_239 (by decide) ?_
      exact ihk (k + 1) (by omega) H locs ls (hW.eq (by rw [it_s (addK y) k (it_ (rnM rC) N (it_ (cpK y) 16 x))])) (lv_sub hl [1, 2, 3, 0] rfl)
  have loop2 : ∀ (nk k : Nat), k + nk = N → ∀ (H : Heap) (locs : List Loc) (ls : Array Slot), Wd G (tys_ cI cB cL) A s H locs [(o, obj 1 fs), (aX, arI cI 16 (it_ (rnM rC) k (it_ (cpK y) 16 x))), (aS, arI cI 16 y)] → lv_has ls 5 [(0, .ref o), (1, .int (nI N)), (2, .int (nI 0)), (3, .int (nI k))] → W p l e (rm_ 2 45) s m ([.ref o, .int (nI N), .int (nI 0)] : List Value).toArray below meth c H locs 0 0 (MQ below (QV G (tys_ cI cB cL) [(o, obj 1 fs), (aX, arI cI 16 (coreG rC N y x)), (aS, arI cI 16 y)] A) ([.ref o, .int (nI N), .int (nI 0)] : List Value).toArray s 0 0 A) (F0 m 28 ls []) := by
    intro nk
    induction nk with
    | zero =>
      intro k hk H locs ls hW hl
      have hk : k = N := by omega
      rw [hk] at hW hl
      refine lv_iload_n hx hb dX1_core_28 rfl (lv_at hl 3 rfl) ?_
      refine lv_iload_n hx hb dX1_core_29 rfl (lv_at hl 1 rfl) ?_
      refine n_ge_t (tgt := 209) hx hb (by omega) (by omega) dX1_core_30 (by decide) ?_
      refine lv_iconst (v := nI 0) hx hb dX1_core_209 (by decide) ?_
      refine lv_istore_n (lv' := [(3, .int (nI 0)), (0, .ref o), (1, .int (nI N)), (2, .int (nI 0))]) hx hb dX1_core_210 rfl hl (by decide) rfl (fun ls hl => ?_)
      exact loop3 16 0 (by omega) _ _ _ (hW.eq (by rw [it_0 (addK y) (it_ (rnM rC) N (it_ (cpK y) 16 x))])) (lv_sub hl [1, 2, 3, 0] rfl)
    | succ nk ihk =>
      intro k hk H locs ls hW hl
      have hkN : k < N := by omega
      refine lv_iload_n hx hb dX1_core_28 rfl (lv_at hl 3 rfl) ?_
      refine lv_iload_n hx hb dX1_core_29 rfl (lv_at hl 1 rfl) ?_
      refine n_ge_f (tgt := 209) hx hb (by omega) (by omega) dX1_core_30 (by decide) ?_
      refine lv_iconst (v := nI 0) hx hb dX1_core_33 (by decide) ?_
      refine lv_istore (lv' := [(4, .int (nI 0)), (0, .ref o), (1, .int (nI N)), (2, .int (nI 0)), (3, .int (nI k))]) hx hb dX1_core_34 hl (by decide) rfl (fun ls hl => ?_)
      have inn : ∀ (nj j : Nat), j + nj = 4 → ∀ (H : Heap) (locs : List Loc) (ls : Array Slot), Wd G (tys_ cI cB cL) A s H locs [(o, obj 1 fs), (aX, arI cI 16 (it_ (rC k) j (it_ (rnM rC) k (it_ (cpK y) 16 x)))), (aS, arI cI 16 y)] → lv_has ls 5 [(0, .ref o), (1, .int (nI N)), (2, .int (nI 0)), (3, .int (nI k)), (4, .int (nI j))] → W p l e (rm_ 2 45) s m ([.ref o, .int (nI N), .int (nI 0)] : List Value).toArray below meth c H locs 0 0 (MQ below (QV G (tys_ cI cB cL) [(o, obj 1 fs), (aX, arI cI 16 (coreG rC N y x)), (aS, arI cI 16 y)] A) ([.ref o, .int (nI N), .int (nI 0)] : List Value).toArray s 0 0 A) (F0 m 36 ls []) := by
        intro nj
        induction nj with
        | zero =>
          intro j hj H locs ls hW hl
          obtain rfl : j = 4 := by omega
          refine lv_iload hx hb dX1_core_36 (lv_at hl 4 rfl) ?_
          refine lv_iconst (v := nI 4) hx hb dX1_core_38 (by decide) ?_
          refine n_ge_t (tgt := 203) hx hb (by omega) (by omega) dX1_core_39 (by decide) ?_
          have hW : Wd G (tys_ cI cB cL) A s H locs [(o, obj 1 fs), (aX, arI cI 16 (rnM rC k (it_ (rnM rC) k (it_ (cpK y) 16 x)))), (aS, arI cI 16 y)] := hW
          refine n_iinc (lv' := [(3, .int (nI (k + 1))), (0, .ref o), (1, .int (nI N)), (2, .int (nI 0)), (4, .int (nI 4))]) (k := 3) (d := 1) hx hb dX1_core_203 hl rfl (by decide) (by decide) rfl (fun ls hl => ?_)
          refine lv_goto (tgt := 28) hx hb dX1_core_206 (by decide) ?_
          exact ihk (k + 1) (by omega) H locs ls (hW.eq (by rw [it_s (rnM rC) k (it_ (cpK y) 16 x)])) (lv_sub hl [1, 2, 3, 0] rfl)
        | succ nj ihj =>
          intro j hj H locs ls hW hl
          have hjN : j < 4 := by omega
          refine lv_iload hx hb dX1_core_36 (lv_at hl 4 rfl) ?_
          refine lv_iconst (v := nI 4) hx hb dX1_core_38 (by decide) ?_
          refine n_ge_f (tgt := 203) hx hb (by omega) (by omega) dX1_core_39 (by decide) ?_
          refine lv_iload_n hx hb dX1_core_42 rfl (lv_at hl 2 rfl) ?_
          refine n_eq_t (tgt := 136) hx hb (by omega) dX1_core_43 (by decide) ?_
          refine lv_iload_n hx hb dX1_core_136 rfl (lv_at hl 3 rfl) ?_
          refine lv_iconst (v := nI 1) hx hb dX1_core_137 (by decide) ?_
          refine n_and hx hb 1 2 (by omega) (by decide) (by decide) dX1_core_138 ?_
          by_cases hp : k % 2 = 0
          · refine n_ne_f (tgt := 165) hx hb (by omega) dX1_core_139 (by decide) ?_
            refine lv_aload_n hx hb dX1_core_142 rfl (lv_at hl 0 rfl) ?_
            refine lv_iload hx hb dX1_core_143 (lv_at hl 4 rfl) ?_
            refine lv_iconst (v := nI 4) hx hb dX1_core_145 (by decide) ?_
            refine lv_iload hx hb dX1_core_146 (lv_at hl 4 rfl) ?_
            refine n_add hx hb dX1_core_148 ?_
            refine lv_bipush (v := nI 8) hx hb dX1_core_149 (by decide) ?_
            refine lv_iload hx hb dX1_core_151 (lv_at hl 4 rfl) ?_
            refine n_add hx hb dX1_core_153 ?_
            refine lv_bipush (v := nI 12) hx hb dX1_core_154 (by decide) ?_
            refine lv_iload hx hb dX1_core_156 (lv_at hl 4 rfl) ?_
            refine n_add hx hb dX1_core_158 ?_
            refine k_V (rest := []) (wr := [(aS, arI cI 16 y)]) (w' := [(o, obj 1 fs), (aX, arI cI 16 (quarterM j (4 + j) (8 + j) (12 + j) (it_ (rC k) j (it_ (rnM rC) k (it_ (cpK y) 16 x))))), (aS, arI cI 16 y)]) (q0 := 0) (ci := 1) F hW (ct_X1_quarter l G cI cB cL o aX fs hf2 (it_ (rC k) j (it_ (rnM rC) k (it_ (cpK y) 16 x))) j (4 + j) (8 + j) (12 + j) (by omega) (by omega) (by omega) (by omega)) [0, 1] [2] [1, 2, 0] rfl rfl rfl rfl (by decide) rfl rfl rfl rfl g_X1_quarter ⟨rfl, rfl⟩ hd_X1_quarter ⟨Nat.le_of_ble_eq_true rfl, Nat.le_of_ble_eq_true rfl⟩ rfl hl.1 rfl (Nat.le_of_ble_eq_true rfl) dX1_core_159 ⟨Nat.zero_le _, Nat.zero_le _⟩ (fun H locs hW => ?_)
            refine lv_goto (tgt := 197) hx hb dX1_core_162 (by decide) ?_
            have hW : Wd G (tys_ cI cB cL) A s H locs [(o, obj 1 fs), (aX, arI cI 16 (rC k j (it_ (rC k) j (it_ (rnM rC) k (it_ (cpK y) 16 x))))), (aS, arI cI 16 y)] := hW.eq (by rw [show rC k j (it_ (rC k) j (it_ (rnM rC) k (it_ (cpK y) 16 x))) = quarterM j (4 + j) (8 + j) (12 + j) (it_ (rC k) j (it_ (rnM rC) k (it_ (cpK y) 16 x))) from if_pos hp])
            refine n_iinc (lv' := [(4, .int (nI (j + 1))), (0, .ref o), (1, .int (nI N)), (2, .int (nI 0)), (3, .int (nI k))]) (k := 4) (d := 1) hx hb dX1_core_197 hl rfl (by decide) (by decide) rfl (fun ls hl => ?_)
            refine lv_goto (tgt := 36) hx hb dX1_core_200 (by decide) ?_
            exact ihj (j + 1) (by omega) H locs ls (hW.eq (by rw [it_s (rC k) j (it_ (rnM rC) k (it_ (cpK y) 16 x))])) (lv_sub hl [1, 2, 3, 4, 0] rfl)
          · refine n_ne_t (tgt := 165) hx hb (by omega) (by omega) dX1_core_139 (by decide) ?_
            refine lv_aload_n hx hb dX1_core_165 rfl (lv_at hl 0 rfl) ?_
            refine lv_iload hx hb dX1_core_166 (lv_at hl 4 rfl) ?_
            refine lv_iconst (v := nI 4) hx hb dX1_core_168 (by decide) ?_
            refine lv_iload hx hb dX1_core_169 (lv_at hl 4 rfl) ?_
            refine lv_iconst (v := nI 1) hx hb dX1_core_171 (by decide) ?_
            refine n_add hx hb dX1_core_172 ?_
            refine lv_iconst (v := nI 4) hx hb dX1_core_173 (by decide) ?_
            refine n_rem hx hb (by omega) (by omega) (by omega) dX1_core_174 ?_
            refine n_add hx hb dX1_core_175 ?_
            refine lv_bipush (v := nI 8) hx hb dX1_core_176 (by decide) ?_
            refine lv_iload hx hb dX1_core_178 (lv_at hl 4 rfl) ?_
            refine lv_iconst (v := nI 2) hx hb dX1_core_180 (by decide) ?_
            refine n_add hx hb dX1_core_181 ?_
            refine lv_iconst (v := nI 4) hx hb dX1_core_182 (by decide) ?_
            refine n_rem hx hb (by omega) (by omega) (by omega) dX1_core_183 ?_
            refine n_add hx hb dX1_core_184 ?_
            refine lv_bipush (v := nI 12) hx hb dX1_core_185 (by decide) ?_
            refine lv_iload hx hb dX1_core_187 (lv_at hl 4 rfl) ?_
            refine lv_iconst (v := nI 3) hx hb dX1_core_189 (by decide) ?_
            refine n_add hx hb dX1_core_190 ?_
            refine lv_iconst (v := nI 4) hx hb dX1_core_191 (by decide) ?_
            refine n_rem hx hb (by omega) (by omega) (by omega) dX1_core_192 ?_
            refine n_add hx hb dX1_core_193 ?_
            refine k_V (rest := []) (wr := [(aS, arI cI 16 y)]) (w' := [(o, obj 1 fs), (aX, arI cI 16 (quarterM j (4 + ((j + 1) % 4)) (8 + ((j + 2) % 4)) (12 + ((j + 3) % 4)) (it_ (rC k) j (it_ (rnM rC) k (it_ (cpK y) 16 x))))), (aS, arI cI 16 y)]) (q0 := 0) (ci := 1) F hW (ct_X1_quarter l G cI cB cL o aX fs hf2 (it_ (rC k) j (it_ (rnM rC) k (it_ (cpK y) 16 x))) j (4 + ((j + 1) % 4)) (8 + ((j + 2) % 4)) (12 + ((j + 3) % 4)) (by omega) (by omega) (by omega) (by omega)) [0, 1] [2] [1, 2, 0] rfl rfl rfl rfl (by decide) rfl rfl rfl rfl g_X1_quarter ⟨rfl, rfl⟩ hd_X1_quarter ⟨Nat.le_of_ble_eq_true rfl, Nat.le_of_ble_eq_true rfl⟩ rfl hl.1 rfl (Nat.le_of_ble_eq_true rfl) dX1_core_194 ⟨Nat.zero_le _, Nat.zero_le _⟩ (fun H locs hW => ?_)
            have hW : Wd G (tys_ cI cB cL) A s H locs [(o, obj 1 fs), (aX, arI cI 16 (rC k j (it_ (rC k) j (it_ (rnM rC) k (it_ (cpK y) 16 x))))), (aS, arI cI 16 y)] := hW.eq (by rw [show rC k j (it_ (rC k) j (it_ (rnM rC) k (it_ (cpK y) 16 x))) = quarterM j (4 + ((j + 1) % 4)) (8 + ((j + 2) % 4)) (12 + ((j + 3) % 4)) (it_ (rC k) j (it_ (rnM rC) k (it_ (cpK y) 16 x))) from if_neg hp])
            refine n_iinc (lv' := [(4, .int (nI (j + 1))), (0, .ref o), (1, .int (nI N)), (2, .int (nI 0)), (3, .int (nI k))]) (k := 4) (d := 1) hx hb dX1_core_197 hl rfl (by decide) (by decide) rfl (fun ls hl => ?_)
            refine lv_goto (tgt := 36) hx hb dX1_core_200 (by decide) ?_
            exact ihj (j + 1) (by omega) H locs ls (hW.eq (by rw [it_s (rC k) j (it_ (rnM rC) k (it_ (cpK y) 16 x))])) (lv_sub hl [1, 2, 3, 4, 0] rfl)
      exact inn 4 0 (by omega) _ _ _ (hW.eq (by rw [it_0 (rC k) (it_ (rnM rC) k (it_ (cpK y) 16 x))])) (lv_sub hl [1, 2, 3, 4, 0] rfl)
  have loop1 : ∀ (nk k : Nat), k + nk = 16 → ∀ (H : Heap) (locs : List Loc) (ls : Array Slot), Wd G (tys_ cI cB cL) A s H locs [(o, obj 1 fs), (aX, arI cI 16 (it_ (cpK y) k x)), (aS, arI cI 16 y)] → lv_has ls 5 [(0, .ref o), (1, .int (nI N)), (2, .int (nI 0)), (3, .int (nI k))] → W p l e (rm_ 2 45) s m ([.ref o, .int (nI N), .int (nI 0)] : List Value).toArray below meth c H locs 0 0 (MQ below (QV G (tys_ cI cB cL) [(o, obj 1 fs), (aX, arI cI 16 (coreG rC N y x)), (aS, arI cI 16 y)] A) ([.ref o, .int (nI N), .int (nI 0)] : List Value).toArray s 0 0 A) (F0 m 2 ls []) := by
    intro nk
    induction nk with
    | zero =>
      intro k hk H locs ls hW hl
      obtain rfl : k = 16 := by omega
      refine lv_iload_n hx hb dX1_core_2 rfl (lv_at hl 3 rfl) ?_
      refine lv_bipush (v := nI 16) hx hb dX1_core_3 (by decide) ?_
      refine n_ge_t (tgt := 26) hx hb (by omega) (by omega) dX1_core_5 (by decide) ?_
      refine lv_iconst (v := nI 0) hx hb dX1_core_26 (by decide) ?_
      refine lv_istore_n (lv' := [(3, .int (nI 0)), (0, .ref o), (1, .int (nI N)), (2, .int (nI 0))]) hx hb dX1_core_27 rfl hl (by decide) rfl (fun ls hl => ?_)
      exact loop2 N 0 (by omega) _ _ _ (hW.eq (by rw [it_0 (rnM rC) (it_ (cpK y) 16 x)])) (lv_sub hl [1, 2, 3, 0] rfl)
    | succ nk ihk =>
      intro k hk H locs ls hW hl
      have hkN : k < 16 := by omega
      refine lv_iload_n hx hb dX1_core_2 rfl (lv_at hl 3 rfl) ?_
      refine lv_bipush (v := nI 16) hx hb dX1_core_3 (by decide) ?_
      refine n_ge_f (tgt := 26) hx hb (by omega) (by omega) dX1_core_5 (by decide) ?_
      refine lv_aload_n hx hb dX1_core_8 rfl (lv_at hl 0 rfl) ?_
      refine r_getM F hW 0 2 rfl (by decide) rfl q156 hf2 dX1_core_9 ?_
      refine lv_iload_n hx hb dX1_core_12 rfl (lv_at hl 3 rfl) ?_
      refine lv_aload_n hx hb dX1_core_13 rfl (lv_at hl 0 rfl) ?_
      refine r_getM F hW 0 3 rfl (by decide) rfl q157 hf3 dX1_core_14 ?_
      refine lv_iload_n hx hb dX1_core_17 rfl (lv_at hl 3 rfl) ?_
      refine r_iald F hW 2 rfl k (by omega) (by decide) dX1_core_18 ?_
      refine r_iast (w' := [(o, obj 1 fs), (aX, arI cI 16 (cpK y k (it_ (cpK y) k x))), (aS, arI cI 16 y)]) F hW 1 rfl k (by omega) (by decide) (cpK y k (it_ (cpK y) k x)) rfl rfl dX1_core_19 (fun H locs hW => ?_)
      refine n_iinc (lv' := [(3, .int (nI (k + 1))), (0, .ref o), (1, .int (nI N)), (2, .int (nI 0))]) (k := 3) (d := 1) hx hb dX1_core_20 hl rfl (by decide) (by decide) rfl (fun ls hl => ?_)
      refine lv_goto (tgt := 2) hx hb dX1_core_23 (by decide) ?_
      exact ihk (k + 1) (by omega) H locs ls (hW.eq (by rw [it_s (cpK y) k x])) (lv_sub hl [1, 2, 3, 0] rfl)
  exact loop1 16 0 (by omega) _ _ _ (hW.eq (by rw [it_0 (cpK y) x])) (lv_sub hl [1, 2, 3, 0] rfl)
set_option maxHeartbeats 4000000 in
theorem ct_X1_turnInS (l : Launch) (G : va_G) (cI cB cL : ClassId) (o aI aO aX aS : Nat) (fs : List Value) (hf0 : fs[0]? = some (.ref aI)) (hf1 : fs[1]? = some (.ref aO)) (hf2 : fs[2]? = some (.ref aX)) (hf3 : fs[3]? = some (.ref aS)) (i u x y : Nat → Int32) (N : Nat) (hN : N ≤ 64) : CV l yX1_turnIn (ws_ yX1_turnIn cX1_turnIn 4 none) (rm_ 3 69) G (tys_ cI cB cL) [.ref o, .int (nI N), .int (nI 1)] [(o, obj 1 fs), (aI, arI cI 16 i), (aO, arI cI 16 u), (aX, arI cI 16 x), (aS, arI cI 16 y)] [(o, obj 1 fs), (aI, arI cI 16 i), (aO, arI cI 16 (it_ (cpK (coreG rS N (it_ (cpK i) 16 y) x)) 16 u)), (aX, arI cI 16 (coreG rS N (it_ (cpK i) 16 y) x)), (aS, arI cI 16 (it_ (cpK i) 16 y))] := by
  refine CV.of (by decide) (Nat.le_of_ble_eq_true rfl) ?_
  intro p e s m below meth c A ls F hW hl
  have F : Fx p m c cX1_turnIn 4 s ([.ref o, .int (nI N), .int (nI 1)] : List Value).toArray RX1 meth none := F
  obtain ⟨⟨hx, hb, hml, hown, hts⟩, hr, hlocks⟩ := id F
  have hl : lv_has ls 4 [(0, .ref o), (1, .int (nI N)), (2, .int (nI 1))] := hl
  refine lv_iconst (v := nI 0) hx hb dX1_turnIn_0 (by decide) ?_
  refine lv_istore_n (lv' := [(3, .int (nI 0)), (0, .ref o), (1, .int (nI N)), (2, .int (nI 1))]) hx hb dX1_turnIn_1 rfl hl (by decide) rfl (fun ls hl => ?_)
  have loop2 : ∀ (nk k : Nat), k + nk = 16 → ∀ (H : Heap) (locs : List Loc) (ls : Array Slot), Wd G (tys_ cI cB cL) A s H locs [(o, obj 1 fs), (aI, arI cI 16 i), (aO, arI cI 16 (it_ (cpK (coreG rS N (it_ (cpK i) 16 y) x)) k u)), (aX, arI cI 16 (coreG rS N (it_ (cpK i) 16 y) x)), (aS, arI cI 16 (it_ (cpK i) 16 y))] → lv_has ls 4 [(0, .ref o), (1, .int (nI N)), (2, .int (nI 1)), (3, .int (nI k))] → W p l e (rm_ 3 69) s m ([.ref o, .int (nI N), .int (nI 1)] : List Value).toArray below meth c H locs 0 0 (MQ below (QV G (tys_ cI cB cL) [(o, obj 1 fs), (aI, arI cI 16 i), (aO, arI cI 16 (it_ (cpK (coreG rS N (it_ (cpK i) 16 y) x)) 16 u)), (aX, arI cI 16 (coreG rS N (it_ (cpK i) 16 y) x)), (aS, arI cI 16 (it_ (cpK i) 16 y))] A) ([.ref o, .int (nI N), .int (nI 1)] : List Value).toArray s 0 0 A) (F0 m 34 ls []) := by
    intro nk
    induction nk with
    | zero =>
      intro k hk H locs ls hW hl
      obtain rfl : k = 16 := by omega
      refine lv_iload_n hx hb dX1_turnIn_34 rfl (lv_at hl 3 rfl) ?_
      refine lv_bipush (v := nI 16) hx hb dX1_turnIn_35 (by decide) ?_
      refine n_ge_t (tgt := 58) hx hb (by omega) (by omega) dX1_turnIn_37 (by decide) ?_
      exact r_vret F hW dX1_turnIn_58
    | succ nk ihk =>
      intro k hk H locs ls hW hl
      have hkN : k < 16 := by omega
      refine lv_iload_n hx hb dX1_turnIn_34 rfl (lv_at hl 3 rfl) ?_
      refine lv_bipush (v := nI 16) hx hb dX1_turnIn_35 (by decide) ?_
      refine n_ge_f (tgt := 58) hx hb (by omega) (by omega) dX1_turnIn_37 (by decide) ?_
      refine lv_aload_n hx hb dX1_turnIn_40 rfl (lv_at hl 0 rfl) ?_
      refine r_getM F hW 0 1 rfl (by decide) rfl q155 hf1 dX1_turnIn_41 ?_
      refine lv_iload_n hx hb dX1_turnIn_44 rfl (lv_at hl 3 rfl) ?_
      refine lv_aload_n hx hb dX1_turnIn_45 rfl (lv_at hl 0 rfl) ?_
      refine r_getM F hW 0 2 rfl (by decide) rfl q156 hf2 dX1_turnIn_46 ?_
      refine lv_iload_n hx hb dX1_turnIn_49 rfl (lv_at hl 3 rfl) ?_
      refine r_iald F hW 3 rfl k (by omega) (by decide) dX1_turnIn_50 ?_
      refine r_iast (w' := [(o, obj 1 fs), (aI, arI cI 16 i), (aO, arI cI 16 (cpK (coreG rS N (it_ (cpK i) 16 y) x) k (it_ (cpK (coreG rS N (it_ (cpK i) 16 y) x)) k u))), (aX, arI cI 16 (coreG rS N (it_ (cpK i) 16 y) x)), (aS, arI cI 16 (it_ (cpK i) 16 y))]) F hW 2 rfl k (by omega) (by decide) (cpK (coreG rS N (it_ (cpK i) 16 y) x) k (it_ (cpK (coreG rS N (it_ (cpK i) 16 y) x)) k u)) rfl rfl dX1_turnIn_51 (fun H locs hW => ?_)
      refine n_iinc (lv' := [(3, .int (nI (k + 1))), (0, .ref o), (1, .int (nI N)), (2, .int (nI 1))]) (k := 3) (d := 1) hx hb dX1_turnIn_52 hl rfl (by decide) (by decide) rfl (fun ls hl => ?_)
      refine lv_goto (tgt := 34) hx hb dX1_turnIn_55 (by decide) ?_
      exact ihk (k + 1) (by omega) H locs ls (hW.eq (by rw [it_s (cpK (coreG rS N (it_ (cpK i) 16 y) x)) k u])) (lv_sub hl [1, 2, 3, 0] rfl)
  have loop1 : ∀ (nk k : Nat), k + nk = 16 → ∀ (H : Heap) (locs : List Loc) (ls : Array Slot), Wd G (tys_ cI cB cL) A s H locs [(o, obj 1 fs), (aI, arI cI 16 i), (aO, arI cI 16 u), (aX, arI cI 16 x), (aS, arI cI 16 (it_ (cpK i) k y))] → lv_has ls 4 [(0, .ref o), (1, .int (nI N)), (2, .int (nI 1)), (3, .int (nI k))] → W p l e (rm_ 3 69) s m ([.ref o, .int (nI N), .int (nI 1)] : List Value).toArray below meth c H locs 0 0 (MQ below (QV G (tys_ cI cB cL) [(o, obj 1 fs), (aI, arI cI 16 i), (aO, arI cI 16 (it_ (cpK (coreG rS N (it_ (cpK i) 16 y) x)) 16 u)), (aX, arI cI 16 (coreG rS N (it_ (cpK i) 16 y) x)), (aS, arI cI 16 (it_ (cpK i) 16 y))] A) ([.ref o, .int (nI N), .int (nI 1)] : List Value).toArray s 0 0 A) (F0 m 2 ls []) := by
    intro nk
    induction nk with
    | zero =>
      intro k hk H locs ls hW hl
      obtain rfl : k = 16 := by omega
      refine lv_iload_n hx hb dX1_turnIn_2 rfl (lv_at hl 3 rfl) ?_
      refine lv_bipush (v := nI 16) hx hb dX1_turnIn_3 (by decide) ?_
      refine n_ge_t (tgt := 26) hx hb (by omega) (by omega) dX1_turnIn_5 (by decide) ?_
      refine lv_aload_n hx hb dX1_turnIn_26 rfl (lv_at hl 0 rfl) ?_
      refine lv_iload_n hx hb dX1_turnIn_27 rfl (lv_at hl 1 rfl) ?_
      refine lv_iload_n hx hb dX1_turnIn_28 rfl (lv_at hl 2 rfl) ?_
      refine k_V (rest := []) (wr := [(aI, arI cI 16 i), (aO, arI cI 16 u)]) (w' := [(o, obj 1 fs), (aI, arI cI 16 i), (aO, arI cI 16 u), (aX, arI cI 16 (coreG rS N (it_ (cpK i) 16 y) x)), (aS, arI cI 16 (it_ (cpK i) 16 y))]) (q0 := 0) (ci := 1) F hW (ct_X1_coreS l G cI cB cL o aX aS fs hf2 hf3 x (it_ (cpK i) 16 y) N (by omega)) [0, 3, 4] [1, 2] [2, 0, 1, 3, 4] rfl rfl rfl rfl (by decide) rfl rfl rfl rfl g_X1_core ⟨rfl, rfl⟩ hd_X1_core ⟨Nat.le_of_ble_eq_true rfl, Nat.le_of_ble_eq_true rfl⟩ rfl hl.1 rfl (Nat.le_of_ble_eq_true rfl) dX1_turnIn_29 ⟨Nat.zero_le _, Nat.zero_le _⟩ (fun H locs hW => ?_)
      refine lv_iconst (v := nI 0) hx hb dX1_turnIn_32 (by decide) ?_
      refine lv_istore_n (lv' := [(3, .int (nI 0)), (0, .ref o), (1, .int (nI N)), (2, .int (nI 1))]) hx hb dX1_turnIn_33 rfl hl (by decide) rfl (fun ls hl => ?_)
      exact loop2 16 0 (by omega) _ _ _ (hW.eq (by rw [it_0 (cpK (coreG rS N (it_ (cpK i) 16 y) x)) u])) (lv_sub hl [1, 2, 3, 0] rfl)
    | succ nk ihk =>
      intro k hk H locs ls hW hl
      have hkN : k < 16 := by omega
      refine lv_iload_n hx hb dX1_turnIn_2 rfl (lv_at hl 3 rfl) ?_
      refine lv_bipush (v := nI 16) hx hb dX1_turnIn_3 (by decide) ?_
      refine n_ge_f (tgt := 26) hx hb (by omega) (by omega) dX1_turnIn_5 (by decide) ?_
      refine lv_aload_n hx hb dX1_turnIn_8 rfl (lv_at hl 0 rfl) ?_
      refine r_getM F hW 0 3 rfl (by decide) rfl q157 hf3 dX1_turnIn_9 ?_
      refine lv_iload_n hx hb dX1_turnIn_12 rfl (lv_at hl 3 rfl) ?_
      refine lv_aload_n hx hb dX1_turnIn_13 rfl (lv_at hl 0 rfl) ?_
      refine r_getM F hW 0 0 rfl (by decide) rfl q154 hf0 dX1_turnIn_14 ?_
      refine lv_iload_n hx hb dX1_turnIn_17 rfl (lv_at hl 3 rfl) ?_
      refine r_iald F hW 1 rfl k (by omega) (by decide) dX1_turnIn_18 ?_
      refine r_iast (w' := [(o, obj 1 fs), (aI, arI cI 16 i), (aO, arI cI 16 u), (aX, arI cI 16 x), (aS, arI cI 16 (cpK i k (it_ (cpK i) k y)))]) F hW 4 rfl k (by omega) (by decide) (cpK i k (it_ (cpK i) k y)) rfl rfl dX1_turnIn_19 (fun H locs hW => ?_)
      refine n_iinc (lv' := [(3, .int (nI (k + 1))), (0, .ref o), (1, .int (nI N)), (2, .int (nI 1))]) (k := 3) (d := 1) hx hb dX1_turnIn_20 hl rfl (by decide) (by decide) rfl (fun ls hl => ?_)
      refine lv_goto (tgt := 2) hx hb dX1_turnIn_23 (by decide) ?_
      exact ihk (k + 1) (by omega) H locs ls (hW.eq (by rw [it_s (cpK i) k y])) (lv_sub hl [1, 2, 3, 0] rfl)
  exact loop1 16 0 (by omega) _ _ _ (hW.eq (by rw [it_0 (cpK i) y])) (lv_sub hl [1, 2, 3, 0] rfl)
set_option maxHeartbeats 4000000 in
theorem ct_X1_turnInC (l : Launch) (G : va_G) (cI cB cL : ClassId) (o aI aO aX aS : Nat) (fs : List Value) (hf0 : fs[0]? = some (.ref aI)) (hf1 : fs[1]? = some (.ref aO)) (hf2 : fs[2]? = some (.ref aX)) (hf3 : fs[3]? = some (.ref aS)) (i u x y : Nat → Int32) (N : Nat) (hN : N ≤ 64) : CV l yX1_turnIn (ws_ yX1_turnIn cX1_turnIn 4 none) (rm_ 3 69) G (tys_ cI cB cL) [.ref o, .int (nI N), .int (nI 0)] [(o, obj 1 fs), (aI, arI cI 16 i), (aO, arI cI 16 u), (aX, arI cI 16 x), (aS, arI cI 16 y)] [(o, obj 1 fs), (aI, arI cI 16 i), (aO, arI cI 16 (it_ (cpK (coreG rC N (it_ (cpK i) 16 y) x)) 16 u)), (aX, arI cI 16 (coreG rC N (it_ (cpK i) 16 y) x)), (aS, arI cI 16 (it_ (cpK i) 16 y))] := by
  refine CV.of (by decide) (Nat.le_of_ble_eq_true rfl) ?_
  intro p e s m below meth c A ls F hW hl
  have F : Fx p m c cX1_turnIn 4 s ([.ref o, .int (nI N), .int (nI 0)] : List Value).toArray RX1 meth none := F
  obtain ⟨⟨hx, hb, hml, hown, hts⟩, hr, hlocks⟩ := id F
  have hl : lv_has ls 4 [(0, .ref o), (1, .int (nI N)), (2, .int (nI 0))] := hl
  refine lv_iconst (v := nI 0) hx hb dX1_turnIn_0 (by decide) ?_
  refine lv_istore_n (lv' := [(3, .int (nI 0)), (0, .ref o), (1, .int (nI N)), (2, .int (nI 0))]) hx hb dX1_turnIn_1 rfl hl (by decide) rfl (fun ls hl => ?_)
  have loop2 : ∀ (nk k : Nat), k + nk = 16 → ∀ (H : Heap) (locs : List Loc) (ls : Array Slot), Wd G (tys_ cI cB cL) A s H locs [(o, obj 1 fs), (aI, arI cI 16 i), (aO, arI cI 16 (it_ (cpK (coreG rC N (it_ (cpK i) 16 y) x)) k u)), (aX, arI cI 16 (coreG rC N (it_ (cpK i) 16 y) x)), (aS, arI cI 16 (it_ (cpK i) 16 y))] → lv_has ls 4 [(0, .ref o), (1, .int (nI N)), (2, .int (nI 0)), (3, .int (nI k))] → W p l e (rm_ 3 69) s m ([.ref o, .int (nI N), .int (nI 0)] : List Value).toArray below meth c H locs 0 0 (MQ below (QV G (tys_ cI cB cL) [(o, obj 1 fs), (aI, arI cI 16 i), (aO, arI cI 16 (it_ (cpK (coreG rC N (it_ (cpK i) 16 y) x)) 16 u)), (aX, arI cI 16 (coreG rC N (it_ (cpK i) 16 y) x)), (aS, arI cI 16 (it_ (cpK i) 16 y))] A) ([.ref o, .int (nI N), .int (nI 0)] : List Value).toArray s 0 0 A) (F0 m 34 ls []) := by
    intro nk
    induction nk with
    | zero =>
      intro k hk H locs ls hW hl
      obtain rfl : k = 16 := by omega
      refine lv_iload_n hx hb dX1_turnIn_34 rfl (lv_at hl 3 rfl) ?_
      refine lv_bipush (v := nI 16) hx hb dX1_turnIn_35 (by decide) ?_
      refine n_ge_t (tgt := 58) hx hb (by omega) (by omega) dX1_turnIn_37 (by decide) ?_
      exact r_vret F hW dX1_turnIn_58
    | succ nk ihk =>
      intro k hk H locs ls hW hl
      have hkN : k < 16 := by omega
      refine lv_iload_n hx hb dX1_turnIn_34 rfl (lv_at hl 3 rfl) ?_
      refine lv_bipush (v := nI 16) hx hb dX1_turnIn_35 (by decide) ?_
      refine n_ge_f (tgt := 58) hx hb (by omega) (by omega) dX1_turnIn_37 (by decide) ?_
      refine lv_aload_n hx hb dX1_turnIn_40 rfl (lv_at hl 0 rfl) ?_
      refine r_getM F hW 0 1 rfl (by decide) rfl q155 hf1 dX1_turnIn_41 ?_
      refine lv_iload_n hx hb dX1_turnIn_44 rfl (lv_at hl 3 rfl) ?_
      refine lv_aload_n hx hb dX1_turnIn_45 rfl (lv_at hl 0 rfl) ?_
      refine r_getM F hW 0 2 rfl (by decide) rfl q156 hf2 dX1_turnIn_46 ?_
      refine lv_iload_n hx hb dX1_turnIn_49 rfl (lv_at hl 3 rfl) ?_
      refine r_iald F hW 3 rfl k (by omega) (by decide) dX1_turnIn_50 ?_
      refine r_iast (w' := [(o, obj 1 fs), (aI, arI cI 16 i), (aO, arI cI 16 (cpK (coreG rC N (it_ (cpK i) 16 y) x) k (it_ (cpK (coreG rC N (it_ (cpK i) 16 y) x)) k u))), (aX, arI cI 16 (coreG rC N (it_ (cpK i) 16 y) x)), (aS, arI cI 16 (it_ (cpK i) 16 y))]) F hW 2 rfl k (by omega) (by decide) (cpK (coreG rC N (it_ (cpK i) 16 y) x) k (it_ (cpK (coreG rC N (it_ (cpK i) 16 y) x)) k u)) rfl rfl dX1_turnIn_51 (fun H locs hW => ?_)
      refine n_iinc (lv' := [(3, .int (nI (k + 1))), (0, .ref o), (1, .int (nI N)), (2, .int (nI 0))]) (k := 3) (d := 1) hx hb dX1_turnIn_52 hl rfl (by decide) (by decide) rfl (fun ls hl => ?_)
      refine lv_goto (tgt := 34) hx hb dX1_turnIn_55 (by decide) ?_
      exact ihk (k + 1) (by omega) H locs ls (hW.eq (by rw [it_s (cpK (coreG rC N (it_ (cpK i) 16 y) x)) k u])) (lv_sub hl [1, 2, 3, 0] rfl)
  have loop1 : ∀ (nk k : Nat), k + nk = 16 → ∀ (H : Heap) (locs : List Loc) (ls : Array Slot), Wd G (tys_ cI cB cL) A s H locs [(o, obj 1 fs), (aI, arI cI 16 i), (aO, arI cI 16 u), (aX, arI cI 16 x), (aS, arI cI 16 (it_ (cpK i) k y))] → lv_has ls 4 [(0, .ref o), (1, .int (nI N)), (2, .int (nI 0)), (3, .int (nI k))] → W p l e (rm_ 3 69) s m ([.ref o, .int (nI N), .int (nI 0)] : List Value).toArray below meth c H locs 0 0 (MQ below (QV G (tys_ cI cB cL) [(o, obj 1 fs), (aI, arI cI 16 i), (aO, arI cI 16 (it_ (cpK (coreG rC N (it_ (cpK i) 16 y) x)) 16 u)), (aX, arI cI 16 (coreG rC N (it_ (cpK i) 16 y) x)), (aS, arI cI 16 (it_ (cpK i) 16 y))] A) ([.ref o, .int (nI N), .int (nI 0)] : List Value).toArray s 0 0 A) (F0 m 2 ls []) := by
    intro nk
    induction nk with
    | zero =>
      intro k hk H locs ls hW hl
      obtain rfl : k = 16 := by omega
      refine lv_iload_n hx hb dX1_turnIn_2 rfl (lv_at hl 3 rfl) ?_
      refine lv_bipush (v := nI 16) hx hb dX1_turnIn_3 (by decide) ?_
      refine n_ge_t (tgt := 26) hx hb (by omega) (by omega) dX1_turnIn_5 (by decide) ?_
      refine lv_aload_n hx hb dX1_turnIn_26 rfl (lv_at hl 0 rfl) ?_
      refine lv_iload_n hx hb dX1_turnIn_27 rfl (lv_at hl 1 rfl) ?_
      refine lv_iload_n hx hb dX1_turnIn_28 rfl (lv_at hl 2 rfl) ?_
      refine k_V (rest := []) (wr := [(aI, arI cI 16 i), (aO, arI cI 16 u)]) (w' := [(o, obj 1 fs), (aI, arI cI 16 i), (aO, arI cI 16 u), (aX, arI cI 16 (coreG rC N (it_ (cpK i) 16 y) x)), (aS, arI cI 16 (it_ (cpK i) 16 y))]) (q0 := 0) (ci := 1) F hW (ct_X1_coreC l G cI cB cL o aX aS fs hf2 hf3 x (it_ (cpK i) 16 y) N (by omega)) [0, 3, 4] [1, 2] [2, 0, 1, 3, 4] rfl rfl rfl rfl (by decide) rfl rfl rfl rfl g_X1_core ⟨rfl, rfl⟩ hd_X1_core ⟨Nat.le_of_ble_eq_true rfl, Nat.le_of_ble_eq_true rfl⟩ rfl hl.1 rfl (Nat.le_of_ble_eq_true rfl) dX1_turnIn_29 ⟨Nat.zero_le _, Nat.zero_le _⟩ (fun H locs hW => ?_)
      refine lv_iconst (v := nI 0) hx hb dX1_turnIn_32 (by decide) ?_
      refine lv_istore_n (lv' := [(3, .int (nI 0)), (0, .ref o), (1, .int (nI N)), (2, .int (nI 0))]) hx hb dX1_turnIn_33 rfl hl (by decide) rfl (fun ls hl => ?_)
      exact loop2 16 0 (by omega) _ _ _ (hW.eq (by rw [it_0 (cpK (coreG rC N (it_ (cpK i) 16 y) x)) u])) (lv_sub hl [1, 2, 3, 0] rfl)
    | succ nk ihk =>
      intro k hk H locs ls hW hl
      have hkN : k < 16 := by omega
      refine lv_iload_n hx hb dX1_turnIn_2 rfl (lv_at hl 3 rfl) ?_
      refine lv_bipush (v := nI 16) hx hb dX1_turnIn_3 (by decide) ?_
      refine n_ge_f (tgt := 26) hx hb (by omega) (by omega) dX1_turnIn_5 (by decide) ?_
      refine lv_aload_n hx hb dX1_turnIn_8 rfl (lv_at hl 0 rfl) ?_
      refine r_getM F hW 0 3 rfl (by decide) rfl q157 hf3 dX1_turnIn_9 ?_
      refine lv_iload_n hx hb dX1_turnIn_12 rfl (lv_at hl 3 rfl) ?_
      refine lv_aload_n hx hb dX1_turnIn_13 rfl (lv_at hl 0 rfl) ?_
      refine r_getM F hW 0 0 rfl (by decide) rfl q154 hf0 dX1_turnIn_14 ?_
      refine lv_iload_n hx hb dX1_turnIn_17 rfl (lv_at hl 3 rfl) ?_
      refine r_iald F hW 1 rfl k (by omega) (by decide) dX1_turnIn_18 ?_
      refine r_iast (w' := [(o, obj 1 fs), (aI, arI cI 16 i), (aO, arI cI 16 u), (aX, arI cI 16 x), (aS, arI cI 16 (cpK i k (it_ (cpK i) k y)))]) F hW 4 rfl k (by omega) (by decide) (cpK i k (it_ (cpK i) k y)) rfl rfl dX1_turnIn_19 (fun H locs hW => ?_)
      refine n_iinc (lv' := [(3, .int (nI (k + 1))), (0, .ref o), (1, .int (nI N)), (2, .int (nI 0))]) (k := 3) (d := 1) hx hb dX1_turnIn_20 hl rfl (by decide) (by decide) rfl (fun ls hl => ?_)
      refine lv_goto (tgt := 2) hx hb dX1_turnIn_23 (by decide) ?_
      exact ihk (k + 1) (by omega) H locs ls (hW.eq (by rw [it_s (cpK i) k y])) (lv_sub hl [1, 2, 3, 0] rfl)
  exact loop1 16 0 (by omega) _ _ _ (hW.eq (by rw [it_0 (cpK i) y])) (lv_sub hl [1, 2, 3, 0] rfl)
end
section
set_option maxRecDepth 100000
set_option maxHeartbeats 4000000 in
theorem ct_X1_put (l : Launch) (G : va_G) (cI cB cL : ClassId) (o aI : Nat) (fs : List Value) (hf0 : fs[0]? = some (.ref aI)) (x : Nat → Int32) (a b c_ d e_ : Int32) : CV l yX1_put (ws_ yX1_put cX1_put 7 none) (rm_ 0 0) G (tys_ cI cB cL) [.ref o, .int a, .int b, .int c_, .int d, .int e_] [(o, obj 1 fs), (aI, arI cI 16 x)] [(o, obj 1 fs), (aI, arI cI 16 (put4 ((a.toBitVec.toNat % 4) * 4) b c_ d e_ x))] := by
  refine CV.of (by decide) (Nat.le_of_ble_eq_true rfl) ?_
  intro p e s m below meth c A ls F hW hl
  have F : Fx p m c cX1_put 7 s ([.ref o, .int a, .int b, .int c_, .int d, .int e_] : List Value).toArray RX1 meth none := F
  obtain ⟨⟨hx, hb, hml, hown, hts⟩, hr, hlocks⟩ := id F
  have hl : lv_has ls 7 [(0, .ref o), (1, .int a), (2, .int b), (3, .int c_), (4, .int d), (5, .int e_)] := hl
  refine lv_iload_n hx hb dX1_put_0 rfl (lv_at hl 1 rfl) ?_
  refine lv_iconst (v := nI 3) hx hb dX1_put_1 (by decide) ?_
  refine x_and hx hb 2 4 (by decide) (by decide) dX1_put_2 ?_
  refine lv_iconst (v := nI 4) hx hb dX1_put_3 (by decide) ?_
  refine n_mul hx hb dX1_put_4 ?_
  refine lv_istore (lv' := [(6, .int (nI ((a.toBitVec.toNat % 4) * 4))), (0, .ref o), (1, .int a), (2, .int b), (3, .int c_), (4, .int d), (5, .int e_)]) hx hb dX1_put_5 hl (by decide) rfl (fun ls hl => ?_)
  refine lv_aload_n hx hb dX1_put_7 rfl (lv_at hl 1 rfl) ?_
  refine r_getM F hW 0 0 rfl (by decide) rfl q154 hf0 dX1_put_8 ?_
  refine lv_iload hx hb dX1_put_11 (lv_at hl 0 rfl) ?_
  refine lv_iload_n hx hb dX1_put_13 rfl (lv_at hl 3 rfl) ?_
  refine r_iast (w' := [(o, obj 1 fs), (aI, arI cI 16 (upd x ((a.toBitVec.toNat % 4) * 4) b))]) F hW 1 rfl ((a.toBitVec.toNat % 4) * 4) (by omega) (by decide) (upd x ((a.toBitVec.toNat % 4) * 4) b) rfl rfl dX1_put_14 (fun H locs hW => ?_)
  refine lv_aload_n hx hb dX1_put_15 rfl (lv_at hl 1 rfl) ?_
  refine r_getM F hW 0 0 rfl (by decide) rfl q154 hf0 dX1_put_16 ?_
  refine lv_iload hx hb dX1_put_19 (lv_at hl 0 rfl) ?_
  refine lv_iconst (v := nI 1) hx hb dX1_put_21 (by decide) ?_
  refine n_add hx hb dX1_put_22 ?_
  refine lv_iload_n hx hb dX1_put_23 rfl (lv_at hl 4 rfl) ?_
  refine r_iast (w' := [(o, obj 1 fs), (aI, arI cI 16 (upd (upd x ((a.toBitVec.toNat % 4) * 4) b) (((a.toBitVec.toNat % 4) * 4) + 1) c_))]) F hW 1 rfl (((a.toBitVec.toNat % 4) * 4) + 1) (by omega) (by decide) (upd (upd x ((a.toBitVec.toNat % 4) * 4) b) (((a.toBitVec.toNat % 4) * 4) + 1) c_) rfl rfl dX1_put_24 (fun H locs hW => ?_)
  refine lv_aload_n hx hb dX1_put_25 rfl (lv_at hl 1 rfl) ?_
  refine r_getM F hW 0 0 rfl (by decide) rfl q154 hf0 dX1_put_26 ?_
  refine lv_iload hx hb dX1_put_29 (lv_at hl 0 rfl) ?_
  refine lv_iconst (v := nI 2) hx hb dX1_put_31 (by decide) ?_
  refine n_add hx hb dX1_put_32 ?_
  refine lv_iload hx hb dX1_put_33 (lv_at hl 5 rfl) ?_
  refine r_iast (w' := [(o, obj 1 fs), (aI, arI cI 16 (upd (upd (upd x ((a.toBitVec.toNat % 4) * 4) b) (((a.toBitVec.toNat % 4) * 4) + 1) c_) (((a.toBitVec.toNat % 4) * 4) + 2) d))]) F hW 1 rfl (((a.toBitVec.toNat % 4) * 4) + 2) (by omega) (by decide) (upd (upd (upd x ((a.toBitVec.toNat % 4) * 4) b) (((a.toBitVec.toNat % 4) * 4) + 1) c_) (((a.toBitVec.toNat % 4) * 4) + 2) d) rfl rfl dX1_put_35 (fun H locs hW => ?_)
  refine lv_aload_n hx hb dX1_put_36 rfl (lv_at hl 1 rfl) ?_
  refine r_getM F hW 0 0 rfl (by decide) rfl q154 hf0 dX1_put_37 ?_
  refine lv_iload hx hb dX1_put_40 (lv_at hl 0 rfl) ?_
  refine lv_iconst (v := nI 3) hx hb dX1_put_42 (by decide) ?_
  refine n_add hx hb dX1_put_43 ?_
  refine lv_iload hx hb dX1_put_44 (lv_at hl 6 rfl) ?_
  refine r_iast (w' := [(o, obj 1 fs), (aI, arI cI 16 (put4 ((a.toBitVec.toNat % 4) * 4) b c_ d e_ x))]) F hW 1 rfl (((a.toBitVec.toNat % 4) * 4) + 3) (by omega) (by decide) (put4 ((a.toBitVec.toNat % 4) * 4) b c_ d e_ x) rfl rfl dX1_put_46 (fun H locs hW => ?_)
  exact r_vret F hW dX1_put_47
set_option maxHeartbeats 4000000 in
theorem ct_X1_key (l : Launch) (G : va_G) (cI cB cL : ClassId) (o aI : Nat) (fs : List Value) (hf4 : fs[4]? = some (.ref aI)) (x : Nat → Int32) (a b c_ d e_ : Int32) : CV l yX1_key (ws_ yX1_key cX1_key 7 none) (rm_ 0 0) G (tys_ cI cB cL) [.ref o, .int a, .int b, .int c_, .int d, .int e_] [(o, obj 1 fs), (aI, arI cI 8 x)] [(o, obj 1 fs), (aI, arI cI 8 (put4 ((a.toBitVec.toNat % 2) * 4) b c_ d e_ x))] := by
  refine CV.of (by decide) (Nat.le_of_ble_eq_true rfl) ?_
  intro p e s m below meth c A ls F hW hl
  have F : Fx p m c cX1_key 7 s ([.ref o, .int a, .int b, .int c_, .int d, .int e_] : List Value).toArray RX1 meth none := F
  obtain ⟨⟨hx, hb, hml, hown, hts⟩, hr, hlocks⟩ := id F
  have hl : lv_has ls 7 [(0, .ref o), (1, .int a), (2, .int b), (3, .int c_), (4, .int d), (5, .int e_)] := hl
  refine lv_iload_n hx hb dX1_key_0 rfl (lv_at hl 1 rfl) ?_
  refine lv_iconst (v := nI 1) hx hb dX1_key_1 (by decide) ?_
  refine x_and hx hb 1 2 (by decide) (by decide) dX1_key_2 ?_
  refine lv_iconst (v := nI 4) hx hb dX1_key_3 (by decide) ?_
  refine n_mul hx hb dX1_key_4 ?_
  refine lv_istore (lv' := [(6, .int (nI ((a.toBitVec.toNat % 2) * 4))), (0, .ref o), (1, .int a), (2, .int b), (3, .int c_), (4, .int d), (5, .int e_)]) hx hb dX1_key_5 hl (by decide) rfl (fun ls hl => ?_)
  refine lv_aload_n hx hb dX1_key_7 rfl (lv_at hl 1 rfl) ?_
  refine r_getM F hW 0 4 rfl (by decide) rfl q158 hf4 dX1_key_8 ?_
  refine lv_iload hx hb dX1_key_11 (lv_at hl 0 rfl) ?_
  refine lv_iload_n hx hb dX1_key_13 rfl (lv_at hl 3 rfl) ?_
  refine r_iast (w' := [(o, obj 1 fs), (aI, arI cI 8 (upd x ((a.toBitVec.toNat % 2) * 4) b))]) F hW 1 rfl ((a.toBitVec.toNat % 2) * 4) (by omega) (by decide) (upd x ((a.toBitVec.toNat % 2) * 4) b) rfl rfl dX1_key_14 (fun H locs hW => ?_)
  refine lv_aload_n hx hb dX1_key_15 rfl (lv_at hl 1 rfl) ?_
  refine r_getM F hW 0 4 rfl (by decide) rfl q158 hf4 dX1_key_16 ?_
  refine lv_iload hx hb dX1_key_19 (lv_at hl 0 rfl) ?_
  refine lv_iconst (v := nI 1) hx hb dX1_key_21 (by decide) ?_
  refine n_add hx hb dX1_key_22 ?_
  refine lv_iload_n hx hb dX1_key_23 rfl (lv_at hl 4 rfl) ?_
  refine r_iast (w' := [(o, obj 1 fs), (aI, arI cI 8 (upd (upd x ((a.toBitVec.toNat % 2) * 4) b) (((a.toBitVec.toNat % 2) * 4) + 1) c_))]) F hW 1 rfl (((a.toBitVec.toNat % 2) * 4) + 1) (by omega) (by decide) (upd (upd x ((a.toBitVec.toNat % 2) * 4) b) (((a.toBitVec.toNat % 2) * 4) + 1) c_) rfl rfl dX1_key_24 (fun H locs hW => ?_)
  refine lv_aload_n hx hb dX1_key_25 rfl (lv_at hl 1 rfl) ?_
  refine r_getM F hW 0 4 rfl (by decide) rfl q158 hf4 dX1_key_26 ?_
  refine lv_iload hx hb dX1_key_29 (lv_at hl 0 rfl) ?_
  refine lv_iconst (v := nI 2) hx hb dX1_key_31 (by decide) ?_
  refine n_add hx hb dX1_key_32 ?_
  refine lv_iload hx hb dX1_key_33 (lv_at hl 5 rfl) ?_
  refine r_iast (w' := [(o, obj 1 fs), (aI, arI cI 8 (upd (upd (upd x ((a.toBitVec.toNat % 2) * 4) b) (((a.toBitVec.toNat % 2) * 4) + 1) c_) (((a.toBitVec.toNat % 2) * 4) + 2) d))]) F hW 1 rfl (((a.toBitVec.toNat % 2) * 4) + 2) (by omega) (by decide) (upd (upd (upd x ((a.toBitVec.toNat % 2) * 4) b) (((a.toBitVec.toNat % 2) * 4) + 1) c_) (((a.toBitVec.toNat % 2) * 4) + 2) d) rfl rfl dX1_key_35 (fun H locs hW => ?_)
  refine lv_aload_n hx hb dX1_key_36 rfl (lv_at hl 1 rfl) ?_
  refine r_getM F hW 0 4 rfl (by decide) rfl q158 hf4 dX1_key_37 ?_
  refine lv_iload hx hb dX1_key_40 (lv_at hl 0 rfl) ?_
  refine lv_iconst (v := nI 3) hx hb dX1_key_42 (by decide) ?_
  refine n_add hx hb dX1_key_43 ?_
  refine lv_iload hx hb dX1_key_44 (lv_at hl 6 rfl) ?_
  refine r_iast (w' := [(o, obj 1 fs), (aI, arI cI 8 (put4 ((a.toBitVec.toNat % 2) * 4) b c_ d e_ x))]) F hW 1 rfl (((a.toBitVec.toNat % 2) * 4) + 3) (by omega) (by decide) (put4 ((a.toBitVec.toNat % 2) * 4) b c_ d e_ x) rfl rfl dX1_key_46 (fun H locs hW => ?_)
  exact r_vret F hW dX1_key_47
set_option maxHeartbeats 4000000 in
theorem ct_X1_salsa (l : Launch) (G : va_G) (cI cB cL : ClassId) (o aI aO aX aS : Nat) (fs : List Value) (hf0 : fs[0]? = some (.ref aI)) (hf1 : fs[1]? = some (.ref aO)) (hf2 : fs[2]? = some (.ref aX)) (hf3 : fs[3]? = some (.ref aS)) (i u x y : Nat → Int32) (a : Int32) : CV l yX1_salsa (ws_ yX1_salsa cX1_salsa 2 none) (rm_ 4 92) G (tys_ cI cB cL) [.ref o, .int a] [(o, obj 1 fs), (aI, arI cI 16 i), (aO, arI cI 16 u), (aX, arI cI 16 x), (aS, arI cI 16 y)] [(o, obj 1 fs), (aI, arI cI 16 i), (aO, arI cI 16 (it_ (cpK (coreG rS (2 + 2 * (a.toBitVec.toNat % 16)) (it_ (cpK i) 16 y) x)) 16 u)), (aX, arI cI 16 (coreG rS (2 + 2 * (a.toBitVec.toNat % 16)) (it_ (cpK i) 16 y) x)), (aS, arI cI 16 (it_ (cpK i) 16 y))] := by
  refine CV.of (by decide) (Nat.le_of_ble_eq_true rfl) ?_
  intro p e s m below meth c A ls F hW hl
  have F : Fx p m c cX1_salsa 2 s ([.ref o, .int a] : List Value).toArray RX1 meth none := F
  obtain ⟨⟨hx, hb, hml, hown, hts⟩, hr, hlocks⟩ := id F
  have hl : lv_has ls 2 [(0, .ref o), (1, .int a)] := hl
  refine lv_aload_n hx hb dX1_salsa_0 rfl (lv_at hl 0 rfl) ?_
  refine lv_iconst (v := nI 2) hx hb dX1_salsa_1 (by decide) ?_
  refine lv_iconst (v := nI 2) hx hb dX1_salsa_2 (by decide) ?_
  refine lv_iload_n hx hb dX1_salsa_3 rfl (lv_at hl 1 rfl) ?_
  refine lv_bipush (v := nI 15) hx hb dX1_salsa_4 (by decide) ?_
  refine x_and hx hb 4 16 (by decide) (by decide) dX1_salsa_6 ?_
  refine n_mul hx hb dX1_salsa_7 ?_
  refine n_add hx hb dX1_salsa_8 ?_
  refine lv_iconst (v := nI 1) hx hb dX1_salsa_9 (by decide) ?_
  refine k_V (rest := []) (wr := []) (w' := [(o, obj 1 fs), (aI, arI cI 16 i), (aO, arI cI 16 (it_ (cpK (coreG rS (2 + (2 * (a.toBitVec.toNat % 16))) (it_ (cpK i) 16 y) x)) 16 u)), (aX, arI cI 16 (coreG rS (2 + (2 * (a.toBitVec.toNat % 16))) (it_ (cpK i) 16 y) x)), (aS, arI cI 16 (it_ (cpK i) 16 y))]) (q0 := 0) (ci := 1) F hW (ct_X1_turnInS l G cI cB cL o aI aO aX aS fs hf0 hf1 hf2 hf3 i u x y (2 + (2 * (a.toBitVec.toNat % 16)))  (by omega)) [0, 1, 2, 3, 4] [] [0, 1, 2, 3, 4] rfl rfl rfl rfl (by decide) rfl rfl rfl rfl g_X1_turnIn ⟨rfl, rfl⟩ hd_X1_turnIn ⟨Nat.le_of_ble_eq_true rfl, Nat.le_of_ble_eq_true rfl⟩ rfl hl.1 rfl (Nat.le_of_ble_eq_true rfl) dX1_salsa_10 ⟨Nat.zero_le _, Nat.zero_le _⟩ (fun H locs hW => ?_)
  exact r_vret F hW dX1_salsa_13
set_option maxHeartbeats 4000000 in
theorem ct_X1_chacha (l : Launch) (G : va_G) (cI cB cL : ClassId) (o aI aO aX aS : Nat) (fs : List Value) (hf0 : fs[0]? = some (.ref aI)) (hf1 : fs[1]? = some (.ref aO)) (hf2 : fs[2]? = some (.ref aX)) (hf3 : fs[3]? = some (.ref aS)) (i u x y : Nat → Int32) (a : Int32) : CV l yX1_chacha (ws_ yX1_chacha cX1_chacha 2 none) (rm_ 4 92) G (tys_ cI cB cL) [.ref o, .int a] [(o, obj 1 fs), (aI, arI cI 16 i), (aO, arI cI 16 u), (aX, arI cI 16 x), (aS, arI cI 16 y)] [(o, obj 1 fs), (aI, arI cI 16 i), (aO, arI cI 16 (it_ (cpK (coreG rC (2 + 2 * (a.toBitVec.toNat % 16)) (it_ (cpK i) 16 y) x)) 16 u)), (aX, arI cI 16 (coreG rC (2 + 2 * (a.toBitVec.toNat % 16)) (it_ (cpK i) 16 y) x)), (aS, arI cI 16 (it_ (cpK i) 16 y))] := by
  refine CV.of (by decide) (Nat.le_of_ble_eq_true rfl) ?_
  intro p e s m below meth c A ls F hW hl
  have F : Fx p m c cX1_chacha 2 s ([.ref o, .int a] : List Value).toArray RX1 meth none := F
  obtain ⟨⟨hx, hb, hml, hown, hts⟩, hr, hlocks⟩ := id F
  have hl : lv_has ls 2 [(0, .ref o), (1, .int a)] := hl
  refine lv_aload_n hx hb dX1_chacha_0 rfl (lv_at hl 0 rfl) ?_
  refine lv_iconst (v := nI 2) hx hb dX1_chacha_1 (by decide) ?_
  refine lv_iconst (v := nI 2) hx hb dX1_chacha_2 (by decide) ?_
  refine lv_iload_n hx hb dX1_chacha_3 rfl (lv_at hl 1 rfl) ?_
  refine lv_bipush (v := nI 15) hx hb dX1_chacha_4 (by decide) ?_
  refine x_and hx hb 4 16 (by decide) (by decide) dX1_chacha_6 ?_
  refine n_mul hx hb dX1_chacha_7 ?_
  refine n_add hx hb dX1_chacha_8 ?_
  refine lv_iconst (v := nI 0) hx hb dX1_chacha_9 (by decide) ?_
  refine k_V (rest := []) (wr := []) (w' := [(o, obj 1 fs), (aI, arI cI 16 i), (aO, arI cI 16 (it_ (cpK (coreG rC (2 + (2 * (a.toBitVec.toNat % 16))) (it_ (cpK i) 16 y) x)) 16 u)), (aX, arI cI 16 (coreG rC (2 + (2 * (a.toBitVec.toNat % 16))) (it_ (cpK i) 16 y) x)), (aS, arI cI 16 (it_ (cpK i) 16 y))]) (q0 := 0) (ci := 1) F hW (ct_X1_turnInC l G cI cB cL o aI aO aX aS fs hf0 hf1 hf2 hf3 i u x y (2 + (2 * (a.toBitVec.toNat % 16)))  (by omega)) [0, 1, 2, 3, 4] [] [0, 1, 2, 3, 4] rfl rfl rfl rfl (by decide) rfl rfl rfl rfl g_X1_turnIn ⟨rfl, rfl⟩ hd_X1_turnIn ⟨Nat.le_of_ble_eq_true rfl, Nat.le_of_ble_eq_true rfl⟩ rfl hl.1 rfl (Nat.le_of_ble_eq_true rfl) dX1_chacha_10 ⟨Nat.zero_le _, Nat.zero_le _⟩ (fun H locs hW => ?_)
  exact r_vret F hW dX1_chacha_13
set_option maxHeartbeats 4000000 in
theorem ct_X1_again (l : Launch) (G : va_G) (cI cB cL : ClassId) (o aI aO : Nat) (fs : List Value) (hf0 : fs[0]? = some (.ref aI)) (hf1 : fs[1]? = some (.ref aO)) (x u : Nat → Int32) : CV l yX1_again (ws_ yX1_again cX1_again 2 none) (rm_ 0 0) G (tys_ cI cB cL) [.ref o] [(o, obj 1 fs), (aI, arI cI 16 x), (aO, arI cI 16 u)] [(o, obj 1 fs), (aI, arI cI 16 (it_ (cpK u) 16 x)), (aO, arI cI 16 u)] := by
  refine CV.of (by decide) (Nat.le_of_ble_eq_true rfl) ?_
  intro p e s m below meth c A ls F hW hl
  have F : Fx p m c cX1_again 2 s ([.ref o] : List Value).toArray RX1 meth none := F
  obtain ⟨⟨hx, hb, hml, hown, hts⟩, hr, hlocks⟩ := id F
  have hl : lv_has ls 2 [(0, .ref o)] := hl
  refine lv_iconst (v := nI 0) hx hb dX1_again_0 (by decide) ?_
  refine lv_istore_n (lv' := [(1, .int (nI 0)), (0, .ref o)]) hx hb dX1_again_1 rfl hl (by decide) rfl (fun ls hl => ?_)
  have loop : ∀ (nk k : Nat), k + nk = 16 → ∀ (H : Heap) (locs : List Loc) (ls : Array Slot), Wd G (tys_ cI cB cL) A s H locs [(o, obj 1 fs), (aI, arI cI 16 (it_ (cpK u) k x)), (aO, arI cI 16 u)] → lv_has ls 2 [(0, .ref o), (1, .int (nI k))] → W p l e (rm_ 0 0) s m ([.ref o] : List Value).toArray below meth c H locs 0 0 (MQ below (QV G (tys_ cI cB cL) [(o, obj 1 fs), (aI, arI cI 16 (it_ (cpK u) 16 x)), (aO, arI cI 16 u)] A) ([.ref o] : List Value).toArray s 0 0 A) (F0 m 2 ls []) := by
    intro nk
    induction nk with
    | zero =>
      intro k hk H locs ls hW hl
      obtain rfl : k = 16 := by omega
      refine lv_iload_n hx hb dX1_again_2 rfl (lv_at hl 1 rfl) ?_
      refine lv_bipush (v := nI 16) hx hb dX1_again_3 (by decide) ?_
      refine n_ge_t (tgt := 26) hx hb (by omega) (by omega) dX1_again_5 (by decide) ?_
      exact r_vret F hW dX1_again_26
    | succ nk ihk =>
      intro k hk H locs ls hW hl
      have hkN : k < 16 := by omega
      refine lv_iload_n hx hb dX1_again_2 rfl (lv_at hl 1 rfl) ?_
      refine lv_bipush (v := nI 16) hx hb dX1_again_3 (by decide) ?_
      refine n_ge_f (tgt := 26) hx hb (by omega) (by omega) dX1_again_5 (by decide) ?_
      refine lv_aload_n hx hb dX1_again_8 rfl (lv_at hl 0 rfl) ?_
      refine r_getM F hW 0 0 rfl (by decide) rfl q154 hf0 dX1_again_9 ?_
      refine lv_iload_n hx hb dX1_again_12 rfl (lv_at hl 1 rfl) ?_
      refine lv_aload_n hx hb dX1_again_13 rfl (lv_at hl 0 rfl) ?_
      refine r_getM F hW 0 1 rfl (by decide) rfl q155 hf1 dX1_again_14 ?_
      refine lv_iload_n hx hb dX1_again_17 rfl (lv_at hl 1 rfl) ?_
      refine r_iald F hW 2 rfl k (by omega) (by decide) dX1_again_18 ?_
      refine r_iast (w' := [(o, obj 1 fs), (aI, arI cI 16 (cpK u k (it_ (cpK u) k x))), (aO, arI cI 16 u)]) F hW 1 rfl k (by omega) (by decide) (cpK u k (it_ (cpK u) k x)) rfl rfl dX1_again_19 (fun H locs hW => ?_)
      refine n_iinc (lv' := [(1, .int (nI (k + 1))), (0, .ref o)]) (k := 1) (d := 1) hx hb dX1_again_20 hl rfl (by decide) (by decide) rfl (fun ls hl => ?_)
      refine lv_goto (tgt := 2) hx hb dX1_again_23 (by decide) ?_
      exact ihk (k + 1) (by omega) H locs ls (hW.eq (by rw [it_s (cpK u) k x])) (lv_sub hl [1, 0] rfl)
  exact loop 16 0 (by omega) _ _ _ (hW.eq (by rw [it_0 (cpK u) x])) (lv_sub hl [1, 0] rfl)
set_option maxHeartbeats 4000000 in
theorem ct_X1_out (l : Launch) (G : va_G) (cI cB cL : ClassId) (o aO : Nat) (fs : List Value) (hf1 : fs[1]? = some (.ref aO)) (u : Nat → Int32) (a : Int32) : CI l yX1_out (ws_ yX1_out cX1_out 2 (some .int)) (rm_ 0 0) G (tys_ cI cB cL) [.ref o, .int a] [(o, obj 1 fs), (aO, arI cI 16 u)] [(o, obj 1 fs), (aO, arI cI 16 u)] (u (a.toBitVec.toNat % 16)) := by
  refine CI.of (by decide) (Nat.le_of_ble_eq_true rfl) ?_
  intro p e s m below meth c A ls F hW hl
  have F : Fx p m c cX1_out 2 s ([.ref o, .int a] : List Value).toArray RX1 meth (some .int) := F
  obtain ⟨⟨hx, hb, hml, hown, hts⟩, hr, hlocks⟩ := id F
  have hl : lv_has ls 2 [(0, .ref o), (1, .int a)] := hl
  refine lv_aload_n hx hb dX1_out_0 rfl (lv_at hl 0 rfl) ?_
  refine r_getM F hW 0 1 rfl (by decide) rfl q155 hf1 dX1_out_1 ?_
  refine lv_iload_n hx hb dX1_out_4 rfl (lv_at hl 1 rfl) ?_
  refine lv_bipush (v := nI 15) hx hb dX1_out_5 (by decide) ?_
  refine x_and hx hb 4 16 (by decide) (by decide) dX1_out_7 ?_
  refine r_iald F hW 1 rfl (a.toBitVec.toNat % 16) (by omega) (by decide) dX1_out_8 ?_
  exact r_iret F hW rfl dX1_out_9
set_option maxHeartbeats 4000000 in
theorem ct_X1_nonce (l : Launch) (G : va_G) (cI cB cL : ClassId) (o aI aO aX aS aK aT aQ : Nat) (on : Int32) (g h : Nat → Int32) (a b c_ : Int32) : CV l yX1_nonce (ws_ yX1_nonce cX1_nonce 5 none) (rm_ 0 0) G (tys_ cI cB cL) [.ref o, .int a, .int b, .int c_] [(o, obj 1 [.ref aI, .ref aO, .ref aX, .ref aS, .ref aK, .ref aT, .ref aQ, .int on]), (aK, arI cI 8 g), (aT, arI cI 16 h)] [(o, obj 1 [.ref aI, .ref aO, .ref aX, .ref aS, .ref aK, .ref aT, .ref aQ, .int (nI 1)]), (aK, arI cI 8 g), (aT, arI cI 16 (nonceF g a b c_ h))] := by
  refine CV.of (by decide) (Nat.le_of_ble_eq_true rfl) ?_
  intro p e s m below meth c A ls F hW hl
  have F : Fx p m c cX1_nonce 5 s ([.ref o, .int a, .int b, .int c_] : List Value).toArray RX1 meth none := F
  obtain ⟨⟨hx, hb, hml, hown, hts⟩, hr, hlocks⟩ := id F
  have hl : lv_has ls 5 [(0, .ref o), (1, .int a), (2, .int b), (3, .int c_)] := hl
  refine lv_aload_n hx hb dX1_nonce_0 rfl (lv_at hl 0 rfl) ?_
  refine r_getM F hW 0 5 rfl (by decide) rfl q159 rfl dX1_nonce_1 ?_
  refine lv_iconst (v := nI 0) hx hb dX1_nonce_4 (by decide) ?_
  refine lv_ldc hx hb hown (hts _ q226) dX1_nonce_5 ?_
  refine r_iast (w' := [(o, obj 1 [.ref aI, .ref aO, .ref aX, .ref aS, .ref aK, .ref aT, .ref aQ, .int on]), (aK, arI cI 8 g), (aT, arI cI 16 (upd h 0 1634760805))]) F hW 2 rfl 0 (by omega) (by decide) (upd h 0 1634760805) rfl rfl dX1_nonce_7 (fun H locs hW => ?_)
  refine lv_aload_n hx hb dX1_nonce_8 rfl (lv_at hl 0 rfl) ?_
  refine r_getM F hW 0 5 rfl (by decide) rfl q159 rfl dX1_nonce_9 ?_
  refine lv_iconst (v := nI 1) hx hb dX1_nonce_12 (by decide) ?_
  refine lv_ldc hx hb hown (hts _ q227) dX1_nonce_13 ?_
  refine r_iast (w' := [(o, obj 1 [.ref aI, .ref aO, .ref aX, .ref aS, .ref aK, .ref aT, .ref aQ, .int on]), (aK, arI cI 8 g), (aT, arI cI 16 (upd (upd h 0 1634760805) 1 857760878))]) F hW 2 rfl 1 (by omega) (by decide) (upd (upd h 0 1634760805) 1 857760878) rfl rfl dX1_nonce_15 (fun H locs hW => ?_)
  refine lv_aload_n hx hb dX1_nonce_16 rfl (lv_at hl 0 rfl) ?_
  refine r_getM F hW 0 5 rfl (by decide) rfl q159 rfl dX1_nonce_17 ?_
  refine lv_iconst (v := nI 2) hx hb dX1_nonce_20 (by decide) ?_
  refine lv_ldc hx hb hown (hts _ q228) dX1_nonce_21 ?_
  refine r_iast (w' := [(o, obj 1 [.ref aI, .ref aO, .ref aX, .ref aS, .ref aK, .ref aT, .ref aQ, .int on]), (aK, arI cI 8 g), (aT, arI cI 16 (upd (upd (upd h 0 1634760805) 1 857760878) 2 2036477234))]) F hW 2 rfl 2 (by omega) (by decide) (upd (upd (upd h 0 1634760805) 1 857760878) 2 2036477234) rfl rfl dX1_nonce_23 (fun H locs hW => ?_)
  refine lv_aload_n hx hb dX1_nonce_24 rfl (lv_at hl 0 rfl) ?_
  refine r_getM F hW 0 5 rfl (by decide) rfl q159 rfl dX1_nonce_25 ?_
  refine lv_iconst (v := nI 3) hx hb dX1_nonce_28 (by decide) ?_
  refine lv_ldc hx hb hown (hts _ q229) dX1_nonce_29 ?_
  refine r_iast (w' := [(o, obj 1 [.ref aI, .ref aO, .ref aX, .ref aS, .ref aK, .ref aT, .ref aQ, .int on]), (aK, arI cI 8 g), (aT, arI cI 16 (noA h))]) F hW 2 rfl 3 (by omega) (by decide) (noA h) rfl rfl dX1_nonce_31 (fun H locs hW => ?_)
  refine lv_iconst (v := nI 0) hx hb dX1_nonce_32 (by decide) ?_
  refine lv_istore (lv' := [(4, .int (nI 0)), (0, .ref o), (1, .int a), (2, .int b), (3, .int c_)]) hx hb dX1_nonce_33 hl (by decide) rfl (fun ls hl => ?_)
  have loop : ∀ (nk k : Nat), k + nk = 8 → ∀ (H : Heap) (locs : List Loc) (ls : Array Slot), Wd G (tys_ cI cB cL) A s H locs [(o, obj 1 [.ref aI, .ref aO, .ref aX, .ref aS, .ref aK, .ref aT, .ref aQ, .int on]), (aK, arI cI 8 g), (aT, arI cI 16 (it_ (noK g) k (noA h)))] → lv_has ls 5 [(0, .ref o), (1, .int a), (2, .int b), (3, .int c_), (4, .int (nI k))] → W p l e (rm_ 0 0) s m ([.ref o, .int a, .int b, .int c_] : List Value).toArray below meth c H locs 0 0 (MQ below (QV G (tys_ cI cB cL) [(o, obj 1 [.ref aI, .ref aO, .ref aX, .ref aS, .ref aK, .ref aT, .ref aQ, .int (nI 1)]), (aK, arI cI 8 g), (aT, arI cI 16 (nonceF g a b c_ h))] A) ([.ref o, .int a, .int b, .int c_] : List Value).toArray s 0 0 A) (F0 m 35 ls []) := by
    intro nk
    induction nk with
    | zero =>
      intro k hk H locs ls hW hl
      obtain rfl : k = 8 := by omega
      refine lv_iload hx hb dX1_nonce_35 (lv_at hl 4 rfl) ?_
      refine lv_bipush (v := nI 8) hx hb dX1_nonce_37 (by decide) ?_
      refine n_ge_t (tgt := 64) hx hb (by omega) (by omega) dX1_nonce_39 (by decide) ?_
      refine lv_aload_n hx hb dX1_nonce_64 rfl (lv_at hl 0 rfl) ?_
      refine r_getM F hW 0 5 rfl (by decide) rfl q159 rfl dX1_nonce_65 ?_
      refine lv_bipush (v := nI 12) hx hb dX1_nonce_68 (by decide) ?_
      refine lv_iconst (v := nI 0) hx hb dX1_nonce_70 (by decide) ?_
      refine r_iast (w' := [(o, obj 1 [.ref aI, .ref aO, .ref aX, .ref aS, .ref aK, .ref aT, .ref aQ, .int on]), (aK, arI cI 8 g), (aT, arI cI 16 (upd (it_ (noK g) 8 (noA h)) 12 (nI 0)))]) F hW 2 rfl 12 (by omega) (by decide) (upd (it_ (noK g) 8 (noA h)) 12 (nI 0)) rfl rfl dX1_nonce_71 (fun H locs hW => ?_)
      refine lv_aload_n hx hb dX1_nonce_72 rfl (lv_at hl 0 rfl) ?_
      refine r_getM F hW 0 5 rfl (by decide) rfl q159 rfl dX1_nonce_73 ?_
      refine lv_bipush (v := nI 13) hx hb dX1_nonce_76 (by decide) ?_
      refine lv_iload_n hx hb dX1_nonce_78 rfl (lv_at hl 1 rfl) ?_
      refine r_iast (w' := [(o, obj 1 [.ref aI, .ref aO, .ref aX, .ref aS, .ref aK, .ref aT, .ref aQ, .int on]), (aK, arI cI 8 g), (aT, arI cI 16 (upd (upd (it_ (noK g) 8 (noA h)) 12 (nI 0)) 13 a))]) F hW 2 rfl 13 (by omega) (by decide) (upd (upd (it_ (noK g) 8 (noA h)) 12 (nI 0)) 13 a) rfl rfl dX1_nonce_79 (fun H locs hW => ?_)
      refine lv_aload_n hx hb dX1_nonce_80 rfl (lv_at hl 0 rfl) ?_
      refine r_getM F hW 0 5 rfl (by decide) rfl q159 rfl dX1_nonce_81 ?_
      refine lv_bipush (v := nI 14) hx hb dX1_nonce_84 (by decide) ?_
      refine lv_iload_n hx hb dX1_nonce_86 rfl (lv_at hl 2 rfl) ?_
      refine r_iast (w' := [(o, obj 1 [.ref aI, .ref aO, .ref aX, .ref aS, .ref aK, .ref aT, .ref aQ, .int on]), (aK, arI cI 8 g), (aT, arI cI 16 (upd (upd (upd (it_ (noK g) 8 (noA h)) 12 (nI 0)) 13 a) 14 b))]) F hW 2 rfl 14 (by omega) (by decide) (upd (upd (upd (it_ (noK g) 8 (noA h)) 12 (nI 0)) 13 a) 14 b) rfl rfl dX1_nonce_87 (fun H locs hW => ?_)
      refine lv_aload_n hx hb dX1_nonce_88 rfl (lv_at hl 0 rfl) ?_
      refine r_getM F hW 0 5 rfl (by decide) rfl q159 rfl dX1_nonce_89 ?_
      refine lv_bipush (v := nI 15) hx hb dX1_nonce_92 (by decide) ?_
      refine lv_iload_n hx hb dX1_nonce_94 rfl (lv_at hl 3 rfl) ?_
      refine r_iast (w' := [(o, obj 1 [.ref aI, .ref aO, .ref aX, .ref aS, .ref aK, .ref aT, .ref aQ, .int on]), (aK, arI cI 8 g), (aT, arI cI 16 (nonceF g a b c_ h))]) F hW 2 rfl 15 (by omega) (by decide) (nonceF g a b c_ h) rfl rfl dX1_nonce_95 (fun H locs hW => ?_)
      refine lv_aload_n hx hb dX1_nonce_96 rfl (lv_at hl 0 rfl) ?_
      refine lv_iconst (v := nI 1) hx hb dX1_nonce_97 (by decide) ?_
      refine r_putM (w' := [(o, obj 1 [.ref aI, .ref aO, .ref aX, .ref aS, .ref aK, .ref aT, .ref aQ, .int (nI 1)]), (aK, arI cI 8 g), (aT, arI cI 16 (nonceF g a b c_ h))]) (ty := .boolean) F hW 0 7 rfl (by decide) rfl q161 rfl (by decide +kernel) rfl rfl (Nat.le_of_ble_eq_true rfl) rfl dX1_nonce_98 (fun H locs hW => ?_)
      exact r_vret F hW dX1_nonce_101
    | succ nk ihk =>
      intro k hk H locs ls hW hl
      have hkN : k < 8 := by omega
      refine lv_iload hx hb dX1_nonce_35 (lv_at hl 4 rfl) ?_
      refine lv_bipush (v := nI 8) hx hb dX1_nonce_37 (by decide) ?_
      refine n_ge_f (tgt := 64) hx hb (by omega) (by omega) dX1_nonce_39 (by decide) ?_
      refine lv_aload_n hx hb dX1_nonce_42 rfl (lv_at hl 0 rfl) ?_
      refine r_getM F hW 0 5 rfl (by decide) rfl q159 rfl dX1_nonce_43 ?_
      refine lv_iconst (v := nI 4) hx hb dX1_nonce_46 (by decide) ?_
      refine lv_iload hx hb dX1_nonce_47 (lv_at hl 4 rfl) ?_
      refine n_add hx hb dX1_nonce_49 ?_
      refine lv_aload_n hx hb dX1_nonce_50 rfl (lv_at hl 0 rfl) ?_
      refine r_getM F hW 0 4 rfl (by decide) rfl q158 rfl dX1_nonce_51 ?_
      refine lv_iload hx hb dX1_nonce_54 (lv_at hl 4 rfl) ?_
      refine r_iald F hW 1 rfl k (by omega) (by decide) dX1_nonce_56 ?_
      refine r_iast (w' := [(o, obj 1 [.ref aI, .ref aO, .ref aX, .ref aS, .ref aK, .ref aT, .ref aQ, .int on]), (aK, arI cI 8 g), (aT, arI cI 16 (noK g k (it_ (noK g) k (noA h))))]) F hW 2 rfl (4 + k) (by omega) (by decide) (noK g k (it_ (noK g) k (noA h))) rfl rfl dX1_nonce_57 (fun H locs hW => ?_)
      refine n_iinc (lv' := [(4, .int (nI (k + 1))), (0, .ref o), (1, .int a), (2, .int b), (3, .int c_)]) (k := 4) (d := 1) hx hb dX1_nonce_58 hl rfl (by decide) (by decide) rfl (fun ls hl => ?_)
      refine lv_goto (tgt := 35) hx hb dX1_nonce_61 (by decide) ?_
      exact ihk (k + 1) (by omega) H locs ls (hW.eq (by rw [it_s (noK g) k (noA h)])) (lv_sub hl [1, 2, 3, 4, 0] rfl)
  exact loop 8 0 (by omega) _ _ _ (hW.eq (by rw [it_0 (noK g) (noA h)])) (lv_sub hl [1, 2, 3, 4, 0] rfl)
set_option maxHeartbeats 4000000 in
theorem ct_X1_block0 (l : Launch) (G : va_G) (cI cB cL : ClassId) (o : Nat) (fs : List Value) (hf7 : fs[7]? = some (.int (nI 0))) : CI l yX1_block (ws_ yX1_block cX1_block 2 (some .boolean)) (rm_ 3 69) G (tys_ cI cB cL) [.ref o] [(o, obj 1 fs)] [(o, obj 1 fs)] (nI 0) := by
  refine CI.of (by decide) (Nat.le_of_ble_eq_true rfl) ?_
  intro p e s m below meth c A ls F hW hl
  have F : Fx p m c cX1_block 2 s ([.ref o] : List Value).toArray RX1 meth (some .boolean) := F
  obtain ⟨⟨hx, hb, hml, hown, hts⟩, hr, hlocks⟩ := id F
  have hl : lv_has ls 2 [(0, .ref o)] := hl
  refine lv_aload_n hx hb dX1_block_0 rfl (lv_at hl 0 rfl) ?_
  refine r_getM F hW 0 7 rfl (by decide) rfl q161 hf7 dX1_block_1 ?_
  refine n_ne_f (tgt := 9) hx hb (by omega) dX1_block_4 (by decide) ?_
  refine lv_iconst (v := nI 0) hx hb dX1_block_7 (by decide) ?_
  exact r_zret F hW rfl rfl dX1_block_8
set_option maxHeartbeats 4000000 in
theorem ct_X1_block1 (l : Launch) (G : va_G) (cI cB cL : ClassId) (o aX aS aT aQ : Nat) (fs : List Value) (hf2 : fs[2]? = some (.ref aX)) (hf3 : fs[3]? = some (.ref aS)) (hf5 : fs[5]? = some (.ref aT)) (hf6 : fs[6]? = some (.ref aQ)) (hf7 : fs[7]? = some (.int (nI 1))) (x y t q : Nat → Int32) : CI l yX1_block (ws_ yX1_block cX1_block 2 (some .boolean)) (rm_ 3 69) G (tys_ cI cB cL) [.ref o] [(o, obj 1 fs), (aX, arI cI 16 x), (aS, arI cI 16 y), (aT, arI cI 16 t), (aQ, arI cI 64 q)] [(o, obj 1 fs), (aX, arI cI 16 (coreG rC 20 (it_ (cpK t) 16 y) x)), (aS, arI cI 16 (it_ (cpK t) 16 y)), (aT, arI cI 16 (incF t)), (aQ, arI cI 64 (it_ (strK (coreG rC 20 (it_ (cpK t) 16 y) x)) 64 q))] (nI 1) := by
  refine CI.of (by decide) (Nat.le_of_ble_eq_true rfl) ?_
  intro p e s m below meth c A ls F hW hl
  have F : Fx p m c cX1_block 2 s ([.ref o] : List Value).toArray RX1 meth (some .boolean) := F
  obtain ⟨⟨hx, hb, hml, hown, hts⟩, hr, hlocks⟩ := id F
  have hl : lv_has ls 2 [(0, .ref o)] := hl
  refine lv_aload_n hx hb dX1_block_0 rfl (lv_at hl 0 rfl) ?_
  refine r_getM F hW 0 7 rfl (by decide) rfl q161 hf7 dX1_block_1 ?_
  refine n_ne_t (tgt := 9) hx hb (by omega) (by omega) dX1_block_4 (by decide) ?_
  refine lv_iconst (v := nI 0) hx hb dX1_block_9 (by decide) ?_
  refine lv_istore_n (lv' := [(1, .int (nI 0)), (0, .ref o)]) hx hb dX1_block_10 rfl hl (by decide) rfl (fun ls hl => ?_)
  have loop2 : ∀ (nk k : Nat), k + nk = 64 → ∀ (H : Heap) (locs : List Loc) (ls : Array Slot), Wd G (tys_ cI cB cL) A s H locs [(o, obj 1 fs), (aX, arI cI 16 (coreG rC 20 (it_ (cpK t) 16 y) x)), (aS, arI cI 16 (it_ (cpK t) 16 y)), (aT, arI cI 16 t), (aQ, arI cI 64 (it_ (strK (coreG rC 20 (it_ (cpK t) 16 y) x)) k q))] → lv_has ls 2 [(0, .ref o), (1, .int (nI k))] → W p l e (rm_ 3 69) s m ([.ref o] : List Value).toArray below meth c H locs 0 0 (MQ below (QI (nI 1) G (tys_ cI cB cL) [(o, obj 1 fs), (aX, arI cI 16 (coreG rC 20 (it_ (cpK t) 16 y) x)), (aS, arI cI 16 (it_ (cpK t) 16 y)), (aT, arI cI 16 (incF t)), (aQ, arI cI 64 (it_ (strK (coreG rC 20 (it_ (cpK t) 16 y) x)) 64 q))] A) ([.ref o] : List Value).toArray s 0 0 A) (F0 m 44 ls []) := by
    intro nk
    induction nk with
    | zero =>
      intro k hk H locs ls hW hl
      obtain rfl : k = 64 := by omega
      refine lv_iload_n hx hb dX1_block_44 rfl (lv_at hl 1 rfl) ?_
      refine lv_bipush (v := nI 64) hx hb dX1_block_45 (by decide) ?_
      refine n_ge_t (tgt := 81) hx hb (by omega) (by omega) dX1_block_47 (by decide) ?_
      refine lv_aload_n hx hb dX1_block_81 rfl (lv_at hl 0 rfl) ?_
      refine r_getM F hW 0 5 rfl (by decide) rfl q159 hf5 dX1_block_82 ?_
      refine lv_bipush (v := nI 12) hx hb dX1_block_85 (by decide) ?_
      refine lv_aload_n hx hb dX1_block_87 rfl (lv_at hl 0 rfl) ?_
      refine r_getM F hW 0 5 rfl (by decide) rfl q159 hf5 dX1_block_88 ?_
      refine lv_bipush (v := nI 12) hx hb dX1_block_91 (by decide) ?_
      refine r_iald F hW 3 rfl 12 (by omega) (by decide) dX1_block_93 ?_
      refine lv_iconst (v := nI 1) hx hb dX1_block_94 (by decide) ?_
      refine lv_iadd hx hb dX1_block_95 ?_
      refine r_iast (w' := [(o, obj 1 fs), (aX, arI cI 16 (coreG rC 20 (it_ (cpK t) 16 y) x)), (aS, arI cI 16 (it_ (cpK t) 16 y)), (aT, arI cI 16 (incF t)), (aQ, arI cI 64 (it_ (strK (coreG rC 20 (it_ (cpK t) 16 y) x)) 64 q))]) F hW 3 rfl 12 (by omega) (by decide) (incF t) rfl rfl dX1_block_96 (fun H locs hW => ?_)
      refine lv_iconst (v := nI 1) hx hb dX1_block_97 (by decide) ?_
      exact r_zret F hW rfl rfl dX1_block_98
    | succ nk ihk =>
      intro k hk H locs ls hW hl
      have hkN : k < 64 := by omega
      refine lv_iload_n hx hb dX1_block_44 rfl (lv_at hl 1 rfl) ?_
      refine lv_bipush (v := nI 64) hx hb dX1_block_45 (by decide) ?_
      refine n_ge_f (tgt := 81) hx hb (by omega) (by omega) dX1_block_47 (by decide) ?_
      refine lv_aload_n hx hb dX1_block_50 rfl (lv_at hl 0 rfl) ?_
      refine r_getM F hW 0 6 rfl (by decide) rfl q160 hf6 dX1_block_51 ?_
      refine lv_iload_n hx hb dX1_block_54 rfl (lv_at hl 1 rfl) ?_
      refine lv_aload_n hx hb dX1_block_55 rfl (lv_at hl 0 rfl) ?_
      refine r_getM F hW 0 2 rfl (by decide) rfl q156 hf2 dX1_block_56 ?_
      refine lv_iload_n hx hb dX1_block_59 rfl (lv_at hl 1 rfl) ?_
      refine lv_iconst (v := nI 2) hx hb dX1_block_60 (by decide) ?_
      refine n_shr hx hb 2 4 (by omega) (by decide) (by decide) dX1_block_61 ?_
      refine r_iald F hW 1 rfl (k / 4) (by omega) (by decide) dX1_block_62 ?_
      refine lv_bipush (v := nI 8) hx hb dX1_block_63 (by decide) ?_
      refine lv_iload_n hx hb dX1_block_65 rfl (lv_at hl 1 rfl) ?_
      refine lv_iconst (v := nI 3) hx hb dX1_block_66 (by decide) ?_
      refine n_and hx hb 2 4 (by omega) (by decide) (by decide) dX1_block_67 ?_
      refine n_mul hx hb dX1_block_68 ?_
      refine lv_iushr hx hb dX1_block_69 rfl ?_
      refine lv_sipush (v := nI 255) hx hb dX1_block_70 (by decide) ?_
      refine lv_iand hx hb dX1_block_73 ?_
      refine r_iast (w' := [(o, obj 1 fs), (aX, arI cI 16 (coreG rC 20 (it_ (cpK t) 16 y) x)), (aS, arI cI 16 (it_ (cpK t) 16 y)), (aT, arI cI 16 t), (aQ, arI cI 64 (strK (coreG rC 20 (it_ (cpK t) 16 y) x) k (it_ (strK (coreG rC 20 (it_ (cpK t) 16 y) x)) k q)))]) F hW 4 rfl k (by omega) (by decide) (strK (coreG rC 20 (it_ (cpK t) 16 y) x) k (it_ (strK (coreG rC 20 (it_ (cpK t) 16 y) x)) k q)) rfl rfl dX1_block_74 (fun H locs hW => ?_)
      refine n_iinc (lv' := [(1, .int (nI (k + 1))), (0, .ref o)]) (k := 1) (d := 1) hx hb dX1_block_75 hl rfl (by decide) (by decide) rfl (fun ls hl => ?_)
      refine lv_goto (tgt := 44) hx hb dX1_block_78 (by decide) ?_
      exact ihk (k + 1) (by omega) H locs ls (hW.eq (by rw [it_s (strK (coreG rC 20 (it_ (cpK t) 16 y) x)) k q])) (lv_sub hl [1, 0] rfl)
  have loop1 : ∀ (nk k : Nat), k + nk = 16 → ∀ (H : Heap) (locs : List Loc) (ls : Array Slot), Wd G (tys_ cI cB cL) A s H locs [(o, obj 1 fs), (aX, arI cI 16 x), (aS, arI cI 16 (it_ (cpK t) k y)), (aT, arI cI 16 t), (aQ, arI cI 64 q)] → lv_has ls 2 [(0, .ref o), (1, .int (nI k))] → W p l e (rm_ 3 69) s m ([.ref o] : List Value).toArray below meth c H locs 0 0 (MQ below (QI (nI 1) G (tys_ cI cB cL) [(o, obj 1 fs), (aX, arI cI 16 (coreG rC 20 (it_ (cpK t) 16 y) x)), (aS, arI cI 16 (it_ (cpK t) 16 y)), (aT, arI cI 16 (incF t)), (aQ, arI cI 64 (it_ (strK (coreG rC 20 (it_ (cpK t) 16 y) x)) 64 q))] A) ([.ref o] : List Value).toArray s 0 0 A) (F0 m 11 ls []) := by
    intro nk
    induction nk with
    | zero =>
      intro k hk H locs ls hW hl
      obtain rfl : k = 16 := by omega
      refine lv_iload_n hx hb dX1_block_11 rfl (lv_at hl 1 rfl) ?_
      refine lv_bipush (v := nI 16) hx hb dX1_block_12 (by decide) ?_
      refine n_ge_t (tgt := 35) hx hb (by omega) (by omega) dX1_block_14 (by decide) ?_
      refine lv_aload_n hx hb dX1_block_35 rfl (lv_at hl 0 rfl) ?_
      refine lv_bipush (v := nI 20) hx hb dX1_block_36 (by decide) ?_
      refine lv_iconst (v := nI 0) hx hb dX1_block_38 (by decide) ?_
      refine k_V (rest := []) (wr := [(aT, arI cI 16 t), (aQ, arI cI 64 q)]) (w' := [(o, obj 1 fs), (aX, arI cI 16 (coreG rC 20 (it_ (cpK t) 16 y) x)), (aS, arI cI 16 (it_ (cpK t) 16 y)), (aT, arI cI 16 t), (aQ, arI cI 64 q)]) (q0 := 0) (ci := 1) F hW (ct_X1_coreC l G cI cB cL o aX aS fs hf2 hf3 x (it_ (cpK t) 16 y) 20 (by omega)) [0, 1, 2] [3, 4] [2, 3, 4, 0, 1] rfl rfl rfl rfl (by decide) rfl rfl rfl rfl g_X1_core ⟨rfl, rfl⟩ hd_X1_core ⟨Nat.le_of_ble_eq_true rfl, Nat.le_of_ble_eq_true rfl⟩ rfl hl.1 rfl (Nat.le_of_ble_eq_true rfl) dX1_block_39 ⟨Nat.zero_le _, Nat.zero_le _⟩ (fun H locs hW => ?_)
      refine lv_iconst (v := nI 0) hx hb dX1_block_42 (by decide) ?_
      refine lv_istore_n (lv' := [(1, .int (nI 0)), (0, .ref o)]) hx hb dX1_block_43 rfl hl (by decide) rfl (fun ls hl => ?_)
      exact loop2 64 0 (by omega) _ _ _ (hW.eq (by rw [it_0 (strK (coreG rC 20 (it_ (cpK t) 16 y) x)) q])) (lv_sub hl [1, 0] rfl)
    | succ nk ihk =>
      intro k hk H locs ls hW hl
      have hkN : k < 16 := by omega
      refine lv_iload_n hx hb dX1_block_11 rfl (lv_at hl 1 rfl) ?_
      refine lv_bipush (v := nI 16) hx hb dX1_block_12 (by decide) ?_
      refine n_ge_f (tgt := 35) hx hb (by omega) (by omega) dX1_block_14 (by decide) ?_
      refine lv_aload_n hx hb dX1_block_17 rfl (lv_at hl 0 rfl) ?_
      refine r_getM F hW 0 3 rfl (by decide) rfl q157 hf3 dX1_block_18 ?_
      refine lv_iload_n hx hb dX1_block_21 rfl (lv_at hl 1 rfl) ?_
      refine lv_aload_n hx hb dX1_block_22 rfl (lv_at hl 0 rfl) ?_
      refine r_getM F hW 0 5 rfl (by decide) rfl q159 hf5 dX1_block_23 ?_
      refine lv_iload_n hx hb dX1_block_26 rfl (lv_at hl 1 rfl) ?_
      refine r_iald F hW 3 rfl k (by omega) (by decide) dX1_block_27 ?_
      refine r_iast (w' := [(o, obj 1 fs), (aX, arI cI 16 x), (aS, arI cI 16 (cpK t k (it_ (cpK t) k y))), (aT, arI cI 16 t), (aQ, arI cI 64 q)]) F hW 2 rfl k (by omega) (by decide) (cpK t k (it_ (cpK t) k y)) rfl rfl dX1_block_28 (fun H locs hW => ?_)
      refine n_iinc (lv' := [(1, .int (nI (k + 1))), (0, .ref o)]) (k := 1) (d := 1) hx hb dX1_block_29 hl rfl (by decide) (by decide) rfl (fun ls hl => ?_)
      refine lv_goto (tgt := 11) hx hb dX1_block_32 (by decide) ?_
      exact ihk (k + 1) (by omega) H locs ls (hW.eq (by rw [it_s (cpK t) k y])) (lv_sub hl [1, 0] rfl)
  exact loop1 16 0 (by omega) _ _ _ (hW.eq (by rw [it_0 (cpK t) y])) (lv_sub hl [1, 0] rfl)
set_option maxHeartbeats 4000000 in
theorem ct_X1_stream (l : Launch) (G : va_G) (cI cB cL : ClassId) (o aQ : Nat) (fs : List Value) (hf6 : fs[6]? = some (.ref aQ)) (u : Nat → Int32) (a : Int32) : CI l yX1_stream (ws_ yX1_stream cX1_stream 2 (some .int)) (rm_ 0 0) G (tys_ cI cB cL) [.ref o, .int a] [(o, obj 1 fs), (aQ, arI cI 64 u)] [(o, obj 1 fs), (aQ, arI cI 64 u)] (u (a.toBitVec.toNat % 64)) := by
  refine CI.of (by decide) (Nat.le_of_ble_eq_true rfl) ?_
  intro p e s m below meth c A ls F hW hl
  have F : Fx p m c cX1_stream 2 s ([.ref o, .int a] : List Value).toArray RX1 meth (some .int) := F
  obtain ⟨⟨hx, hb, hml, hown, hts⟩, hr, hlocks⟩ := id F
  have hl : lv_has ls 2 [(0, .ref o), (1, .int a)] := hl
  refine lv_aload_n hx hb dX1_stream_0 rfl (lv_at hl 0 rfl) ?_
  refine r_getM F hW 0 6 rfl (by decide) rfl q160 hf6 dX1_stream_1 ?_
  refine lv_iload_n hx hb dX1_stream_4 rfl (lv_at hl 1 rfl) ?_
  refine lv_bipush (v := nI 63) hx hb dX1_stream_5 (by decide) ?_
  refine x_and hx hb 6 64 (by decide) (by decide) dX1_stream_7 ?_
  refine r_iald F hW 1 rfl (a.toBitVec.toNat % 64) (by omega) (by decide) dX1_stream_8 ?_
  exact r_iret F hW rfl dX1_stream_9
end
section
set_option maxRecDepth 100000
/-- a constructor's contract: the world behind it is w' at some addresses u -/
def CN {S : Type} (l : Launch) (y : MethodName) (ws : List Cond) (rm : Room) (G : va_G) (tys : List (ClassId × FieldType)) (av : List Value) (w : va_W) (w' : S → va_W) (mc ms : Nat) : Prop :=
  ∀ sz : Nat, Met l y ws rm (va_Pc av (PB G tys w sz)) (va_Qv (fun _ : S => True) (fun u => PA G tys (w' u) (va_A w sz)) (va_A w sz)) mc ms (va_A w sz)
abbrev z32 : Nat → Int32 := fun _ => 0
abbrev z64 : Nat → Int64 := fun _ => 0
/-- the cells of a fresh object of class X0 -/
def w0_X0 (cI cB cL : ClassId) (o : Nat) (u : Nat × Nat × Nat × Nat × Nat × Nat) : va_W := match u with
  | (aI, aO, aK, aS, aB, aR) => [(o, obj 0 [.ref aI, .ref aO, .ref aK, .ref aS, .int (nI 0), .ref aB, .ref aR]), (aI, arI cI 16 z32), (aO, arI cI 16 z32), (aK, arI cI 8 z32), (aS, arI cI 16 z32), (aB, arI cB 64 z32), (aR, arL cL 8 z64)]
set_option maxHeartbeats 4000000 in
theorem ct_X0_init (l : Launch) (G : va_G) (cI cB cL : ClassId) (o : Nat) : CN l yX0_init (ws_ yX0_init cX0_init 1 none) ({ frames := 1, cells := 6, slots := 128, locals := 12 } : Room) G (tys_ cI cB cL) [.ref o] [(o, obj 0 [.null, .null, .null, .null, .int (nI 0), .null, .null])] (w0_X0 cI cB cL o) 6 128 := by
  intro sz
  refine ent (Qc := fun sz => va_Qv (fun _ : Nat × Nat × Nat × Nat × Nat × Nat => True) (fun u => PA G (tys_ cI cB cL) (w0_X0 cI cB cL o u) (va_A [(o, obj 0 [.null, .null, .null, .null, .int (nI 0), .null, .null])] sz)) (va_A [(o, obj 0 [.null, .null, .null, .null, .int (nI 0), .null, .null])] sz)) (by decide) (Nat.le_of_ble_eq_true rfl) ?_ sz
  intro p e s m below meth c ls F hnm hW hl
  have hnm : meth.name = "<init>" := hnm
  have F : Fx p m c cX0_init 1 s ([.ref o] : List Value).toArray RX0 meth none := F
  obtain ⟨⟨hx, hb, hml, hown, hts⟩, hr, hlocks⟩ := id F
  have hl : lv_has ls 1 [(0, .ref o)] := hl
  generalize hAe : va_A [(o, obj 0 [.null, .null, .null, .null, .int (nI 0), .null, .null])] s.heap.size = A at hW ⊢
  refine lv_aload_n hx hb dX0_init_0 rfl (lv_at hl 0 rfl) ?_
  refine W.objInit hx hb hown (hts _ q23) (hts _ q24) (hts _ q25) rfl (by rw [hml]; exact hl.1) rfl dX0_init_1 (Nat.le_of_ble_eq_true rfl) (Nat.le_of_ble_eq_true rfl) ?_
  refine W.eq (g2 := F0 m 4 ls []) rfl ?_
  refine lv_aload_n hx hb dX0_init_4 rfl (lv_at hl 0 rfl) ?_
  refine lv_bipush (v := nI 16) hx hb dX0_init_5 (by decide) ?_
  refine r_newa (atype := .int) (ty := .int) (N := 16) (a0 := (16, .inl z32)) F hW q48 rfl 0 rfl (fun C h => by cases h) (fun cA => rfl) (by decide) (by decide) (by decide) (Nat.le_of_ble_eq_true rfl) (Nat.le_of_ble_eq_true rfl) dX0_init_7 (fun aI H hW => ?_)
  have hW : Wd G (tys_ cI cB cL) A s H _ [(o, obj 0 [.null, .null, .null, .null, .int (nI 0), .null, .null]), (aI, arI cI 16 z32)] := hW
  refine r_finX (w' := [(o, obj 0 [.ref aI, .null, .null, .null, .int (nI 0), .null, .null]), (aI, arI cI 16 z32)]) (ty := .array .int) F hnm hW 0 0 rfl (by decide) rfl q26 rfl (by decide +kernel) rfl rfl (Nat.le_of_ble_eq_true rfl) rfl dX0_init_9 (fun H locs hW => ?_)
  refine lv_aload_n hx hb dX0_init_12 rfl (lv_at hl 0 rfl) ?_
  refine lv_bipush (v := nI 16) hx hb dX0_init_13 (by decide) ?_
  refine r_newa (atype := .int) (ty := .int) (N := 16) (a0 := (16, .inl z32)) F hW q48 rfl 0 rfl (fun C h => by cases h) (fun cA => rfl) (by decide) (by decide) (by decide) (Nat.le_of_ble_eq_true rfl) (Nat.le_of_ble_eq_true rfl) dX0_init_15 (fun aO H hW => ?_)
  have hW : Wd G (tys_ cI cB cL) A s H _ [(o, obj 0 [.ref aI, .null, .null, .null, .int (nI 0), .null, .null]), (aI, arI cI 16 z32), (aO, arI cI 16 z32)] := hW
  refine r_finX (w' := [(o, obj 0 [.ref aI, .ref aO, .null, .null, .int (nI 0), .null, .null]), (aI, arI cI 16 z32), (aO, arI cI 16 z32)]) (ty := .array .int) F hnm hW 0 1 rfl (by decide) rfl q27 rfl (by decide +kernel) rfl rfl (Nat.le_of_ble_eq_true rfl) rfl dX0_init_17 (fun H locs hW => ?_)
  refine lv_aload_n hx hb dX0_init_20 rfl (lv_at hl 0 rfl) ?_
  refine lv_bipush (v := nI 8) hx hb dX0_init_21 (by decide) ?_
  refine r_newa (atype := .int) (ty := .int) (N := 8) (a0 := (8, .inl z32)) F hW q48 rfl 0 rfl (fun C h => by cases h) (fun cA => rfl) (by decide) (by decide) (by decide) (Nat.le_of_ble_eq_true rfl) (Nat.le_of_ble_eq_true rfl) dX0_init_23 (fun aK H hW => ?_)
  have hW : Wd G (tys_ cI cB cL) A s H _ [(o, obj 0 [.ref aI, .ref aO, .null, .null, .int (nI 0), .null, .null]), (aI, arI cI 16 z32), (aO, arI cI 16 z32), (aK, arI cI 8 z32)] := hW
  refine r_finX (w' := [(o, obj 0 [.ref aI, .ref aO, .ref aK, .null, .int (nI 0), .null, .null]), (aI, arI cI 16 z32), (aO, arI cI 16 z32), (aK, arI cI 8 z32)]) (ty := .array .int) F hnm hW 0 2 rfl (by decide) rfl q28 rfl (by decide +kernel) rfl rfl (Nat.le_of_ble_eq_true rfl) rfl dX0_init_25 (fun H locs hW => ?_)
  refine lv_aload_n hx hb dX0_init_28 rfl (lv_at hl 0 rfl) ?_
  refine lv_bipush (v := nI 16) hx hb dX0_init_29 (by decide) ?_
  refine r_newa (atype := .int) (ty := .int) (N := 16) (a0 := (16, .inl z32)) F hW q48 rfl 0 rfl (fun C h => by cases h) (fun cA => rfl) (by decide) (by decide) (by decide) (Nat.le_of_ble_eq_true rfl) (Nat.le_of_ble_eq_true rfl) dX0_init_31 (fun aS H hW => ?_)
  have hW : Wd G (tys_ cI cB cL) A s H _ [(o, obj 0 [.ref aI, .ref aO, .ref aK, .null, .int (nI 0), .null, .null]), (aI, arI cI 16 z32), (aO, arI cI 16 z32), (aK, arI cI 8 z32), (aS, arI cI 16 z32)] := hW
  refine r_finX (w' := [(o, obj 0 [.ref aI, .ref aO, .ref aK, .ref aS, .int (nI 0), .null, .null]), (aI, arI cI 16 z32), (aO, arI cI 16 z32), (aK, arI cI 8 z32), (aS, arI cI 16 z32)]) (ty := .array .int) F hnm hW 0 3 rfl (by decide) rfl q29 rfl (by decide +kernel) rfl rfl (Nat.le_of_ble_eq_true rfl) rfl dX0_init_33 (fun H locs hW => ?_)
  refine lv_aload_n hx hb dX0_init_36 rfl (lv_at hl 0 rfl) ?_
  refine lv_bipush (v := nI 64) hx hb dX0_init_37 (by decide) ?_
  refine r_newa (atype := .byte) (ty := .byte) (N := 64) (a0 := (64, .inl z32)) F hW q49 rfl 1 rfl (fun C h => by cases h) (fun cA => rfl) (by decide) (by decide) (by decide) (Nat.le_of_ble_eq_true rfl) (Nat.le_of_ble_eq_true rfl) dX0_init_39 (fun aB H hW => ?_)
  have hW : Wd G (tys_ cI cB cL) A s H _ [(o, obj 0 [.ref aI, .ref aO, .ref aK, .ref aS, .int (nI 0), .null, .null]), (aI, arI cI 16 z32), (aO, arI cI 16 z32), (aK, arI cI 8 z32), (aS, arI cI 16 z32), (aB, arI cB 64 z32)] := hW
  refine r_finX (w' := [(o, obj 0 [.ref aI, .ref aO, .ref aK, .ref aS, .int (nI 0), .ref aB, .null]), (aI, arI cI 16 z32), (aO, arI cI 16 z32), (aK, arI cI 8 z32), (aS, arI cI 16 z32), (aB, arI cB 64 z32)]) (ty := .array .byte) F hnm hW 0 5 rfl (by decide) rfl q31 rfl (by decide +kernel) rfl rfl (Nat.le_of_ble_eq_true rfl) rfl dX0_init_41 (fun H locs hW => ?_)
  refine lv_aload_n hx hb dX0_init_44 rfl (lv_at hl 0 rfl) ?_
  refine lv_bipush (v := nI 8) hx hb dX0_init_45 (by decide) ?_
  refine r_newa (atype := .long) (ty := .long) (N := 8) (a0 := (8, .inr (.inl z64))) F hW q50 rfl 2 rfl (fun C h => by cases h) (fun cA => rfl) (by decide) (by decide) (by decide) (Nat.le_of_ble_eq_true rfl) (Nat.le_of_ble_eq_true rfl) dX0_init_47 (fun aR H hW => ?_)
  have hW : Wd G (tys_ cI cB cL) A s H _ [(o, obj 0 [.ref aI, .ref aO, .ref aK, .ref aS, .int (nI 0), .ref aB, .null]), (aI, arI cI 16 z32), (aO, arI cI 16 z32), (aK, arI cI 8 z32), (aS, arI cI 16 z32), (aB, arI cB 64 z32), (aR, arL cL 8 z64)] := hW
  refine r_finX (w' := [(o, obj 0 [.ref aI, .ref aO, .ref aK, .ref aS, .int (nI 0), .ref aB, .ref aR]), (aI, arI cI 16 z32), (aO, arI cI 16 z32), (aK, arI cI 8 z32), (aS, arI cI 16 z32), (aB, arI cB 64 z32), (aR, arL cL 8 z64)]) (ty := .array .long) F hnm hW 0 6 rfl (by decide) rfl q32 rfl (by decide +kernel) rfl rfl (Nat.le_of_ble_eq_true rfl) rfl dX0_init_49 (fun H locs hW => ?_)
  refine W.widen (k := 6) (n := 128) (Nat.le_of_ble_eq_true rfl) (Nat.le_of_ble_eq_true rfl) ?_
  exact W.vret hx hb hr (fun t ht hU => ⟨⟨(aI, aO, aK, aS, aB, aR), rfl, trivial, by rw [ht]; exact hW.2.1, va_K.moved hU.alike hW.1, hW.2.2.1⟩, hW.2.2.2.1.F ht⟩) hW.2.2.2.1.2.2 dX0_init_52 hlocks
/-- the cells of a fresh object of class X1 -/
def w0_X1 (cI cB cL : ClassId) (o : Nat) (u : Nat × Nat × Nat × Nat × Nat × Nat × Nat) : va_W := match u with
  | (aI, aO, aX, aS, aK, aT, aQ) => [(o, obj 1 [.ref aI, .ref aO, .ref aX, .ref aS, .ref aK, .ref aT, .ref aQ, .int (nI 0)]), (aI, arI cI 16 z32), (aO, arI cI 16 z32), (aX, arI cI 16 z32), (aS, arI cI 16 z32), (aK, arI cI 8 z32), (aT, arI cI 16 z32), (aQ, arI cI 64 z32)]
set_option maxHeartbeats 4000000 in
theorem ct_X1_init (l : Launch) (G : va_G) (cI cB cL : ClassId) (o : Nat) : CN l yX1_init (ws_ yX1_init cX1_init 1 none) ({ frames := 1, cells := 7, slots := 152, locals := 12 } : Room) G (tys_ cI cB cL) [.ref o] [(o, obj 1 [.null, .null, .null, .null, .null, .null, .null, .int (nI 0)])] (w0_X1 cI cB cL o) 7 152 := by
  intro sz
  refine ent (Qc := fun sz => va_Qv (fun _ : Nat × Nat × Nat × Nat × Nat × Nat × Nat => True) (fun u => PA G (tys_ cI cB cL) (w0_X1 cI cB cL o u) (va_A [(o, obj 1 [.null, .null, .null, .null, .null, .null, .null, .int (nI 0)])] sz)) (va_A [(o, obj 1 [.null, .null, .null, .null, .null, .null, .null, .int (nI 0)])] sz)) (by decide) (Nat.le_of_ble_eq_true rfl) ?_ sz
  intro p e s m below meth c ls F hnm hW hl
  have hnm : meth.name = "<init>" := hnm
  have F : Fx p m c cX1_init 1 s ([.ref o] : List Value).toArray RX1 meth none := F
  obtain ⟨⟨hx, hb, hml, hown, hts⟩, hr, hlocks⟩ := id F
  have hl : lv_has ls 1 [(0, .ref o)] := hl
  generalize hAe : va_A [(o, obj 1 [.null, .null, .null, .null, .null, .null, .null, .int (nI 0)])] s.heap.size = A at hW ⊢
  refine lv_aload_n hx hb dX1_init_0 rfl (lv_at hl 0 rfl) ?_
  refine W.objInit hx hb hown (hts _ q153) (hts _ q24) (hts _ q25) rfl (by rw [hml]; exact hl.1) rfl dX1_init_1 (Nat.le_of_ble_eq_true rfl) (Nat.le_of_ble_eq_true rfl) ?_
  refine W.eq (g2 := F0 m 4 ls []) rfl ?_
  refine lv_aload_n hx hb dX1_init_4 rfl (lv_at hl 0 rfl) ?_
  refine lv_bipush (v := nI 16) hx hb dX1_init_5 (by decide) ?_
  refine r_newa (atype := .int) (ty := .int) (N := 16) (a0 := (16, .inl z32)) F hW q48 rfl 0 rfl (fun C h => by cases h) (fun cA => rfl) (by decide) (by decide) (by decide) (Nat.le_of_ble_eq_true rfl) (Nat.le_of_ble_eq_true rfl) dX1_init_7 (fun aI H hW => ?_)
  have hW : Wd G (tys_ cI cB cL) A s H _ [(o, obj 1 [.null, .null, .null, .null, .null, .null, .null, .int (nI 0)]), (aI, arI cI 16 z32)] := hW
  refine r_finM (w' := [(o, obj 1 [.ref aI, .null, .null, .null, .null, .null, .null, .int (nI 0)]), (aI, arI cI 16 z32)]) (ty := .array .int) F hnm hW 0 0 rfl (by decide) rfl q154 rfl (by decide +kernel) rfl rfl (Nat.le_of_ble_eq_true rfl) rfl dX1_init_9 (fun H locs hW => ?_)
  refine lv_aload_n hx hb dX1_init_12 rfl (lv_at hl 0 rfl) ?_
  refine lv_bipush (v := nI 16) hx hb dX1_init_13 (by decide) ?_
  refine r_newa (atype := .int) (ty := .int) (N := 16) (a0 := (16, .inl z32)) F hW q48 rfl 0 rfl (fun C h => by cases h) (fun cA => rfl) (by decide) (by decide) (by decide) (Nat.le_of_ble_eq_true rfl) (Nat.le_of_ble_eq_true rfl) dX1_init_15 (fun aO H hW => ?_)
  have hW : Wd G (tys_ cI cB cL) A s H _ [(o, obj 1 [.ref aI, .null, .null, .null, .null, .null, .null, .int (nI 0)]), (aI, arI cI 16 z32), (aO, arI cI 16 z32)] := hW
  refine r_finM (w' := [(o, obj 1 [.ref aI, .ref aO, .null, .null, .null, .null, .null, .int (nI 0)]), (aI, arI cI 16 z32), (aO, arI cI 16 z32)]) (ty := .array .int) F hnm hW 0 1 rfl (by decide) rfl q155 rfl (by decide +kernel) rfl rfl (Nat.le_of_ble_eq_true rfl) rfl dX1_init_17 (fun H locs hW => ?_)
  refine lv_aload_n hx hb dX1_init_20 rfl (lv_at hl 0 rfl) ?_
  refine lv_bipush (v := nI 16) hx hb dX1_init_21 (by decide) ?_
  refine r_newa (atype := .int) (ty := .int) (N := 16) (a0 := (16, .inl z32)) F hW q48 rfl 0 rfl (fun C h => by cases h) (fun cA => rfl) (by decide) (by decide) (by decide) (Nat.le_of_ble_eq_true rfl) (Nat.le_of_ble_eq_true rfl) dX1_init_23 (fun aX H hW => ?_)
  have hW : Wd G (tys_ cI cB cL) A s H _ [(o, obj 1 [.ref aI, .ref aO, .null, .null, .null, .null, .null, .int (nI 0)]), (aI, arI cI 16 z32), (aO, arI cI 16 z32), (aX, arI cI 16 z32)] := hW
  refine r_finM (w' := [(o, obj 1 [.ref aI, .ref aO, .ref aX, .null, .null, .null, .null, .int (nI 0)]), (aI, arI cI 16 z32), (aO, arI cI 16 z32), (aX, arI cI 16 z32)]) (ty := .array .int) F hnm hW 0 2 rfl (by decide) rfl q156 rfl (by decide +kernel) rfl rfl (Nat.le_of_ble_eq_true rfl) rfl dX1_init_25 (fun H locs hW => ?_)
  refine lv_aload_n hx hb dX1_init_28 rfl (lv_at hl 0 rfl) ?_
  refine lv_bipush (v := nI 16) hx hb dX1_init_29 (by decide) ?_
  refine r_newa (atype := .int) (ty := .int) (N := 16) (a0 := (16, .inl z32)) F hW q48 rfl 0 rfl (fun C h => by cases h) (fun cA => rfl) (by decide) (by decide) (by decide) (Nat.le_of_ble_eq_true rfl) (Nat.le_of_ble_eq_true rfl) dX1_init_31 (fun aS H hW => ?_)
  have hW : Wd G (tys_ cI cB cL) A s H _ [(o, obj 1 [.ref aI, .ref aO, .ref aX, .null, .null, .null, .null, .int (nI 0)]), (aI, arI cI 16 z32), (aO, arI cI 16 z32), (aX, arI cI 16 z32), (aS, arI cI 16 z32)] := hW
  refine r_finM (w' := [(o, obj 1 [.ref aI, .ref aO, .ref aX, .ref aS, .null, .null, .null, .int (nI 0)]), (aI, arI cI 16 z32), (aO, arI cI 16 z32), (aX, arI cI 16 z32), (aS, arI cI 16 z32)]) (ty := .array .int) F hnm hW 0 3 rfl (by decide) rfl q157 rfl (by decide +kernel) rfl rfl (Nat.le_of_ble_eq_true rfl) rfl dX1_init_33 (fun H locs hW => ?_)
  refine lv_aload_n hx hb dX1_init_36 rfl (lv_at hl 0 rfl) ?_
  refine lv_bipush (v := nI 8) hx hb dX1_init_37 (by decide) ?_
  refine r_newa (atype := .int) (ty := .int) (N := 8) (a0 := (8, .inl z32)) F hW q48 rfl 0 rfl (fun C h => by cases h) (fun cA => rfl) (by decide) (by decide) (by decide) (Nat.le_of_ble_eq_true rfl) (Nat.le_of_ble_eq_true rfl) dX1_init_39 (fun aK H hW => ?_)
  have hW : Wd G (tys_ cI cB cL) A s H _ [(o, obj 1 [.ref aI, .ref aO, .ref aX, .ref aS, .null, .null, .null, .int (nI 0)]), (aI, arI cI 16 z32), (aO, arI cI 16 z32), (aX, arI cI 16 z32), (aS, arI cI 16 z32), (aK, arI cI 8 z32)] := hW
  refine r_finM (w' := [(o, obj 1 [.ref aI, .ref aO, .ref aX, .ref aS, .ref aK, .null, .null, .int (nI 0)]), (aI, arI cI 16 z32), (aO, arI cI 16 z32), (aX, arI cI 16 z32), (aS, arI cI 16 z32), (aK, arI cI 8 z32)]) (ty := .array .int) F hnm hW 0 4 rfl (by decide) rfl q158 rfl (by decide +kernel) rfl rfl (Nat.le_of_ble_eq_true rfl) rfl dX1_init_41 (fun H locs hW => ?_)
  refine lv_aload_n hx hb dX1_init_44 rfl (lv_at hl 0 rfl) ?_
  refine lv_bipush (v := nI 16) hx hb dX1_init_45 (by decide) ?_
  refine r_newa (atype := .int) (ty := .int) (N := 16) (a0 := (16, .inl z32)) F hW q48 rfl 0 rfl (fun C h => by cases h) (fun cA => rfl) (by decide) (by decide) (by decide) (Nat.le_of_ble_eq_true rfl) (Nat.le_of_ble_eq_true rfl) dX1_init_47 (fun aT H hW => ?_)
  have hW : Wd G (tys_ cI cB cL) A s H _ [(o, obj 1 [.ref aI, .ref aO, .ref aX, .ref aS, .ref aK, .null, .null, .int (nI 0)]), (aI, arI cI 16 z32), (aO, arI cI 16 z32), (aX, arI cI 16 z32), (aS, arI cI 16 z32), (aK, arI cI 8 z32), (aT, arI cI 16 z32)] := hW
  refine r_finM (w' := [(o, obj 1 [.ref aI, .ref aO, .ref aX, .ref aS, .ref aK, .ref aT, .null, .int (nI 0)]), (aI, arI cI 16 z32), (aO, arI cI 16 z32), (aX, arI cI 16 z32), (aS, arI cI 16 z32), (aK, arI cI 8 z32), (aT, arI cI 16 z32)]) (ty := .array .int) F hnm hW 0 5 rfl (by decide) rfl q159 rfl (by decide +kernel) rfl rfl (Nat.le_of_ble_eq_true rfl) rfl dX1_init_49 (fun H locs hW => ?_)
  refine lv_aload_n hx hb dX1_init_52 rfl (lv_at hl 0 rfl) ?_
  refine lv_bipush (v := nI 64) hx hb dX1_init_53 (by decide) ?_
  refine r_newa (atype := .int) (ty := .int) (N := 64) (a0 := (64, .inl z32)) F hW q48 rfl 0 rfl (fun C h => by cases h) (fun cA => rfl) (by decide) (by decide) (by decide) (Nat.le_of_ble_eq_true rfl) (Nat.le_of_ble_eq_true rfl) dX1_init_55 (fun aQ H hW => ?_)
  have hW : Wd G (tys_ cI cB cL) A s H _ [(o, obj 1 [.ref aI, .ref aO, .ref aX, .ref aS, .ref aK, .ref aT, .null, .int (nI 0)]), (aI, arI cI 16 z32), (aO, arI cI 16 z32), (aX, arI cI 16 z32), (aS, arI cI 16 z32), (aK, arI cI 8 z32), (aT, arI cI 16 z32), (aQ, arI cI 64 z32)] := hW
  refine r_finM (w' := [(o, obj 1 [.ref aI, .ref aO, .ref aX, .ref aS, .ref aK, .ref aT, .ref aQ, .int (nI 0)]), (aI, arI cI 16 z32), (aO, arI cI 16 z32), (aX, arI cI 16 z32), (aS, arI cI 16 z32), (aK, arI cI 8 z32), (aT, arI cI 16 z32), (aQ, arI cI 64 z32)]) (ty := .array .int) F hnm hW 0 6 rfl (by decide) rfl q160 rfl (by decide +kernel) rfl rfl (Nat.le_of_ble_eq_true rfl) rfl dX1_init_57 (fun H locs hW => ?_)
  refine W.widen (k := 7) (n := 152) (Nat.le_of_ble_eq_true rfl) (Nat.le_of_ble_eq_true rfl) ?_
  exact W.vret hx hb hr (fun t ht hU => ⟨⟨(aI, aO, aX, aS, aK, aT, aQ), rfl, trivial, by rw [ht]; exact hW.2.1, va_K.moved hU.alike hW.1, hW.2.2.1⟩, hW.2.2.2.1.F ht⟩) hW.2.2.2.1.2.2 dX1_init_60 hlocks
section CALLN
variable {p : Program} {l : Launch} {e : Env} {R : Room} {s : State} {m : MethodId} {args : Array Value} {below : List Frame} {meth : Method} {c : Code} {H : Heap} {locs : List Loc} {cells slots : Nat} {Q : State → Prop}
variable {cc bytes : ByteArray} {pc nL maxL index n mc ms : Nat} {own : String} {ret : Option FieldType} {ls : Array Slot} {rest st As : List Value} {G : va_G} {tys : List (ClassId × FieldType)} {A : Nat → Prop} {w wc wr : va_W} {b : Nat} {y : MethodName} {rm : Room}
/-- a constructor's call -/
theorem k_N {S : Type} {w' : S → va_W} (F : Fx p m c cc nL s args own meth ret) (h : Wd G tys A s H locs w) (hM : CN l y (ws_ y bytes maxL none) rm G tys (.ref b :: As) wc w' mc ms) (isC isR : List Nat) (hCn : va_nd isC = true) (hC : isC.map (fun i => w[i]?) = wc.map some) (hR : isR.map (fun i => w[i]?) = wr.map some) (hn : va_nd isR = true) (hdis : ∀ i ∈ isR, i ∉ isC)
    (hcode : Cond.code y bytes maxL none ∈ lw_all) (hini : Cond.initialized y.cls ∈ lw_all) (hlink : Cond.methodLink own index y ∈ lw_all) (hinst : Cond.instanceMethod y ∈ lw_all) (hy : y.name = "<init>") (hrc : rm.cells = mc ∧ rm.slots = ms)
    (hd : y.cls ≠ "java/lang/invoke/MethodHandle" ∧ y.cls ≠ "java/lang/invoke/VarHandle" ∧ (parseMethodDescriptor y.desc).map (fun d => d.parameters.length) = some n) (hRm : rm.frames + 1 ≤ R.frames ∧ 8 + (maxL + 11) + rm.locals ≤ R.locals)
    (hn2 : As.length = n) (hsize : ls.size = nL) (hst : st = As.reverse ++ .ref b :: rest) (hroom : (rest.map fun v => v.category).sum ≤ 8) (hdg : decode cc pc = .ok (.invokespecial index, 3)) (hf : cells + mc ≤ R.cells ∧ slots + ms ≤ R.slots)
    (kk : ∀ (u : S) (H1 : Heap) (locs1 : List Loc), Wd G tys A s H1 locs1 (wr ++ w' u) → W p l e R s m args below meth c H1 locs1 (cells + mc) (slots + ms) Q (F0 m (pc + 3) ls rest)) : W p l e R s m args below meth c H locs cells slots Q (F0 m pc ls st) := by
  subst hst
  have hts := F.1.2.2.2.2
  refine va_callv (va_runI (As := As) (rest := rest) F.1 (hM H.size) (cwI n hts (lw_meth hcode) rfl hrc.1 hrc.2 (hts _ hini) (hts _ hlink) (hts _ hinst) hy hd hRm) ⟨PB.blind, fun U hU hW => k_pre h isC hCn hC _ U hU hW⟩ rfl hn2 hsize rfl (lv_room hroom) hdg hf) h.2.2.2.1 (fun x _ z => va_free h.2.2.1 h.2.2.2.1 h.2.2.2.2 isC hC x z) (va_free h.2.2.1 h.2.2.2.1 h.2.2.2.2 isC hC) (fun u t H1 locs1 ht hvm _ hB hz hk hS => ?_)
  obtain ⟨hP1, -, hD1⟩ := hB
  rw [ht] at hP1
  obtain ⟨hP, hD⟩ := va_join (wr := wr) (w1 := w' u) h.2.1 h.2.2.1 isC isR hC hR hn hdis hk (va_free h.2.2.1 h.2.2.2.1 h.2.2.2.2 isC hC) hP1 hD1
  exact kk u H1 locs1 ⟨h.1, hP, hD, hS, h.2.2.2.2⟩
end CALLN
end
section
set_option maxRecDepth 100000
/-! bits of ints (a family of kit/laws/BITS) and of longs; the two words of a long -/
def bt (x : Int32) (i : Nat) : Bool := x.toBitVec.getLsbD i
theorem b_ext {x y : Int32} (h : ∀ i, i < 32 → bt x i = bt y i) : x = y := Int32.toBitVec_inj.mp (BitVec.eq_of_getLsbD_eq (fun i hi => h i hi))
theorem b_or (x y : Int32) (i : Nat) : bt (x ||| y) i = (bt x i || bt y i) := by unfold bt; rw [Int32.toBitVec_or, BitVec.getLsbD_or]
theorem b_and (x y : Int32) (i : Nat) : bt (x &&& y) i = (bt x i && bt y i) := by unfold bt; rw [Int32.toBitVec_and, BitVec.getLsbD_and]
theorem b_xor (x y : Int32) (i : Nat) : bt (x ^^^ y) i = (bt x i ^^ bt y i) := by unfold bt; rw [Int32.toBitVec_xor, BitVec.getLsbD_xor]
theorem b_big {x : Int32} {i : Nat} (h : 32 ≤ i) : bt x i = false := BitVec.getLsbD_of_ge _ _ h
theorem b_255 (i : Nat) : bt 255 i = decide (i < 8) := by
  rcases Nat.lt_or_ge i 32 with h | h
  · exact (by decide +kernel : ∀ i, i < 32 → bt 255 i = decide (i < 8)) i h
  · rw [b_big h, decide_eq_false (by omega)]
theorem s_l : ∀ n, n < 32 → ((nI n &&& 31).toBitVec.smod 32).toNat = n := by decide +kernel
theorem s_u : ∀ n, n < 32 → (((nI n).toUInt32 &&& Int32.toUInt32 31).toBitVec % 32).toNat = n := by decide +kernel
theorem b_shl (n : Nat) (hn : n < 32) (x : Int32) {i : Nat} (hi : i < 32) : bt (x <<< (nI n &&& 31)) i = (decide (n ≤ i) && bt x (i - n)) := by
  unfold bt
  rw [Int32.toBitVec_shiftLeft]
  show (x.toBitVec <<< ((nI n &&& 31).toBitVec.smod 32).toNat).getLsbD i = _
  rw [s_l n hn, BitVec.getLsbD_shiftLeft]
  rcases Nat.lt_or_ge i n with h | h
  · simp [h, Nat.not_le.mpr h]
  · simp [hi, h, Nat.not_lt.mpr h]
theorem b_ushr (n : Nat) (hn : n < 32) (x : Int32) (i : Nat) : bt ((x.toUInt32 >>> ((nI n).toUInt32 &&& Int32.toUInt32 31)).toInt32) i = bt x (n + i) := by
  show (x.toUInt32 >>> ((nI n).toUInt32 &&& Int32.toUInt32 31)).toBitVec.getLsbD i = x.toUInt32.toBitVec.getLsbD (n + i)
  rw [UInt32.toBitVec_shiftRight]
  show (x.toUInt32.toBitVec >>> (((nI n).toUInt32 &&& Int32.toUInt32 31).toBitVec % 32).toNat).getLsbD i = _
  rw [s_u n hn, BitVec.getLsbD_ushiftRight]
theorem b_sshr (n : Nat) (hn : n < 32) (x : Int32) {i : Nat} (hi : i < 32) : bt (x >>> (nI n &&& 31)) i = if n + i < 32 then bt x (n + i) else bt x 31 := by
  unfold bt
  rw [Int32.toBitVec_shiftRight]
  show (x.toBitVec.sshiftRight ((nI n &&& 31).toBitVec.smod 32).toNat).getLsbD i = _
  rw [s_l n hn, BitVec.getLsbD_sshiftRight, BitVec.msb_eq_getLsbD_last]
  simp [hi]
theorem bp_b (x : Int32) : x.toInt8.toInt32 &&& 255 = x &&& 255 := by
  apply Int32.toBitVec_inj.mp
  rw [Int32.toBitVec_and, Int32.toBitVec_and, Int8.toBitVec_toInt32, Int32.toBitVec_toInt8]
  apply BitVec.eq_of_getLsbD_eq
  intro i hi
  rw [BitVec.getLsbD_and, BitVec.getLsbD_and]
  have hm : ∀ i < 32, 8 ≤ i → (255 : Int32).toBitVec.getLsbD i = false := by decide
  rcases Nat.lt_or_ge i 8 with z | z
  · rw [BitVec.getLsbD_signExtend, BitVec.getLsbD_signExtend, if_pos z, if_pos hi]
    simp only [z, hi, decide_true, Bool.true_and]
  · rw [hm i hi z]; simp

def bl (x : Int64) (i : Nat) : Bool := x.toBitVec.getLsbD i
theorem bl_or (x y : Int64) (i : Nat) : bl (x ||| y) i = (bl x i || bl y i) := by unfold bl; rw [Int64.toBitVec_or, BitVec.getLsbD_or]
theorem bl_and (x y : Int64) (i : Nat) : bl (x &&& y) i = (bl x i && bl y i) := by unfold bl; rw [Int64.toBitVec_and, BitVec.getLsbD_and]
theorem bl_xor (x y : Int64) (i : Nat) : bl (x ^^^ y) i = (bl x i ^^ bl y i) := by unfold bl; rw [Int64.toBitVec_xor, BitVec.getLsbD_xor]
theorem s_l64 : ∀ n, n < 64 → (((nI n).toInt64 &&& 63).toBitVec.smod 64).toNat = n := by decide +kernel
theorem s_u64 : ∀ n, n < 64 → (((nI n).toInt64.toUInt64 &&& Int64.toUInt64 63).toBitVec % 64).toNat = n := by decide +kernel
theorem bl_shl (n : Nat) (hn : n < 64) (x : Int64) {i : Nat} (hi : i < 64) : bl (x <<< ((nI n).toInt64 &&& 63)) i = (decide (n ≤ i) && bl x (i - n)) := by
  unfold bl
  rw [Int64.toBitVec_shiftLeft]
  show (x.toBitVec <<< (((nI n).toInt64 &&& 63).toBitVec.smod 64).toNat).getLsbD i = _
  rw [s_l64 n hn, BitVec.getLsbD_shiftLeft]
  rcases Nat.lt_or_ge i n with h | h
  · simp [h, Nat.not_le.mpr h]
  · simp [hi, h, Nat.not_lt.mpr h]
theorem ush_bv (n : Nat) (hn : n < 64) (x : Int64) : (ushL x n).toBitVec = x.toBitVec >>> n := by
  show (x.toUInt64 >>> ((nI n).toInt64.toUInt64 &&& Int64.toUInt64 63)).toBitVec = x.toUInt64.toBitVec >>> n
  rw [UInt64.toBitVec_shiftRight]
  show x.toUInt64.toBitVec >>> (((nI n).toInt64.toUInt64 &&& Int64.toUInt64 63).toBitVec % 64).toNat = _
  rw [s_u64 n hn]
theorem bl_ush (n : Nat) (hn : n < 64) (x : Int64) (i : Nat) : bl (ushL x n) i = bl x (n + i) := by
  unfold bl
  rw [ush_bv n hn, BitVec.getLsbD_ushiftRight]
theorem bt_l2i (x : Int64) {i : Nat} (hi : i < 32) : bt x.toInt32 i = bl x i := by
  unfold bt bl
  rw [Int64.toBitVec_toInt32, BitVec.getLsbD_signExtend, if_pos (show i < 64 by omega)]
  simp [hi]
theorem bl_i2l (x : Int32) {i : Nat} (hi : i < 32) : bl x.toInt64 i = bt x i := by
  unfold bt bl
  rw [Int32.toBitVec_toInt64, BitVec.getLsbD_signExtend, if_pos hi]
  simp [show i < 64 by omega]
/-- word j (0: the lower, 1: the upper one) of a long -/
def pt (j : Nat) (x : Int64) : Int32 := (ushL x (32 * j)).toInt32
theorem bt_pt {j i : Nat} (hj : j < 2) (hi : i < 32) (x : Int64) : bt (pt j x) i = bl x (32 * j + i) := by
  unfold pt
  rw [bt_l2i _ hi, bl_ush _ (by omega)]
theorem pt_tn {j : Nat} (hj : j < 2) (x : Int64) : (pt j x).toBitVec.toNat = x.toBitVec.toNat / 2 ^ (32 * j) % 2 ^ 32 := by
  unfold pt
  rw [Int64.toBitVec_toInt32, BitVec.signExtend_eq_setWidth_of_le _ (by decide), BitVec.toNat_setWidth, ush_bv _ (by omega), BitVec.toNat_ushiftRight, Nat.shiftRight_eq_div_pow]
theorem pt_xor {j : Nat} (hj : j < 2) (x y : Int64) : pt j (x ^^^ y) = pt j x ^^^ pt j y := by
  refine b_ext (fun i hi => ?_)
  rw [b_xor, bt_pt hj hi, bt_pt hj hi, bt_pt hj hi, bl_xor]
theorem m_32 : ∀ i, i < 64 → bl 4294967295 i = decide (i < 32) := by decide +kernel
theorem pt_both0 (h l : Int32) : pt 0 (bothL h l) = l := by
  refine b_ext (fun i hi => ?_)
  rw [bt_pt (by decide) hi]
  unfold bothL
  rw [bl_or, bl_shl 32 (by decide) _ (by omega), bl_and, m_32 _ (by omega), show 32 * 0 + i = i by omega, bl_i2l _ hi, decide_eq_false (show ¬ 32 ≤ i by omega), decide_eq_true hi]
  simp
theorem pt_both1 (h l : Int32) : pt 1 (bothL h l) = h := by
  refine b_ext (fun i hi => ?_)
  rw [bt_pt (by decide) hi]
  unfold bothL
  rw [bl_or, bl_shl 32 (by decide) _ (by omega), bl_and, m_32 _ (by omega), show 32 * 1 + i - 32 = i by omega, bl_i2l _ hi, decide_eq_true (show 32 ≤ 32 * 1 + i by omega), decide_eq_false (show ¬ 32 * 1 + i < 32 by omega)]
  simp
theorem pt_hl0 (x y : Int64) : pt 0 (hlL x y) = pt 1 x := by
  refine b_ext (fun i hi => ?_)
  rw [bt_pt (by decide) hi, bt_pt (by decide) hi]
  unfold hlL
  rw [bl_or, bl_shl 32 (by decide) _ (by omega), bl_ush _ (by decide), decide_eq_false (show ¬ 32 ≤ 32 * 0 + i by omega), show 32 + (32 * 0 + i) = 32 * 1 + i by omega]
  simp
theorem bl_big {x : Int64} {i : Nat} (h : 64 ≤ i) : bl x i = false := BitVec.getLsbD_of_ge _ _ h
theorem pt_hl1 (x y : Int64) : pt 1 (hlL x y) = pt 0 y := by
  refine b_ext (fun i hi => ?_)
  rw [bt_pt (by decide) hi, bt_pt (by decide) hi]
  unfold hlL
  rw [bl_or, bl_shl 32 (by decide) _ (by omega), bl_ush _ (by decide), decide_eq_true (show 32 ≤ 32 * 1 + i by omega), bl_big (show 64 ≤ 32 + (32 * 1 + i) by omega), show 32 * 1 + i - 32 = 32 * 0 + i by omega]
  simp
theorem lowB_bit : ∀ k, k < 32 → ∀ j, j < 2 → ∀ i, i < 32 → bl (lowB k) (32 * j + i) = decide (i < k) := by decide +kernel
theorem m_1 : ∀ i, i < 64 → bl (-1) i = true := by decide +kernel
theorem pt_turned {j k : Nat} (hj : j < 2) (h0 : 0 < k) (hk : k < 32) (x : Int64) : pt j (turnedL x k) = turnI (pt j x) k := by
  refine b_ext (fun i hi => ?_)
  rw [bt_pt hj hi]
  show bl (((x <<< ((nI k).toInt64 &&& 63)) &&& (lowB k ^^^ (-1))) ||| (ushL x (32 - k) &&& lowB k)) (32 * j + i) = _
  unfold turnI
  rw [bl_or, bl_and, bl_and, bl_xor, lowB_bit k hk j hj i hi, m_1 _ (by omega), bl_shl k (by omega) _ (by omega), bl_ush _ (by omega), b_or, b_shl k hk _ hi, b_ushr _ (by omega)]
  rcases Nat.lt_or_ge i k with h | h
  · rw [decide_eq_true h, decide_eq_false (show ¬ k ≤ i by omega), bt_pt hj (show 32 - k + i < 32 by omega), show 32 - k + (32 * j + i) = 32 * j + (32 - k + i) by omega]
    simp
  · rw [decide_eq_false (show ¬ i < k by omega), decide_eq_true h, decide_eq_true (show k ≤ 32 * j + i by omega), b_big (show 32 ≤ 32 - k + i by omega), bt_pt hj (show i - k < 32 by omega), show 32 * j + i - k = 32 * j + (i - k) by omega]
    simp
-- sums
theorem m_lo : ∀ i, i < 64 → bl 9223372034707292159 i = !(bl (-9223372034707292160) i) := by decide +kernel
theorem bl_plus (x y : Int64) {i : Nat} (hi : i < 64) : bl (plusL x y) i = (bl x i ^^ (bl y i ^^ BitVec.carry i (x &&& 9223372034707292159).toBitVec (y &&& 9223372034707292159).toBitVec false)) := by
  have hs : bl ((x &&& 9223372034707292159) + (y &&& 9223372034707292159)) i = (bl (x &&& 9223372034707292159) i ^^ (bl (y &&& 9223372034707292159) i ^^ BitVec.carry i (x &&& 9223372034707292159).toBitVec (y &&& 9223372034707292159).toBitVec false)) := by
    unfold bl
    rw [Int64.toBitVec_add, BitVec.getLsbD_add hi]
  unfold plusL
  rw [bl_xor, hs, bl_and, bl_and, bl_and, bl_xor, m_lo i hi]
  cases bl x i <;> cases bl y i <;> cases bl (-9223372034707292160) i <;> cases BitVec.carry i (x &&& 9223372034707292159).toBitVec (y &&& 9223372034707292159).toBitVec false <;> rfl
theorem lo_tn (x : Int64) : (x &&& 9223372034707292159).toBitVec.toNat = x.toBitVec.toNat &&& 9223372034707292159 := by
  rw [Int64.toBitVec_and, BitVec.toNat_and]
  rfl
theorem lo_mod (X : Nat) : (X &&& 9223372034707292159) % 2 ^ 32 = X % 2 ^ 31 := by
  rw [Nat.and_mod_two_pow, show 9223372034707292159 % 2 ^ 32 = 2 ^ 31 - 1 by decide, Nat.and_two_pow_sub_one_eq_mod]
  omega
theorem lo_div (X : Nat) : (X &&& 9223372034707292159) / 2 ^ 32 = X / 2 ^ 32 % 2 ^ 31 := by
  rw [Nat.and_div_two_pow, show 9223372034707292159 / 2 ^ 32 = 2 ^ 31 - 1 by decide, Nat.and_two_pow_sub_one_eq_mod]
theorem lo_c0 (X : Nat) {i : Nat} (hi : i < 32) : (X &&& 9223372034707292159) % 2 ^ i = X % 2 ^ i := by
  rw [← Nat.mod_mod_of_dvd (X &&& 9223372034707292159) (Nat.pow_dvd_pow 2 (show i ≤ 32 by omega)), lo_mod, Nat.mod_mod_of_dvd _ (Nat.pow_dvd_pow 2 (show i ≤ 31 by omega))]
theorem lo_c1 (X : Nat) {i : Nat} (hi : i < 32) : (X &&& 9223372034707292159) % 2 ^ (32 + i) = X % 2 ^ 31 + 2 ^ 32 * (X / 2 ^ 32 % 2 ^ i) := by
  rw [Nat.pow_add, Nat.mod_mul, lo_mod, lo_div, Nat.mod_mod_of_dvd _ (Nat.pow_dvd_pow 2 (show i ≤ 31 by omega))]
theorem ca_0 (x y : Int64) {i : Nat} (hi : i < 32) : BitVec.carry i (x &&& 9223372034707292159).toBitVec (y &&& 9223372034707292159).toBitVec false = BitVec.carry i (pt 0 x).toBitVec (pt 0 y).toBitVec false := by
  unfold BitVec.carry
  rw [lo_tn, lo_tn, lo_c0 _ hi, lo_c0 _ hi, pt_tn (by decide), pt_tn (by decide), Nat.mod_mod_of_dvd _ (Nat.pow_dvd_pow 2 (show i ≤ 32 by omega)), Nat.mod_mod_of_dvd _ (Nat.pow_dvd_pow 2 (show i ≤ 32 by omega))]
  simp
theorem ca_1 (x y : Int64) {i : Nat} (hi : i < 32) : BitVec.carry (32 + i) (x &&& 9223372034707292159).toBitVec (y &&& 9223372034707292159).toBitVec false = BitVec.carry i (pt 1 x).toBitVec (pt 1 y).toBitVec false := by
  unfold BitVec.carry
  rw [lo_tn, lo_tn, lo_c1 _ hi, lo_c1 _ hi, pt_tn (by decide), pt_tn (by decide), Nat.mod_mod_of_dvd _ (Nat.pow_dvd_pow 2 (show i ≤ 32 by omega)), Nat.mod_mod_of_dvd _ (Nat.pow_dvd_pow 2 (show i ≤ 32 by omega))]
  refine decide_eq_decide.mpr ?_
  rw [Nat.pow_add, show 32 * 1 = 32 from rfl]
  generalize x.toBitVec.toNat / 2 ^ 32 % 2 ^ i = a
  generalize y.toBitVec.toNat / 2 ^ 32 % 2 ^ i = b
  generalize 2 ^ i = c
  have h1 : x.toBitVec.toNat % 2 ^ 31 < 2 ^ 31 := Nat.mod_lt _ (by decide)
  have h2 : y.toBitVec.toNat % 2 ^ 31 < 2 ^ 31 := Nat.mod_lt _ (by decide)
  generalize x.toBitVec.toNat % 2 ^ 31 = u at h1 ⊢
  generalize y.toBitVec.toNat % 2 ^ 31 = v at h2 ⊢
  simp only [Bool.toNat_false]
  omega
theorem pt_plus {j : Nat} (hj : j < 2) (x y : Int64) : pt j (plusL x y) = pt j x + pt j y := by
  refine b_ext (fun i hi => ?_)
  have hr : bt (pt j x + pt j y) i = (bt (pt j x) i ^^ (bt (pt j y) i ^^ BitVec.carry i (pt j x).toBitVec (pt j y).toBitVec false)) := by
    unfold bt
    rw [Int32.toBitVec_add, BitVec.getLsbD_add hi]
  rw [bt_pt hj hi, hr, bt_pt hj hi, bt_pt hj hi, bl_plus _ _ (by omega)]
  rcases (show j = 0 ∨ j = 1 by omega) with rfl | rfl
  · rw [show 32 * 0 + i = i by omega, ca_0 x y hi]
  · rw [show 32 * 1 + i = 32 + i by omega, ca_1 x y hi]
end
section
set_option maxRecDepth 100000
/-! the rows of longs as columns of words -/
/-- column k of the rows: its words by their row -/
def cW (f : Nat → Int64) (k : Nat) : Nat → Int32 := fun q => wordL f q k
theorem word_pt (f : Nat → Int64) (r k : Nat) : wordL f r k = pt (k % 2) (f (2 * r + k / 2)) := rfl
theorem uL_s {f : Nat → Int64} {k : Nat} {x : Int64} : vp_updL f k x k = x := pk_uLs
theorem uL_n {f : Nat → Int64} {k j : Nat} {x : Int64} (h : j ≠ k) : vp_updL f k x j = f j := pk_uLn h
-- cross
def crV (r s t b : Nat) (V : Nat → Int32) : Nat → Int32 := fun q => if q = r then V r ^^^ turnI (V s + V t) b else V q
theorem cross_at {r s t b : Nat} (hs : s ≠ r) (ht : t ≠ r) (f : Nat → Int64) (q : Nat) {j : Nat} (hj : j < 2) : crossF r s t b f (2 * q + j) = if q = r then f (2 * r + j) ^^^ turnedL (plusL (f (2 * s + j)) (f (2 * t + j))) b else f (2 * q + j) := by
  have h1 : ∀ q, crossK r s t b 0 f (2 * q + 1) = f (2 * q + 1) := fun q => uL_n (by omega)
  show crossK r s t b 1 (crossK r s t b 0 f) (2 * q + j) = _
  rcases (show j = 0 ∨ j = 1 by omega) with rfl | rfl
  · have e : crossK r s t b 1 (crossK r s t b 0 f) (2 * q + 0) = crossK r s t b 0 f (2 * q + 0) := uL_n (by omega)
    rw [e]
    by_cases hq : q = r
    · subst hq
      rw [if_pos rfl]
      exact uL_s
    · rw [if_neg hq]
      exact uL_n (by omega)
  · by_cases hq : q = r
    · subst hq
      rw [if_pos rfl]
      have e : crossK q s t b 1 (crossK q s t b 0 f) (2 * q + 1) = crossK q s t b 0 f (2 * q + 1) ^^^ turnedL (plusL (crossK q s t b 0 f (2 * s + 1)) (crossK q s t b 0 f (2 * t + 1))) b := uL_s
      rw [e, h1, h1, h1]
    · rw [if_neg hq]
      have e : crossK r s t b 1 (crossK r s t b 0 f) (2 * q + 1) = crossK r s t b 0 f (2 * q + 1) := uL_n (by omega)
      rw [e, h1]
theorem col_cross {r s t b k : Nat} (hs : s ≠ r) (ht : t ≠ r) (h0 : 0 < b) (hb : b < 32) (hk : k < 4) (f : Nat → Int64) : cW (crossF r s t b f) k = crV r s t b (cW f k) := by
  funext q
  show wordL (crossF r s t b f) q k = if q = r then wordL f r k ^^^ turnI (wordL f s k + wordL f t k) b else wordL f q k
  rw [word_pt, cross_at hs ht f q (show k / 2 < 2 by omega)]
  by_cases hq : q = r
  · rw [if_pos hq, if_pos hq, pt_xor (by omega), pt_turned (by omega) h0 hb, pt_plus (by omega)]
    rfl
  · rw [if_neg hq, if_neg hq]
    rfl
def SQ (V : Nat → Int32) : Nat → Int32 := crV 0 3 2 18 (crV 3 2 1 13 (crV 2 1 0 9 (crV 1 0 3 7 V)))
theorem col_crossAll {k : Nat} (hk : k < 4) (f : Nat → Int64) : cW (crossAllF f) k = SQ (cW f k) := by
  unfold crossAllF SQ
  rw [col_cross (by decide) (by decide) (by decide) (by decide) hk, col_cross (by decide) (by decide) (by decide) (by decide) hk, col_cross (by decide) (by decide) (by decide) (by decide) hk, col_cross (by decide) (by decide) (by decide) (by decide) hk]
-- quarter
def quV (r s t b : Nat) (V : Nat → Int32) : Nat → Int32 := fun q => if q = t then turnI (V t ^^^ (V r + V s)) b else if q = r then V r + V s else V q
theorem quK_at {r s t b : Nat} (ht : t ≠ r) (f : Nat → Int64) (k n : Nat) : quK r s t b k f n = if n = 2 * t + k then turnedL (f (2 * t + k) ^^^ plusL (f (2 * r + k)) (f (2 * s + k))) b else if n = 2 * r + k then plusL (f (2 * r + k)) (f (2 * s + k)) else f n := by
  have e1 : quA r s k f (2 * t + k) = f (2 * t + k) := uL_n (by omega)
  have e2 : quA r s k f (2 * r + k) = plusL (f (2 * r + k)) (f (2 * s + k)) := uL_s
  show vp_updL (quA r s k f) (2 * t + k) (turnedL (quA r s k f (2 * t + k) ^^^ quA r s k f (2 * r + k)) b) n = _
  rw [e1, e2]
  rfl
theorem quarter_at {r s t b : Nat} (ht : t ≠ r) (f : Nat → Int64) (q : Nat) {j : Nat} (hj : j < 2) : quarterF r s t b f (2 * q + j) = if q = t then turnedL (f (2 * t + j) ^^^ plusL (f (2 * r + j)) (f (2 * s + j))) b else if q = r then plusL (f (2 * r + j)) (f (2 * s + j)) else f (2 * q + j) := by
  have h1 : ∀ q, quK r s t b 0 f (2 * q + 1) = f (2 * q + 1) := fun q => by rw [quK_at ht, if_neg (by omega), if_neg (by omega)]
  show quK r s t b 1 (quK r s t b 0 f) (2 * q + j) = _
  rcases (show j = 0 ∨ j = 1 by omega) with rfl | rfl
  · rw [quK_at ht _ 1, if_neg (by omega), if_neg (by omega), quK_at ht _ 0]
    by_cases hq : q = t
    · rw [if_pos (by omega), if_pos hq]
    · rw [if_neg (by omega), if_neg hq]
      by_cases hr : q = r
      · rw [if_pos (by omega), if_pos hr]
      · rw [if_neg (by omega), if_neg hr]
  · rw [quK_at ht _ 1, h1, h1, h1, h1]
    by_cases hq : q = t
    · rw [if_pos (by omega), if_pos hq]
    · rw [if_neg (by omega), if_neg hq]
      by_cases hr : q = r
      · rw [if_pos (by omega), if_pos hr]
      · rw [if_neg (by omega), if_neg hr]
theorem col_quarter {r s t b k : Nat} (ht : t ≠ r) (h0 : 0 < b) (hb : b < 32) (hk : k < 4) (f : Nat → Int64) : cW (quarterF r s t b f) k = quV r s t b (cW f k) := by
  funext q
  show wordL (quarterF r s t b f) q k = if q = t then turnI (wordL f t k ^^^ (wordL f r k + wordL f s k)) b else if q = r then wordL f r k + wordL f s k else wordL f q k
  rw [word_pt, quarter_at ht f q (show k / 2 < 2 by omega)]
  by_cases hq : q = t
  · rw [if_pos hq, if_pos hq, pt_turned (by omega) h0 hb, pt_xor (by omega), pt_plus (by omega)]
    rfl
  · rw [if_neg hq, if_neg hq]
    by_cases hr : q = r
    · rw [if_pos hr, if_pos hr, pt_plus (by omega)]
      rfl
    · rw [if_neg hr, if_neg hr]
      rfl
def CQ (V : Nat → Int32) : Nat → Int32 := quV 2 3 1 7 (quV 0 1 3 8 (quV 2 3 1 12 (quV 0 1 3 16 V)))
theorem col_quarterAll {k : Nat} (hk : k < 4) (f : Nat → Int64) : cW (quarterAllF f) k = CQ (cW f k) := by
  unfold quarterAllF CQ
  rw [col_quarter (by decide) (by decide) (by decide) hk, col_quarter (by decide) (by decide) (by decide) hk, col_quarter (by decide) (by decide) (by decide) hk, col_quarter (by decide) (by decide) (by decide) hk]
-- two longs of one row
theorem st2_at (r : Nat) (u v : Int64) (f : Nat → Int64) (q : Nat) {j : Nat} (hj : j < 2) : st2 r u v f (2 * q + j) = if q = r then (if j = 0 then u else v) else f (2 * q + j) := by
  unfold st2
  by_cases hq : q = r
  · subst hq
    rw [if_pos rfl]
    rcases (show j = 0 ∨ j = 1 by omega) with rfl | rfl
    · rw [if_pos rfl, uL_n (by omega)]
      exact uL_s
    · rw [if_neg (by decide)]
      exact uL_s
  · rw [if_neg hq, uL_n (by omega), uL_n (by omega)]
theorem word_st2 (r : Nat) (u v : Int64) (f : Nat → Int64) (q : Nat) {k : Nat} (hk : k < 4) : wordL (st2 r u v f) q k = if q = r then pt (k % 2) (if k / 2 = 0 then u else v) else wordL f q k := by
  rw [word_pt, st2_at r u v f q (show k / 2 < 2 by omega)]
  by_cases hq : q = r
  · rw [if_pos hq, if_pos hq]
  · rw [if_neg hq, if_neg hq]
    rfl
def sel (k : Nat) (a b c d : Int32) : Int32 := if k = 0 then a else if k = 1 then b else if k = 2 then c else d
theorem word_lay (r : Nat) (a b c d : Int32) (f : Nat → Int64) (q : Nat) {k : Nat} (hk : k < 4) : wordL (layF r a b c d f) q k = if q = r then sel k a b c d else wordL f q k := by
  unfold layF
  rw [word_st2 r _ _ f q hk]
  by_cases hq : q = r
  · rw [if_pos hq, if_pos hq]
    rcases (show k = 0 ∨ k = 1 ∨ k = 2 ∨ k = 3 by omega) with rfl | rfl | rfl | rfl
    · exact pt_both0 b a
    · exact pt_both1 b a
    · exact pt_both0 d c
    · exact pt_both1 d c
  · rw [if_neg hq, if_neg hq]
theorem sw2_1 (z : Int64 × Int64) : sw2 1 z = z := if_pos (by decide)
theorem sw2_2 (z : Int64 × Int64) : sw2 2 z = (z.2, z.1) := if_neg (by decide)
theorem sw2_3 (z : Int64 × Int64) : sw2 3 z = (z.2, z.1) := if_neg (by decide)
theorem sw1_1 (z : Int64 × Int64) : sw1 1 z = (hlL z.1 z.2, hlL z.2 z.1) := if_neg (by decide)
theorem sw1_2 (z : Int64 × Int64) : sw1 2 z = z := if_pos (by decide)
theorem sw1_3 (z : Int64 × Int64) : sw1 3 z = (hlL z.1 z.2, hlL z.2 z.1) := if_neg (by decide)
theorem word_shift {m : Nat} (hm : m = 1 ∨ m = 2 ∨ m = 3) (r : Nat) (f : Nat → Int64) (q : Nat) {k : Nat} (hk : k < 4) : wordL (shiftF r m f) q k = if q = r then wordL f r ((k + m) % 4) else wordL f q k := by
  unfold shiftF
  rw [word_st2 r _ _ f q hk]
  by_cases hq : q = r
  · rw [if_pos hq, if_pos hq]
    unfold shP
    rcases hm with rfl | rfl | rfl
    · rw [sw2_1, sw1_1]
      rcases (show k = 0 ∨ k = 1 ∨ k = 2 ∨ k = 3 by omega) with rfl | rfl | rfl | rfl
      · exact pt_hl0 _ _
      · exact pt_hl1 _ _
      · exact pt_hl0 _ _
      · exact pt_hl1 _ _
    · rw [sw2_2, sw1_2]
      rcases (show k = 0 ∨ k = 1 ∨ k = 2 ∨ k = 3 by omega) with rfl | rfl | rfl | rfl <;> rfl
    · rw [sw2_3, sw1_3]
      rcases (show k = 0 ∨ k = 1 ∨ k = 2 ∨ k = 3 by omega) with rfl | rfl | rfl | rfl
      · exact pt_hl0 _ _
      · exact pt_hl1 _ _
      · exact pt_hl0 _ _
      · exact pt_hl1 _ _
  · rw [if_neg hq, if_neg hq]
theorem changeK_at {r s : Nat} (hs : s ≠ r) (f : Nat → Int64) (k n : Nat) : changeK r s k f n = if n = 2 * s + k then f (2 * r + k) else if n = 2 * r + k then f (2 * s + k) else f n := rfl
theorem change_at {r s : Nat} (hs : s ≠ r) (f : Nat → Int64) (q : Nat) {j : Nat} (hj : j < 2) : changeF r s f (2 * q + j) = if q = s then f (2 * r + j) else if q = r then f (2 * s + j) else f (2 * q + j) := by
  have h1 : ∀ q, changeK r s 0 f (2 * q + 1) = f (2 * q + 1) := fun q => by rw [changeK_at hs, if_neg (by omega), if_neg (by omega)]
  show changeK r s 1 (changeK r s 0 f) (2 * q + j) = _
  rcases (show j = 0 ∨ j = 1 by omega) with rfl | rfl
  · rw [changeK_at hs _ 1, if_neg (by omega), if_neg (by omega), changeK_at hs _ 0]
    by_cases hq : q = s
    · rw [if_pos (by omega), if_pos hq]
    · rw [if_neg (by omega), if_neg hq]
      by_cases hr : q = r
      · rw [if_pos (by omega), if_pos hr]
      · rw [if_neg (by omega), if_neg hr]
  · rw [changeK_at hs _ 1, h1, h1, h1]
    by_cases hq : q = s
    · rw [if_pos (by omega), if_pos hq]
    · rw [if_neg (by omega), if_neg hq]
      by_cases hr : q = r
      · rw [if_pos (by omega), if_pos hr]
      · rw [if_neg (by omega), if_neg hr]
theorem word_change {r s : Nat} (hs : s ≠ r) (f : Nat → Int64) (q : Nat) {k : Nat} (hk : k < 4) : wordL (changeF r s f) q k = if q = s then wordL f r k else if q = r then wordL f s k else wordL f q k := by
  rw [word_pt, change_at hs f q (show k / 2 < 2 by omega)]
  by_cases hq : q = s
  · rw [if_pos hq, if_pos hq]
    rfl
  · rw [if_neg hq, if_neg hq]
    by_cases hr : q = r
    · rw [if_pos hr, if_pos hr]
      rfl
    · rw [if_neg hr, if_neg hr]
      rfl
theorem word_across (f : Nat → Int64) {k : Nat} (hk : k < 4) : wordL (acrossF f) 0 k = wordL f 0 k ∧ wordL (acrossF f) 1 k = wordL f 3 ((k + 1) % 4) ∧ wordL (acrossF f) 2 k = wordL f 2 ((k + 2) % 4) ∧ wordL (acrossF f) 3 k = wordL f 1 ((k + 3) % 4) := by
  unfold acrossF
  refine ⟨?_, ?_, ?_, ?_⟩
  · rw [word_change (by decide) _ _ hk, if_neg (by decide), if_neg (by decide), word_shift (by decide) _ _ _ hk, if_neg (by decide), word_shift (by decide) _ _ _ hk, if_neg (by decide), word_shift (by decide) _ _ _ hk, if_neg (by decide)]
  · rw [word_change (by decide) _ _ hk, if_neg (by decide), if_pos rfl, word_shift (by decide) _ _ _ hk, if_pos rfl, word_shift (by decide) _ _ _ (by omega), if_neg (by decide), word_shift (by decide) _ _ _ (by omega), if_neg (by decide)]
  · rw [word_change (by decide) _ _ hk, if_neg (by decide), if_neg (by decide), word_shift (by decide) _ _ _ hk, if_neg (by decide), word_shift (by decide) _ _ _ hk, if_pos rfl, word_shift (by decide) _ _ _ (by omega), if_neg (by decide)]
  · rw [word_change (by decide) _ _ hk, if_pos rfl, word_shift (by decide) _ _ _ hk, if_neg (by decide), word_shift (by decide) _ _ _ hk, if_neg (by decide), word_shift (by decide) _ _ _ hk, if_pos rfl]
end
section
set_option maxRecDepth 100000
/-! the reference's quarters as the same columns; the rounds; what each call answers -/
theorem u_s {f : Nat → Int32} {k : Nat} {x : Int32} : upd f k x k = x := pk_us
theorem u_n {f : Nat → Int32} {k j : Nat} {x : Int32} (h : j ≠ k) : upd f k x j = f j := pk_un h
def Cg (K : (Nat → Int32) → Nat → Int32) : Prop := ∀ V V' : Nat → Int32, (∀ q, q < 4 → V q = V' q) → ∀ q, q < 4 → K V q = K V' q
theorem crV_cg {r s t b : Nat} (hr : r < 4) (hs : s < 4) (ht : t < 4) : Cg (crV r s t b) := by
  intro V V' h q hq
  show (if q = r then V r ^^^ turnI (V s + V t) b else V q) = if q = r then V' r ^^^ turnI (V' s + V' t) b else V' q
  rw [h r hr, h s hs, h t ht, h q hq]
theorem quV_cg {r s t b : Nat} (hr : r < 4) (hs : s < 4) (ht : t < 4) : Cg (quV r s t b) := by
  intro V V' h q hq
  show (if q = t then turnI (V t ^^^ (V r + V s)) b else if q = r then V r + V s else V q) = if q = t then turnI (V' t ^^^ (V' r + V' s)) b else if q = r then V' r + V' s else V' q
  rw [h r hr, h s hs, h t ht, h q hq]
theorem Cg.comp {K L : (Nat → Int32) → Nat → Int32} (hK : Cg K) (hL : Cg L) : Cg (fun V => K (L V)) := fun V V' h => hK _ _ (hL V V' h)
theorem SQ_cg : Cg SQ := (crV_cg (r := 0) (s := 3) (t := 2) (b := 18) (by decide) (by decide) (by decide)).comp ((crV_cg (r := 3) (s := 2) (t := 1) (b := 13) (by decide) (by decide) (by decide)).comp ((crV_cg (r := 2) (s := 1) (t := 0) (b := 9) (by decide) (by decide) (by decide)).comp (crV_cg (r := 1) (s := 0) (t := 3) (b := 7) (by decide) (by decide) (by decide))))
theorem CQ_cg : Cg CQ := (quV_cg (r := 2) (s := 3) (t := 1) (b := 7) (by decide) (by decide) (by decide)).comp ((quV_cg (r := 0) (s := 1) (t := 3) (b := 8) (by decide) (by decide) (by decide)).comp ((quV_cg (r := 2) (s := 3) (t := 1) (b := 12) (by decide) (by decide) (by decide)).comp (quV_cg (r := 0) (s := 1) (t := 3) (b := 16) (by decide) (by decide) (by decide))))
/-- four places, apart -/
def Inj (ix : Nat → Nat) : Prop := ∀ q, q < 4 → ∀ q', q' < 4 → ix q = ix q' → q = q'
theorem sqS_ix {ix : Nat → Nat} (hi : Inj ix) {r s t b : Nat} (hr : r < 4) (x : Nat → Int32) : ∀ q, q < 4 → sqS (ix r) (ix s) (ix t) b x (ix q) = crV r s t b (fun q => x (ix q)) q := by
  intro q hq
  show upd x (ix r) (x (ix r) ^^^ turnI (x (ix s) + x (ix t)) b) (ix q) = if q = r then x (ix r) ^^^ turnI (x (ix s) + x (ix t)) b else x (ix q)
  by_cases h : q = r
  · subst h
    rw [if_pos rfl]
    exact u_s
  · rw [if_neg h]
    exact u_n (fun e => h (hi q hq r hr e))
theorem mq_ix {ix : Nat → Nat} (hi : Inj ix) {r s t b : Nat} (hr : r < 4) (ht : t < 4) (hne : t ≠ r) (x : Nat → Int32) : ∀ q, q < 4 → mqR (ix t) (ix r) b (mqA (ix r) (ix s) x) (ix q) = quV r s t b (fun q => x (ix q)) q := by
  intro q hq
  have e1 : mqA (ix r) (ix s) x (ix t) = x (ix t) := u_n (fun e => hne (hi t ht r hr e))
  have e2 : mqA (ix r) (ix s) x (ix r) = x (ix r) + x (ix s) := u_s
  show upd (mqA (ix r) (ix s) x) (ix t) (turnI (mqA (ix r) (ix s) x (ix t) ^^^ mqA (ix r) (ix s) x (ix r)) b) (ix q) = if q = t then turnI (x (ix t) ^^^ (x (ix r) + x (ix s))) b else if q = r then x (ix r) + x (ix s) else x (ix q)
  rw [e1, e2]
  by_cases h : q = t
  · subst h
    rw [if_pos rfl]
    exact u_s
  · rw [if_neg h, u_n (fun e => h (hi q hq t ht e))]
    by_cases h' : q = r
    · subst h'
      rw [if_pos rfl]
      exact u_s
    · rw [if_neg h']
      exact u_n (fun e => h' (hi q hq r hr e))
theorem salsaQ_ix {ix : Nat → Nat} (hi : Inj ix) (x : Nat → Int32) : ∀ q, q < 4 → salsaQ (ix 0) (ix 1) (ix 2) (ix 3) x (ix q) = SQ (fun q => x (ix q)) q := by
  intro q hq
  have h1 := sqS_ix hi (r := 1) (s := 0) (t := 3) (b := 7) (by decide) x
  have h2 := sqS_ix hi (r := 2) (s := 1) (t := 0) (b := 9) (by decide) (sqS (ix 1) (ix 0) (ix 3) 7 x)
  have h3 := sqS_ix hi (r := 3) (s := 2) (t := 1) (b := 13) (by decide) (sqS (ix 2) (ix 1) (ix 0) 9 (sqS (ix 1) (ix 0) (ix 3) 7 x))
  have h4 := sqS_ix hi (r := 0) (s := 3) (t := 2) (b := 18) (by decide) (sqS (ix 3) (ix 2) (ix 1) 13 (sqS (ix 2) (ix 1) (ix 0) 9 (sqS (ix 1) (ix 0) (ix 3) 7 x)))
  have c2 := fun q hq => (h2 q hq).trans (crV_cg (r := 2) (s := 1) (t := 0) (b := 9) (by decide) (by decide) (by decide) _ _ h1 q hq)
  have c3 := fun q hq => (h3 q hq).trans (crV_cg (r := 3) (s := 2) (t := 1) (b := 13) (by decide) (by decide) (by decide) _ _ c2 q hq)
  exact (h4 q hq).trans (crV_cg (r := 0) (s := 3) (t := 2) (b := 18) (by decide) (by decide) (by decide) _ _ c3 q hq)
theorem quarterM_ix {ix : Nat → Nat} (hi : Inj ix) (x : Nat → Int32) : ∀ q, q < 4 → quarterM (ix 0) (ix 1) (ix 2) (ix 3) x (ix q) = CQ (fun q => x (ix q)) q := by
  intro q hq
  have h1 := mq_ix hi (r := 0) (s := 1) (t := 3) (b := 16) (by decide) (by decide) (by decide) x
  have h2 := mq_ix hi (r := 2) (s := 3) (t := 1) (b := 12) (by decide) (by decide) (by decide) (mqR (ix 3) (ix 0) 16 (mqA (ix 0) (ix 1) x))
  have h3 := mq_ix hi (r := 0) (s := 1) (t := 3) (b := 8) (by decide) (by decide) (by decide) (mqR (ix 1) (ix 2) 12 (mqA (ix 2) (ix 3) (mqR (ix 3) (ix 0) 16 (mqA (ix 0) (ix 1) x))))
  have h4 := mq_ix hi (r := 2) (s := 3) (t := 1) (b := 7) (by decide) (by decide) (by decide) (mqR (ix 3) (ix 0) 8 (mqA (ix 0) (ix 1) (mqR (ix 1) (ix 2) 12 (mqA (ix 2) (ix 3) (mqR (ix 3) (ix 0) 16 (mqA (ix 0) (ix 1) x))))))
  have c2 := fun q hq => (h2 q hq).trans (quV_cg (r := 2) (s := 3) (t := 1) (b := 12) (by decide) (by decide) (by decide) _ _ h1 q hq)
  have c3 := fun q hq => (h3 q hq).trans (quV_cg (r := 0) (s := 1) (t := 3) (b := 8) (by decide) (by decide) (by decide) _ _ c2 q hq)
  exact (h4 q hq).trans (quV_cg (r := 2) (s := 3) (t := 1) (b := 7) (by decide) (by decide) (by decide) _ _ c3 q hq)
theorem salsaQ_off {ix : Nat → Nat} {j : Nat} (h : ∀ q, q < 4 → j ≠ ix q) (x : Nat → Int32) : salsaQ (ix 0) (ix 1) (ix 2) (ix 3) x j = x j := by
  unfold salsaQ sqS
  rw [u_n (h 0 (by decide)), u_n (h 3 (by decide)), u_n (h 2 (by decide)), u_n (h 1 (by decide))]
theorem quarterM_off {ix : Nat → Nat} {j : Nat} (h : ∀ q, q < 4 → j ≠ ix q) (x : Nat → Int32) : quarterM (ix 0) (ix 1) (ix 2) (ix 3) x j = x j := by
  unfold quarterM mqR mqA
  rw [u_n (h 1 (by decide)), u_n (h 2 (by decide)), u_n (h 3 (by decide)), u_n (h 0 (by decide)), u_n (h 1 (by decide)), u_n (h 2 (by decide)), u_n (h 3 (by decide)), u_n (h 0 (by decide))]
/-- four steps, each on four places of its own -/
theorem it_cols (ix : Nat → Nat → Nat) (st : Nat → (Nat → Int32) → Nat → Int32) (K : Nat → (Nat → Int32) → Nat → Int32) (hK : ∀ i, i < 4 → Cg (K i))
    (h1 : ∀ i, i < 4 → ∀ (x : Nat → Int32) (q : Nat), q < 4 → st i x (ix i q) = K i (fun q => x (ix i q)) q) (h2 : ∀ i, i < 4 → ∀ (x : Nat → Int32) (j : Nat), (∀ q, q < 4 → j ≠ ix i q) → st i x j = x j)
    (hd : ∀ i, i < 4 → ∀ i', i' < 4 → ∀ q, q < 4 → ∀ q', q' < 4 → ix i q = ix i' q' → i = i' ∧ q = q') (x : Nat → Int32) :
    ∀ n, n ≤ 4 → (∀ i, i < n → ∀ q, q < 4 → it_ st n x (ix i q) = K i (fun q => x (ix i q)) q) ∧ (∀ i, n ≤ i → i < 4 → ∀ q, q < 4 → it_ st n x (ix i q) = x (ix i q)) := by
  intro n
  induction n with
  | zero => exact fun _ => ⟨fun i h => absurd h (by omega), fun i _ _ q _ => rfl⟩
  | succ n ih =>
    intro hn
    obtain ⟨a, b⟩ := ih (by omega)
    have hother : ∀ i, i < 4 → i ≠ n → ∀ q, q < 4 → it_ st (n + 1) x (ix i q) = it_ st n x (ix i q) := fun i hi hne q hq =>
      h2 n (by omega) _ _ (fun q' hq' e => hne (hd i hi n (by omega) q hq q' hq' e).1)
    refine ⟨fun i hi q hq => ?_, fun i hi hi4 q hq => ?_⟩
    · by_cases h : i = n
      · subst h
        have e : it_ st (i + 1) x (ix i q) = K i (fun q => it_ st i x (ix i q)) q := h1 i (by omega) _ q hq
        rw [e]
        exact hK i (by omega) _ _ (fun q' hq' => b i (Nat.le_refl i) (by omega) q' hq') q hq
      · rw [hother i (by omega) h q hq]
        exact a i (by omega) q hq
    · rw [hother i hi4 (by omega) q hq]
      exact b i (by omega) hi4 q hq
def ixA (i q : Nat) : Nat := if q = 0 then 5 * i else if q = 1 then (5 * i + 4) % 16 else if q = 2 then (5 * i + 8) % 16 else (5 * i + 12) % 16
def ixB (i q : Nat) : Nat := if q = 0 then 5 * i else if q = 1 then 4 * i + (i + 1) % 4 else if q = 2 then 4 * i + (i + 2) % 4 else 4 * i + (i + 3) % 4
def ixC (i q : Nat) : Nat := if q = 0 then i else if q = 1 then 4 + i else if q = 2 then 8 + i else 12 + i
def ixD (i q : Nat) : Nat := if q = 0 then i else if q = 1 then 4 + (i + 1) % 4 else if q = 2 then 8 + (i + 2) % 4 else 12 + (i + 3) % 4
theorem ixA_i : ∀ i, i < 4 → ∀ q, q < 4 → ixA i q % 4 = i ∧ (ixA i q / 4 + 4 - ixA i q % 4) % 4 = q := by decide +kernel
theorem ixA_d : ∀ i, i < 4 → ∀ i', i' < 4 → ∀ q, q < 4 → ∀ q', q' < 4 → ixA i q = ixA i' q' → i = i' ∧ q = q' := by
  intro i hi i' hi' q hq q' hq' e
  obtain ⟨a, b⟩ := ixA_i i hi q hq
  obtain ⟨a', b'⟩ := ixA_i i' hi' q' hq'
  rw [← e] at a' b'
  exact ⟨a.symm.trans a', b.symm.trans b'⟩
theorem ixB_i : ∀ i, i < 4 → ∀ q, q < 4 → ixB i q / 4 = i ∧ (ixB i q % 4 + 4 - ixB i q / 4) % 4 = q := by decide +kernel
theorem ixB_d : ∀ i, i < 4 → ∀ i', i' < 4 → ∀ q, q < 4 → ∀ q', q' < 4 → ixB i q = ixB i' q' → i = i' ∧ q = q' := by
  intro i hi i' hi' q hq q' hq' e
  obtain ⟨a, b⟩ := ixB_i i hi q hq
  obtain ⟨a', b'⟩ := ixB_i i' hi' q' hq'
  rw [← e] at a' b'
  exact ⟨a.symm.trans a', b.symm.trans b'⟩
theorem ixC_i : ∀ i, i < 4 → ∀ q, q < 4 → ixC i q % 4 = i ∧ ixC i q / 4 = q := by decide +kernel
theorem ixC_d : ∀ i, i < 4 → ∀ i', i' < 4 → ∀ q, q < 4 → ∀ q', q' < 4 → ixC i q = ixC i' q' → i = i' ∧ q = q' := by
  intro i hi i' hi' q hq q' hq' e
  obtain ⟨a, b⟩ := ixC_i i hi q hq
  obtain ⟨a', b'⟩ := ixC_i i' hi' q' hq'
  rw [← e] at a' b'
  exact ⟨a.symm.trans a', b.symm.trans b'⟩
theorem ixD_i : ∀ i, i < 4 → ∀ q, q < 4 → (ixD i q % 4 + 4 - ixD i q / 4) % 4 = i ∧ ixD i q / 4 = q := by decide +kernel
theorem ixD_d : ∀ i, i < 4 → ∀ i', i' < 4 → ∀ q, q < 4 → ∀ q', q' < 4 → ixD i q = ixD i' q' → i = i' ∧ q = q' := by
  intro i hi i' hi' q hq q' hq' e
  obtain ⟨a, b⟩ := ixD_i i hi q hq
  obtain ⟨a', b'⟩ := ixD_i i' hi' q' hq'
  rw [← e] at a' b'
  exact ⟨a.symm.trans a', b.symm.trans b'⟩
theorem ixA_lt : ∀ i, i < 4 → ∀ q, q < 4 → ixA i q < 16 := by decide +kernel
theorem ixC_lt : ∀ i, i < 4 → ∀ q, q < 4 → ixC i q < 16 := by decide +kernel
theorem ixA_on : ∀ j, j < 16 → ∃ i, i < 4 ∧ ∃ q, q < 4 ∧ j = ixA i q := by
  intro j hj
  have h : ∀ j, j < 16 → ixA ((j + 4 * (4 - j / 4)) % 4 * 0 + (j % 4)) ((j / 4 + 4 - j % 4) % 4) = j := by decide +kernel
  exact ⟨j % 4, by omega, (j / 4 + 4 - j % 4) % 4, by omega, by have e := h j hj; rw [Nat.mul_zero, Nat.zero_add] at e; exact e.symm⟩
/-- the rows f and the words x hold the same, column by column -/
def Rl (ix : Nat → Nat → Nat) (f : Nat → Int64) (x : Nat → Int32) : Prop := ∀ i, i < 4 → ∀ q, q < 4 → wordL f q i = x (ix i q)
theorem Rl.round {ix : Nat → Nat → Nat} {f f' : Nat → Int64} {x : Nat → Int32} (h : Rl ix f x) (K : (Nat → Int32) → Nat → Int32) (hK : Cg K) (st : Nat → (Nat → Int32) → Nat → Int32)
    (h1 : ∀ i, i < 4 → ∀ (x : Nat → Int32) (q : Nat), q < 4 → st i x (ix i q) = K (fun q => x (ix i q)) q) (h2 : ∀ i, i < 4 → ∀ (x : Nat → Int32) (j : Nat), (∀ q, q < 4 → j ≠ ix i q) → st i x j = x j)
    (hd : ∀ i, i < 4 → ∀ i', i' < 4 → ∀ q, q < 4 → ∀ q', q' < 4 → ix i q = ix i' q' → i = i' ∧ q = q') (hf : ∀ k, k < 4 → cW f' k = K (cW f k)) : Rl ix f' (it_ st 4 x) := by
  intro i hi q hq
  rw [(it_cols ix st (fun _ => K) (fun _ _ => hK) h1 h2 hd x 4 (Nat.le_refl 4)).1 i hi q hq]
  show cW f' i q = _
  rw [hf i hi]
  exact hK _ _ (fun q hq => h i hi q hq) q hq
theorem rnS_even {r : Nat} (hr : r % 2 = 0) {f : Nat → Int64} {x : Nat → Int32} (h : Rl ixA f x) : Rl ixA (crossAllF f) (rnM rS r x) := by
  refine h.round SQ SQ_cg (rS r) (fun i hi x q hq => ?_) (fun i hi x j hj => ?_) ixA_d (fun k hk => col_crossAll hk f)
  · rw [show rS r i x = salsaQ (ixA i 0) (ixA i 1) (ixA i 2) (ixA i 3) x from if_pos hr]
    exact salsaQ_ix (fun q hq q' hq' e => (ixA_d i hi i hi q hq q' hq' e).2) x q hq
  · rw [show rS r i x = salsaQ (ixA i 0) (ixA i 1) (ixA i 2) (ixA i 3) x from if_pos hr]
    exact salsaQ_off hj x
theorem rnS_odd {r : Nat} (hr : ¬ r % 2 = 0) {f : Nat → Int64} {x : Nat → Int32} (h : Rl ixB f x) : Rl ixB (crossAllF f) (rnM rS r x) := by
  refine h.round SQ SQ_cg (rS r) (fun i hi x q hq => ?_) (fun i hi x j hj => ?_) ixB_d (fun k hk => col_crossAll hk f)
  · rw [show rS r i x = salsaQ (ixB i 0) (ixB i 1) (ixB i 2) (ixB i 3) x from if_neg hr]
    exact salsaQ_ix (fun q hq q' hq' e => (ixB_d i hi i hi q hq q' hq' e).2) x q hq
  · rw [show rS r i x = salsaQ (ixB i 0) (ixB i 1) (ixB i 2) (ixB i 3) x from if_neg hr]
    exact salsaQ_off hj x
theorem rnC_even {r : Nat} (hr : r % 2 = 0) {f : Nat → Int64} {x : Nat → Int32} (h : Rl ixC f x) : Rl ixC (quarterAllF f) (rnM rC r x) := by
  refine h.round CQ CQ_cg (rC r) (fun i hi x q hq => ?_) (fun i hi x j hj => ?_) ixC_d (fun k hk => col_quarterAll hk f)
  · rw [show rC r i x = quarterM (ixC i 0) (ixC i 1) (ixC i 2) (ixC i 3) x from if_pos hr]
    exact quarterM_ix (fun q hq q' hq' e => (ixC_d i hi i hi q hq q' hq' e).2) x q hq
  · rw [show rC r i x = quarterM (ixC i 0) (ixC i 1) (ixC i 2) (ixC i 3) x from if_pos hr]
    exact quarterM_off hj x
theorem rnC_odd {r : Nat} (hr : ¬ r % 2 = 0) {f : Nat → Int64} {x : Nat → Int32} (h : Rl ixD f x) : Rl ixD (quarterAllF f) (rnM rC r x) := by
  refine h.round CQ CQ_cg (rC r) (fun i hi x q hq => ?_) (fun i hi x j hj => ?_) ixD_d (fun k hk => col_quarterAll hk f)
  · rw [show rC r i x = quarterM (ixD i 0) (ixD i 1) (ixD i 2) (ixD i 3) x from if_neg hr]
    exact quarterM_ix (fun q hq q' hq' e => (ixD_d i hi i hi q hq q' hq' e).2) x q hq
  · rw [show rC r i x = quarterM (ixD i 0) (ixD i 1) (ixD i 2) (ixD i 3) x from if_neg hr]
    exact quarterM_off hj x
-- to the other groups and back
theorem cr4 {P : Nat → Prop} (h0 : P 0) (h1 : P 1) (h2 : P 2) (h3 : P 3) : ∀ q, q < 4 → P q := fun q hq => co_4 h0 h1 h2 h3 hq
theorem Rl.toB {f : Nat → Int64} {x : Nat → Int32} (h : Rl ixA f x) : Rl ixB (acrossF f) x := by
  intro i hi
  obtain ⟨e0, e1, e2, e3⟩ := word_across f hi
  have d : ∀ i, i < 4 → ixA i 0 = ixB i 0 ∧ ixA ((i + 1) % 4) 3 = ixB i 1 ∧ ixA ((i + 2) % 4) 2 = ixB i 2 ∧ ixA ((i + 3) % 4) 1 = ixB i 3 := by decide +kernel
  obtain ⟨d0, d1, d2, d3⟩ := d i hi
  refine cr4 ?_ ?_ ?_ ?_
  · rw [e0, h i hi 0 (by decide), d0]
  · rw [e1, h _ (by omega) 3 (by decide), d1]
  · rw [e2, h _ (by omega) 2 (by decide), d2]
  · rw [e3, h _ (by omega) 1 (by decide), d3]
theorem Rl.toA {f : Nat → Int64} {x : Nat → Int32} (h : Rl ixB f x) : Rl ixA (acrossF f) x := by
  intro i hi
  obtain ⟨e0, e1, e2, e3⟩ := word_across f hi
  have d : ∀ i, i < 4 → ixB i 0 = ixA i 0 ∧ ixB ((i + 1) % 4) 3 = ixA i 1 ∧ ixB ((i + 2) % 4) 2 = ixA i 2 ∧ ixB ((i + 3) % 4) 1 = ixA i 3 := by decide +kernel
  obtain ⟨d0, d1, d2, d3⟩ := d i hi
  refine cr4 ?_ ?_ ?_ ?_
  · rw [e0, h i hi 0 (by decide), d0]
  · rw [e1, h _ (by omega) 3 (by decide), d1]
  · rw [e2, h _ (by omega) 2 (by decide), d2]
  · rw [e3, h _ (by omega) 1 (by decide), d3]
theorem word_b1 (f : Nat → Int64) {k : Nat} (hk : k < 4) : wordL (it_ shB1 3 f) 0 k = wordL f 0 k ∧ wordL (it_ shB1 3 f) 1 k = wordL f 1 ((k + 1) % 4) ∧ wordL (it_ shB1 3 f) 2 k = wordL f 2 ((k + 2) % 4) ∧ wordL (it_ shB1 3 f) 3 k = wordL f 3 ((k + 3) % 4) := by
  rw [show it_ shB1 3 f = shiftF 3 3 (shiftF 2 2 (shiftF 1 1 f)) from rfl]
  refine ⟨?_, ?_, ?_, ?_⟩
  · rw [word_shift (by decide) _ _ _ hk, if_neg (by decide), word_shift (by decide) _ _ _ hk, if_neg (by decide), word_shift (by decide) _ _ _ hk, if_neg (by decide)]
  · rw [word_shift (by decide) _ _ _ hk, if_neg (by decide), word_shift (by decide) _ _ _ hk, if_neg (by decide), word_shift (by decide) _ _ _ hk, if_pos rfl]
  · rw [word_shift (by decide) _ _ _ hk, if_neg (by decide), word_shift (by decide) _ _ _ hk, if_pos rfl, word_shift (by decide) _ _ _ (by omega), if_neg (by decide)]
  · rw [word_shift (by decide) _ _ _ hk, if_pos rfl, word_shift (by decide) _ _ _ (by omega), if_neg (by decide), word_shift (by decide) _ _ _ (by omega), if_neg (by decide)]
theorem word_b2 (f : Nat → Int64) {k : Nat} (hk : k < 4) : wordL (it_ shB2 3 f) 0 k = wordL f 0 k ∧ wordL (it_ shB2 3 f) 1 k = wordL f 1 ((k + 3) % 4) ∧ wordL (it_ shB2 3 f) 2 k = wordL f 2 ((k + 2) % 4) ∧ wordL (it_ shB2 3 f) 3 k = wordL f 3 ((k + 1) % 4) := by
  rw [show it_ shB2 3 f = shiftF 3 1 (shiftF 2 2 (shiftF 1 3 f)) from rfl]
  refine ⟨?_, ?_, ?_, ?_⟩
  · rw [word_shift (by decide) _ _ _ hk, if_neg (by decide), word_shift (by decide) _ _ _ hk, if_neg (by decide), word_shift (by decide) _ _ _ hk, if_neg (by decide)]
  · rw [word_shift (by decide) _ _ _ hk, if_neg (by decide), word_shift (by decide) _ _ _ hk, if_neg (by decide), word_shift (by decide) _ _ _ hk, if_pos rfl]
  · rw [word_shift (by decide) _ _ _ hk, if_neg (by decide), word_shift (by decide) _ _ _ hk, if_pos rfl, word_shift (by decide) _ _ _ (by omega), if_neg (by decide)]
  · rw [word_shift (by decide) _ _ _ hk, if_pos rfl, word_shift (by decide) _ _ _ (by omega), if_neg (by decide), word_shift (by decide) _ _ _ (by omega), if_neg (by decide)]
theorem Rl.toD {f : Nat → Int64} {x : Nat → Int32} (h : Rl ixC f x) : Rl ixD (it_ shB1 3 f) x := by
  intro i hi
  obtain ⟨e0, e1, e2, e3⟩ := word_b1 f hi
  have d : ∀ i, i < 4 → ixC i 0 = ixD i 0 ∧ ixC ((i + 1) % 4) 1 = ixD i 1 ∧ ixC ((i + 2) % 4) 2 = ixD i 2 ∧ ixC ((i + 3) % 4) 3 = ixD i 3 := by decide +kernel
  obtain ⟨d0, d1, d2, d3⟩ := d i hi
  refine cr4 ?_ ?_ ?_ ?_
  · rw [e0, h i hi 0 (by decide), d0]
  · rw [e1, h _ (by omega) 1 (by decide), d1]
  · rw [e2, h _ (by omega) 2 (by decide), d2]
  · rw [e3, h _ (by omega) 3 (by decide), d3]
theorem Rl.toC {f : Nat → Int64} {x : Nat → Int32} (h : Rl ixD f x) : Rl ixC (it_ shB2 3 f) x := by
  intro i hi
  obtain ⟨e0, e1, e2, e3⟩ := word_b2 f hi
  have d : ∀ i, i < 4 → ixD i 0 = ixC i 0 ∧ ixD ((i + 3) % 4) 1 = ixC i 1 ∧ ixD ((i + 2) % 4) 2 = ixC i 2 ∧ ixD ((i + 1) % 4) 3 = ixC i 3 := by decide +kernel
  obtain ⟨d0, d1, d2, d3⟩ := d i hi
  refine cr4 ?_ ?_ ?_ ?_
  · rw [e0, h i hi 0 (by decide), d0]
  · rw [e1, h _ (by omega) 1 (by decide), d1]
  · rw [e2, h _ (by omega) 2 (by decide), d2]
  · rw [e3, h _ (by omega) 3 (by decide), d3]
-- all rounds
theorem rndsA {f : Nat → Int64} {x : Nat → Int32} (h : Rl ixA f x) : ∀ M, Rl ixA (it_ rndA M f) (it_ (rnM rS) (2 * M) x) := by
  intro M
  induction M with
  | zero => exact h
  | succ M ih =>
    rw [show 2 * (M + 1) = 2 * M + 1 + 1 by omega, it_s rndA, it_s (rnM rS), it_s (rnM rS)]
    unfold rndA
    exact (rnS_odd (by omega) (rnS_even (by omega) ih).toB).toA
theorem rndsB {f : Nat → Int64} {x : Nat → Int32} (h : Rl ixC f x) : ∀ M, Rl ixC (it_ rndB M f) (it_ (rnM rC) (2 * M) x) := by
  intro M
  induction M with
  | zero => exact h
  | succ M ih =>
    rw [show 2 * (M + 1) = 2 * M + 1 + 1 by omega, it_s rndB, it_s (rnM rC), it_s (rnM rC)]
    unfold rndB
    exact (rnC_odd (by omega) (rnC_even (by omega) ih).toD).toC
end
section
set_option maxRecDepth 100000
/-! what each call leaves in the arrays: the class's against the reference's -/
theorem it_upd (v : Nat → Int32 → Int32) (st : Nat → (Nat → Int32) → Nat → Int32) (hst : ∀ k f, st k f = upd f k (v k (f k))) (f : Nat → Int32) : ∀ n j, it_ st n f j = if j < n then v j (f j) else f j := by
  intro n
  induction n with
  | zero => intro j; rw [if_neg (by omega)]; rfl
  | succ n ih =>
    intro j
    rw [it_s, hst]
    by_cases h : j = n
    · subst h
      rw [u_s, ih j, if_neg (by omega), if_pos (by omega)]
    · rw [u_n h, ih j]
      by_cases h' : j < n
      · rw [if_pos h', if_pos (by omega)]
      · rw [if_neg h', if_neg (by omega)]
theorem cp_at (g f : Nat → Int32) {n j : Nat} (h : j < n) : it_ (cpK g) n f j = g j := by
  rw [it_upd (fun k _ => g k) (cpK g) (fun _ _ => rfl) f n j, if_pos h]
theorem core_at (st : Nat → Nat → (Nat → Int32) → Nat → Int32) (N : Nat) (s x : Nat → Int32) {j : Nat} (h : j < 16) : coreG st N s x j = it_ (rnM st) N (it_ (cpK s) 16 x) j + s j := by
  unfold coreG
  rw [it_upd (fun k z => z + s k) (addK s) (fun _ _ => rfl) _ 16 j, if_pos h]
theorem Rl.cg {ix : Nat → Nat → Nat} (hix : ∀ i, i < 4 → ∀ q, q < 4 → ix i q < 16) {f : Nat → Int64} {x x' : Nat → Int32} (h : Rl ix f x) (hx : ∀ j, j < 16 → x j = x' j) : Rl ix f x' := fun i hi q hq => (h i hi q hq).trans (hx _ (hix i hi q hq))
theorem rl_layA (x : Nat → Int32) (f : Nat → Int64) : Rl ixA (layA x f) x := by
  intro i hi
  unfold layA
  refine cr4 ?_ ?_ ?_ ?_
  · rw [word_lay _ _ _ _ _ _ _ hi, if_neg (by decide), word_lay _ _ _ _ _ _ _ hi, if_neg (by decide), word_lay _ _ _ _ _ _ _ hi, if_neg (by decide), word_lay _ _ _ _ _ _ _ hi, if_pos rfl]
    rcases (show i = 0 ∨ i = 1 ∨ i = 2 ∨ i = 3 by omega) with rfl | rfl | rfl | rfl <;> rfl
  · rw [word_lay _ _ _ _ _ _ _ hi, if_neg (by decide), word_lay _ _ _ _ _ _ _ hi, if_neg (by decide), word_lay _ _ _ _ _ _ _ hi, if_pos rfl]
    rcases (show i = 0 ∨ i = 1 ∨ i = 2 ∨ i = 3 by omega) with rfl | rfl | rfl | rfl <;> rfl
  · rw [word_lay _ _ _ _ _ _ _ hi, if_neg (by decide), word_lay _ _ _ _ _ _ _ hi, if_pos rfl]
    rcases (show i = 0 ∨ i = 1 ∨ i = 2 ∨ i = 3 by omega) with rfl | rfl | rfl | rfl <;> rfl
  · rw [word_lay _ _ _ _ _ _ _ hi, if_pos rfl]
    rcases (show i = 0 ∨ i = 1 ∨ i = 2 ∨ i = 3 by omega) with rfl | rfl | rfl | rfl <;> rfl
theorem rl_layB (x : Nat → Int32) (f : Nat → Int64) : Rl ixC (it_ (layBK x) 4 f) x := by
  intro i hi
  rw [it_s (layBK x) 3, it_s (layBK x) 2, it_s (layBK x) 1, it_s (layBK x) 0, it_0]
  unfold layBK
  refine cr4 ?_ ?_ ?_ ?_
  · rw [word_lay _ _ _ _ _ _ _ hi, if_neg (by decide), word_lay _ _ _ _ _ _ _ hi, if_neg (by decide), word_lay _ _ _ _ _ _ _ hi, if_neg (by decide), word_lay _ _ _ _ _ _ _ hi, if_pos rfl]
    rcases (show i = 0 ∨ i = 1 ∨ i = 2 ∨ i = 3 by omega) with rfl | rfl | rfl | rfl <;> rfl
  · rw [word_lay _ _ _ _ _ _ _ hi, if_neg (by decide), word_lay _ _ _ _ _ _ _ hi, if_neg (by decide), word_lay _ _ _ _ _ _ _ hi, if_pos rfl]
    rcases (show i = 0 ∨ i = 1 ∨ i = 2 ∨ i = 3 by omega) with rfl | rfl | rfl | rfl <;> rfl
  · rw [word_lay _ _ _ _ _ _ _ hi, if_neg (by decide), word_lay _ _ _ _ _ _ _ hi, if_pos rfl]
    rcases (show i = 0 ∨ i = 1 ∨ i = 2 ∨ i = 3 by omega) with rfl | rfl | rfl | rfl <;> rfl
  · rw [word_lay _ _ _ _ _ _ _ hi, if_pos rfl]
    rcases (show i = 0 ∨ i = 1 ∨ i = 2 ∨ i = 3 by omega) with rfl | rfl | rfl | rfl <;> rfl
-- salsa
theorem outA_eq (x : Nat → Int32) (f : Nat → Int64) {i : Nat} (hi : i < 4) (o : Nat → Int32) : outA x f i o = upd (upd (upd (upd o (ixA i 0) (x (ixA i 0) + wordL f 0 i)) (ixA i 1) (x (ixA i 1) + wordL f 1 i)) (ixA i 2) (x (ixA i 2) + wordL f 2 i)) (ixA i 3) (x (ixA i 3) + wordL f 3 i) := by
  have d : ∀ i, i < 4 → 5 * i % 16 = ixA i 0 ∧ (4 + 5 * i) % 16 = ixA i 1 ∧ (8 + 5 * i) % 16 = ixA i 2 ∧ (12 + 5 * i) % 16 = ixA i 3 := by decide +kernel
  obtain ⟨d0, d1, d2, d3⟩ := d i hi
  unfold outA
  rw [d0, d1, d2, d3]
theorem mixAo_at (M : Nat) (x : Nat → Int32) (f : Nat → Int64) (o : Nat → Int32) {i q : Nat} (hi : i < 4) (hq : q < 4) : mixAo M x f o (ixA i q) = x (ixA i q) + wordL (rowA M x f) q i := by
  unfold mixAo
  refine (it_cols ixA (outA x (rowA M x f)) (fun i _ q => x (ixA i q) + wordL (rowA M x f) q i) (fun _ _ _ _ _ _ _ => rfl) (fun i hi o q hq => ?_) (fun i hi o j hj => ?_) ixA_d o 4 (Nat.le_refl 4)).1 i hi q hq
  · rw [outA_eq x _ hi o]
    have inj : ∀ q, q < 4 → ∀ q', q' < 4 → q ≠ q' → ixA i q ≠ ixA i q' := fun q hq q' hq' hne e => hne (ixA_d i hi i hi q hq q' hq' e).2
    revert q hq
    refine cr4 ?_ ?_ ?_ ?_
    · rw [u_n (inj 0 (by decide) 3 (by decide) (by decide)), u_n (inj 0 (by decide) 2 (by decide) (by decide)), u_n (inj 0 (by decide) 1 (by decide) (by decide)), u_s]
    · rw [u_n (inj 1 (by decide) 3 (by decide) (by decide)), u_n (inj 1 (by decide) 2 (by decide) (by decide)), u_s]
    · rw [u_n (inj 2 (by decide) 3 (by decide) (by decide)), u_s]
    · rw [u_s]
  · rw [outA_eq x _ hi o, u_n (hj 3 (by decide)), u_n (hj 2 (by decide)), u_n (hj 1 (by decide)), u_n (hj 0 (by decide))]
theorem salsa_law {fI gI fO gO gx gs : Nat → Int32} {fR : Nat → Int64} (M : Nat) (h : ∀ j, j < 16 → fI j = gI j) : ∀ j, j < 16 → mixAo M fI fR fO j = it_ (cpK (coreG rS (2 * M) (it_ (cpK gI) 16 gs) gx)) 16 gO j := by
  intro j hj
  rw [cp_at _ _ hj, core_at _ _ _ _ hj]
  have h1 : ∀ j, j < 16 → fI j = it_ (cpK gI) 16 gs j := fun j hj => (h j hj).trans (cp_at gI gs hj).symm
  have h2 : ∀ j, j < 16 → fI j = it_ (cpK (it_ (cpK gI) 16 gs)) 16 gx j := fun j hj => (h1 j hj).trans (cp_at _ _ hj).symm
  have hR := rndsA ((rl_layA fI fR).cg ixA_lt h2) M
  obtain ⟨i, hi, q, hq, rfl⟩ := ixA_on j hj
  rw [mixAo_at M fI fR fO hi hq, ← h1 _ hj, Int32.add_comm]
  congr 1
  exact hR i hi q hq
-- chacha
theorem cha_core {fx s x : Nat → Int32} {f : Nat → Int64} (M : Nat) (h : ∀ j, j < 16 → fx j = s j) {j : Nat} (hj : j < 16) : fx j + wordL (rowB M fx f) (j / 4) (j % 4) = coreG rC (2 * M) s x j := by
  rw [core_at _ _ _ _ hj]
  have h2 : ∀ j, j < 16 → fx j = it_ (cpK s) 16 x j := fun j hj => (h j hj).trans (cp_at _ _ hj).symm
  have hR := rndsB ((rl_layB fx f).cg ixC_lt h2) M
  have d : ∀ j, j < 16 → ixC (j % 4) (j / 4) = j := by decide +kernel
  have e := hR (j % 4) (by omega) (j / 4) (by omega)
  rw [d j hj] at e
  rw [← h j hj, Int32.add_comm]
  congr 1
theorem chacha_law {fI gI fO gO gx gs : Nat → Int32} {fR : Nat → Int64} (M : Nat) (h : ∀ j, j < 16 → fI j = gI j) : ∀ j, j < 16 → it_ (outB fI (rowB M fI fR)) 16 fO j = it_ (cpK (coreG rC (2 * M) (it_ (cpK gI) 16 gs) gx)) 16 gO j := by
  intro j hj
  rw [cp_at _ _ hj, it_upd (fun k _ => fI k + wordL (rowB M fI fR) (k / 4) (k % 4)) (outB fI (rowB M fI fR)) (fun _ _ => rfl) fO 16 j, if_pos hj]
  exact cha_core M (fun j hj => (h j hj).trans (cp_at gI gs hj).symm) hj
-- block
def byt (v : Int32) (i : Nat) : Int32 := (v >>> (nI (8 * i) &&& 31)).toInt8.toInt32
theorem kb_at (v : Int32) (k : Nat) (b : Nat → Int32) (j : Nat) : ∀ n, it_ (kbK v k) n b j = if 4 * k ≤ j ∧ j < 4 * k + n then byt v (j - 4 * k) else b j := by
  intro n
  induction n with
  | zero => rw [if_neg (by omega)]; rfl
  | succ n ih =>
    rw [it_s]
    show upd (it_ (kbK v k) n b) (4 * k + n) (byt v n) j = _
    by_cases h : j = 4 * k + n
    · rw [if_pos (by omega), h, u_s, show 4 * k + n - 4 * k = n by omega]
    · rw [u_n h, ih]
      by_cases h' : 4 * k ≤ j ∧ j < 4 * k + n
      · rw [if_pos h', if_pos (by omega)]
      · rw [if_neg h', if_neg (by omega)]
theorem bl_at (x : Nat → Int32) (f : Nat → Int64) (b : Nat → Int32) (j : Nat) : ∀ n, it_ (blK x f) n b j = if j < 4 * n then byt (x (j / 4) + wordL f (j / 4 / 4) (j / 4 % 4)) (j % 4) else b j := by
  intro n
  induction n with
  | zero => rw [if_neg (by omega)]; rfl
  | succ n ih =>
    rw [it_s]
    show it_ (kbK (x n + wordL f (n / 4) (n % 4)) n) 4 (it_ (blK x f) n b) j = _
    rw [kb_at, ih]
    by_cases h : 4 * n ≤ j ∧ j < 4 * n + 4
    · rw [if_pos h, if_pos (by omega), show j / 4 = n by omega, show j - 4 * n = j % 4 by omega]
    · rw [if_neg h]
      by_cases h' : j < 4 * n
      · rw [if_pos h', if_pos (by omega)]
      · rw [if_neg h', if_neg (by omega)]
theorem byt_law (v : Int32) {i : Nat} (hi : i < 4) : byt v i &&& nI 255 = (v.toUInt32 >>> ((nI (8 * i)).toUInt32 &&& Int32.toUInt32 31)).toInt32 &&& nI 255 := by
  unfold byt
  rw [show nI 255 = 255 from rfl, bp_b]
  refine b_ext (fun k hk => ?_)
  rw [b_and, b_and, b_255, b_sshr _ (by omega) _ hk, b_ushr _ (by omega)]
  by_cases h : k < 8
  · rw [if_pos (by omega)]
  · rw [decide_eq_false h, Bool.and_false, Bool.and_false]
theorem block_law {fS gT gs gx fB gQ : Nat → Int32} {fR : Nat → Int64} (h : ∀ j, j < 16 → fS j = gT j) : ∀ j, j < 64 → it_ (blK fS (rowB 10 fS fR)) 16 fB j &&& nI 255 = it_ (strK (coreG rC 20 (it_ (cpK gT) 16 gs) gx)) 64 gQ j := by
  intro j hj
  rw [bl_at, if_pos (by omega), it_upd (fun i _ => ((coreG rC 20 (it_ (cpK gT) 16 gs) gx (i / 4)).toUInt32 >>> ((nI (8 * (i % 4))).toUInt32 &&& Int32.toUInt32 31)).toInt32 &&& nI 255) (strK (coreG rC 20 (it_ (cpK gT) 16 gs) gx)) (fun _ _ => rfl) gQ 64 j, if_pos hj]
  rw [cha_core 10 (s := it_ (cpK gT) 16 gs) (x := gx) (fun j hj => (h j hj).trans (cp_at gT gs hj).symm) (show j / 4 < 16 by omega)]
  exact byt_law _ (by omega)
-- put, key, nonce, the counter
theorem upd_cg {n : Nat} {f g : Nat → Int32} {x y : Int32} (k : Nat) (h : ∀ j, j < n → f j = g j) (hx : x = y) : ∀ j, j < n → upd f k x j = upd g k y j := by
  intro j hj
  subst hx
  by_cases e : j = k
  · subst e
    rw [u_s, u_s]
  · rw [u_n e, u_n e, h j hj]
theorem put_law {n : Nat} {f g : Nat → Int32} {i i' : Nat} (hi : i = i') (a b c d : Int32) (h : ∀ j, j < n → f j = g j) : ∀ j, j < n → put4 i a b c d f j = put4 i' a b c d g j := by
  subst hi
  exact upd_cg _ (upd_cg _ (upd_cg _ (upd_cg _ h rfl) rfl) rfl) rfl
theorem no_at (g f : Nat → Int32) (j : Nat) : ∀ n, it_ (noK g) n f j = if 4 ≤ j ∧ j < 4 + n then g (j - 4) else f j := by
  intro n
  induction n with
  | zero => rw [if_neg (by omega)]; rfl
  | succ n ih =>
    rw [it_s]
    show upd (it_ (noK g) n f) (4 + n) (g n) j = _
    by_cases h : j = 4 + n
    · rw [if_pos (by omega), h, u_s, show 4 + n - 4 = n by omega]
    · rw [u_n h, ih]
      by_cases h' : 4 ≤ j ∧ j < 4 + n
      · rw [if_pos h', if_pos (by omega)]
      · rw [if_neg h', if_neg (by omega)]
theorem nonce_law {fK gK fS gT : Nat → Int32} (a b c : Int32) (hK : ∀ j, j < 8 → fK j = gK j) (h : ∀ j, j < 16 → fS j = gT j) : ∀ j, j < 16 → nonceF fK a b c fS j = nonceF gK a b c gT j := by
  have hA : ∀ j, j < 16 → noA fS j = noA gT j := upd_cg _ (upd_cg _ (upd_cg _ (upd_cg _ h rfl) rfl) rfl) rfl
  have hB : ∀ j, j < 16 → it_ (noK fK) 8 (noA fS) j = it_ (noK gK) 8 (noA gT) j := by
    intro j hj
    rw [no_at, no_at]
    by_cases h' : 4 ≤ j ∧ j < 4 + 8
    · rw [if_pos h', if_pos h', hK _ (by omega)]
    · rw [if_neg h', if_neg h', hA j hj]
  exact upd_cg _ (upd_cg _ (upd_cg _ (upd_cg _ hB rfl) rfl) rfl) rfl
theorem inc_law {fS gT : Nat → Int32} (h : ∀ j, j < 16 → fS j = gT j) : ∀ j, j < 16 → incF fS j = incF gT j := upd_cg _ h (by rw [h 12 (by decide)])
/-- the law's invariant -/
def Iv (fI fO fK fS fB gI gO gK gT gQ : Nat → Int32) : Prop := (∀ j, j < 16 → fI j = gI j) ∧ (∀ j, j < 16 → fO j = gO j) ∧ (∀ j, j < 8 → fK j = gK j) ∧ (∀ j, j < 16 → fS j = gT j) ∧ (∀ j, j < 64 → fB j &&& nI 255 = gQ j)
end
section
set_option maxRecDepth 100000
/-! the law: the skeleton's heads; rows on the script -/
def lw_P (b : Addr) (xs : List Int32) (args : Array Value) (s : State) : Prop := args = #[.ref b] ∧ s.IntsAt b xs ∧ xs.length ≤ 384 ∧ (Jvm.Cond.and given_1 narrow_1).before args s = true
def lw_Q (_ : Array Value) (s : State) (o : Outcome) (t : State) : Prop := o = .returned (some (.int 1)) ∧ Framed s o t [] 600000 7290000
def lw_Z (below : List Frame) (a : Array Value) (s : State) : State → Prop := fun t => ∃ o, t.status = .running ∧ Ended t below o ∧ lw_Q a s o t
/-- the law's own end, with 1 on the stack, nothing written that was there before, its room as the claim has it -/
theorem lw_ret {p : Program} {l : Launch} {e : Env} {s : State} {m : MethodId} {below : List Frame} {meth : Method} {c : Code} {b : Nat} (hx : p.tables.exec = Jvm.exec) (hb : c.code = code) (hr : meth.sig.returnType = ret) (hlocks : meth.locks = false) {pc : Nat} {H : Heap} {ls : Array Slot} (hdg : decode code pc = .ok (.ireturn, 1)) : W p l e room_1 s m #[Value.ref b] below meth c H [] 600000 7290000 (lw_Z below #[Value.ref b] s) (F0 m pc ls [.int 1]) := by
  intro T hT X
  obtain ⟨fs, hret, hrun, hended, hW, hframe⟩ := X.leave (v := some (.int 1)) (hlocks := hlocks) (fun h => by rw [hr] at h; cases h)
  have hmeth' : T.vm.method? m = some meth := X.method'
  refine ⟨T.setFrames fs, ?_, .returned (some (.int 1)), hrun, hended, rfl, ⟨_, rfl⟩, hW, hframe⟩
  jvm_step X.here [X.here.top, hx, hb, hdg, hmeth', hr, ret, narrow_b1]
  (try refine ⟨rfl, ?_⟩); (try refine ⟨rfl, ?_⟩)
  first | (intro acts; rw [hret _ acts rfl rfl rfl]) | rw [hret _ _ rfl rfl rfl]
  exact Steps.refl _
/-- what holds at the law's entry: the machine, the code, the tables' words (any of lw_tbl by 'hts w (by decide +kernel)'), the script of L ints xs at the cell b, what the Statement gives of the start (any of its parts by flat_of_before) -/
def lw_At (p : Program) (s : State) (m : MethodId) (meth : Method) (c : Code) (b L : Nat) (xs : Nat → Int32) : Prop :=
  p.tables.exec = Jvm.exec ∧ c.code = code ∧ meth.sig.returnType = ret ∧ c.maxLocals = 4 ∧ s.vm.findClass R_law = some m.cls ∧ (∀ w ∈ lw_tbl, w.before #[Value.ref b] s = true) ∧ va_X b L xs s s.heap ∧ b < s.heap.size ∧ meth.locks = false ∧ (Jvm.Cond.and given_1 narrow_1).before #[Value.ref b] s = true

section SCR
variable {p : Program} {l : Launch} {e : Env} {R : Room} {s : State} {m : MethodId} {args : Array Value} {below : List Frame} {meth : Method} {c : Code} {H : Heap} {locs : List Loc} {cells slots : Nat} {Q : State → Prop}
variable {cc : ByteArray} {pc nL : Nat} {own : String} {ret' : Option FieldType} {ls : Array Slot} {rest : List Value} {G : va_G} {tys : List (ClassId × FieldType)} {A : Nat → Prop} {w : va_W} {b L : Nat} {xs : Nat → Int32}
theorem r_sld (F : Fx p m c cc nL s args own meth ret') (h : Wd G tys A s H locs w) (hX : va_X b L xs s s.heap) (hbl : b < s.heap.size) (hbA : ¬ A b) (hL : L ≤ 384) (j : Nat) (hj : j < L) (hdg : decode cc pc = .ok (.iaload, 1))
    (kk : W p l e R s m args below meth c H locs cells slots Q (F0 m (pc + 1) ls (.int (xs j) :: rest))) : W p l e R s m args below meth c H locs cells slots Q (F0 m pc ls (.int (nI j) :: .ref b :: rest)) :=
  va_sld F.1.1 F.1.2.1 hX hbl hbA h.2.2.2.1 (vp_in_nI hj (by omega)) hdg (by rw [nI_clamp (by omega)]; exact kk)
theorem r_slen (F : Fx p m c cc nL s args own meth ret') (h : Wd G tys A s H locs w) (hX : va_X b L xs s s.heap) (hbl : b < s.heap.size) (hbA : ¬ A b) (hdg : decode cc pc = .ok (.arraylength, 1))
    (kk : W p l e R s m args below meth c H locs cells slots Q (F0 m (pc + 1) ls (.int (nI L) :: rest))) : W p l e R s m args below meth c H locs cells slots Q (F0 m pc ls (.ref b :: rest)) :=
  va_slen F.1.1 F.1.2.1 hX hbl hbA h.2.2.2.1 hdg kk
end SCR
theorem law_gt {L i : Nat} (hL : L ≤ 384) (hi : i ≤ 384) : nI L - nI 6 < nI i ↔ L < i + 6 := by
  rw [Int32.lt_iff_toInt_lt, pk_sub_toInt (by omega) (by omega), nI_toInt (by omega)]
  omega
/-- the classes of the arrays, known at the start -/
theorem ty_start {s : State} {args : Array Value} {G : va_G} (hK : va_K G cl_ [] s) (h1 : (Cond.arrayClass .int).before args s = true) (h2 : (Cond.arrayClass .byte).before args s = true) (h3 : (Cond.arrayClass .long).before args s = true) : ∃ cI cB cL : ClassId, va_K G cl_ (tys_ cI cB cL) s := by
  obtain ⟨a1, k1, m1, f1, e1, d1⟩ := Cond.arrayClass_spec h1
  obtain ⟨a2, k2, m2, f2, e2, d2⟩ := Cond.arrayClass_spec h2
  obtain ⟨a3, k3, m3, f3, e3, d3⟩ := Cond.arrayClass_spec h3
  refine ⟨a1, a2, a3, hK.1, fun k q hq => ?_⟩
  match k, hq with
  | 0, hq => cases hq; exact ⟨fun n z => ⟨fun k h => (by cases h), k1, e1, m1, d1⟩, f1⟩
  | 1, hq => cases hq; exact ⟨fun n z => ⟨fun k h => (by cases h), k2, e2, m2, d2⟩, f2⟩
  | 2, hq => cases hq; exact ⟨fun n z => ⟨fun k h => (by cases h), k3, e3, m3, d3⟩, f3⟩
  | k + 3, hq => simp [tys_] at hq
end
section
set_option maxRecDepth 100000
set_option maxHeartbeats 8000000 in
/-- the law's loop at its head -/
theorem law_loop {p : Program} {l : Launch} {e : Env} {s : State} {m : MethodId} {below : List Frame} {meth : Method} {c : Code} {b L : Nat} {xs : Nat → Int32} {G : va_G} {cI cB cL : ClassId} {o1 aI aO aK aS aB aR o2 bI bO bX bS bK bT bQ : Nat} (hL : L ≤ 384) (F : Fx p m c code 4 s #[Value.ref b] R_law meth ret) (hX : va_X b L xs s s.heap) (hbl : b < s.heap.size) :
    ∀ (n i : Nat), i ≤ 384 → L + 1 ≤ i + n → ∀ (on : Nat) (fI fO fK fS fB gI gO gx gs gK gT gQ : Nat → Int32) (fR : Nat → Int64) (H : Heap) (locs : List Loc) (ls : Array Slot), (on = 0 ∨ on = 1) → Iv fI fO fK fS fB gI gO gK gT gQ → Wd G (tys_ cI cB cL) (fun q : Nat => s.heap.size ≤ q) s H locs [(o1, obj 0 [.ref aI, .ref aO, .ref aK, .ref aS, .int (nI on), .ref aB, .ref aR]), (aI, arI cI 16 fI), (aO, arI cI 16 fO), (aK, arI cI 8 fK), (aS, arI cI 16 fS), (aB, arI cB 64 fB), (aR, arL cL 8 fR), (o2, obj 1 [.ref bI, .ref bO, .ref bX, .ref bS, .ref bK, .ref bT, .ref bQ, .int (nI on)]), (bI, arI cI 16 gI), (bO, arI cI 16 gO), (bX, arI cI 16 gx), (bS, arI cI 16 gs), (bK, arI cI 8 gK), (bT, arI cI 16 gT), (bQ, arI cI 64 gQ)] → lv_has ls 4 [(0, .ref b), (1, .ref o1), (2, .ref o2), (3, .int (nI i))] → W p l e room_1 s m #[Value.ref b] below meth c H locs 15 295 (lw_Z below #[Value.ref b] s) (F0 m 18 ls []) := by
  obtain ⟨⟨hx, hb, hml, hown, hts⟩, hr, hlocks⟩ := id F
  have hbA : ¬ (fun q : Nat => s.heap.size ≤ q) b := Nat.not_le.mpr hbl
  intro n
  induction n with
  | zero =>
    intro i hi hin on fI fO fK fS fB gI gO gx gs gK gT gQ fR H locs ls hon hI hW hl
    refine lv_iload_n hx hb dL_law_18 rfl (lv_at hl 3 rfl) ?_
    refine lv_aload_n hx hb dL_law_19 rfl (lv_at hl 0 rfl) ?_
    refine r_slen F hW hX hbl hbA dL_law_20 ?_
    refine lv_bipush (v := nI 6) hx hb dL_law_21 (by decide) ?_
    refine lv_isub hx hb dL_law_23 ?_
    refine lv_icmp_gt (tgt := 365) hx hb dL_law_24 (by decide) (fun hgt => ?_) (fun hle => ?_)
    · refine lv_iconst (v := 1) hx hb dL_law_365 (by decide) ?_
      refine va_forget (fun q h => hW.2.2.2.1.2.2 q h) ?_
      refine W.widen (k := 600000) (n := 7290000) (Nat.le_of_ble_eq_true rfl) (Nat.le_of_ble_eq_true rfl) ?_
      exact lw_ret hx hb hr hlocks dL_law_366
    · exact absurd ((law_gt hL hi).mpr (by omega)) hle
  | succ n ih =>
    intro i hi hin
    have fin : i + 6 ≤ 384 → ∀ (on : Nat) (fI fO fK fS fB gI gO gx gs gK gT gQ : Nat → Int32) (fR : Nat → Int64) (H : Heap) (locs : List Loc) (ls : Array Slot), (on = 0 ∨ on = 1) → Iv fI fO fK fS fB gI gO gK gT gQ → Wd G (tys_ cI cB cL) (fun q : Nat => s.heap.size ≤ q) s H locs [(o1, obj 0 [.ref aI, .ref aO, .ref aK, .ref aS, .int (nI on), .ref aB, .ref aR]), (aI, arI cI 16 fI), (aO, arI cI 16 fO), (aK, arI cI 8 fK), (aS, arI cI 16 fS), (aB, arI cB 64 fB), (aR, arL cL 8 fR), (o2, obj 1 [.ref bI, .ref bO, .ref bX, .ref bS, .ref bK, .ref bT, .ref bQ, .int (nI on)]), (bI, arI cI 16 gI), (bO, arI cI 16 gO), (bX, arI cI 16 gx), (bS, arI cI 16 gs), (bK, arI cI 8 gK), (bT, arI cI 16 gT), (bQ, arI cI 64 gQ)] → lv_has ls 4 [(0, .ref b), (1, .ref o1), (2, .ref o2), (3, .int (nI i))] → W p l e room_1 s m #[Value.ref b] below meth c H locs 15 295 (lw_Z below #[Value.ref b] s) (F0 m 359 ls []) := by
      intro hi6 on fI fO fK fS fB gI gO gx gs gK gT gQ fR H locs ls hon hI hW hl
      refine n_iinc (lv' := [(3, .int (nI (i + 6))), (0, .ref b), (1, .ref o1), (2, .ref o2)]) (k := 3) (d := 6) hx hb dL_law_359 hl rfl (by decide) (by decide) rfl (fun ls hl => ?_)
      refine lv_goto (tgt := 18) hx hb dL_law_362 (by decide) ?_
      exact ih (i + 6) (by omega) (by omega) on fI fO fK fS fB gI gO gx gs gK gT gQ fR H locs ls hon hI hW (lv_sub hl [1, 2, 3, 0] rfl)
    intro on fI fO fK fS fB gI gO gx gs gK gT gQ fR H locs ls hon hI hW hl
    refine lv_iload_n hx hb dL_law_18 rfl (lv_at hl 3 rfl) ?_
    refine lv_aload_n hx hb dL_law_19 rfl (lv_at hl 0 rfl) ?_
    refine r_slen F hW hX hbl hbA dL_law_20 ?_
    refine lv_bipush (v := nI 6) hx hb dL_law_21 (by decide) ?_
    refine lv_isub hx hb dL_law_23 ?_
    refine lv_icmp_gt (tgt := 365) hx hb dL_law_24 (by decide) (fun hgt => ?_) (fun hle => ?_)
    · refine lv_iconst (v := 1) hx hb dL_law_365 (by decide) ?_
      refine va_forget (fun q h => hW.2.2.2.1.2.2 q h) ?_
      refine W.widen (k := 600000) (n := 7290000) (Nat.le_of_ble_eq_true rfl) (Nat.le_of_ble_eq_true rfl) ?_
      exact lw_ret hx hb hr hlocks dL_law_366
    · have h6 : i + 6 ≤ L := by
        rcases Nat.lt_or_ge L (i + 6) with h | h
        · exact absurd ((law_gt hL hi).mpr h) hle
        · exact h
      have hi6 : i + 6 ≤ 384 := by omega
      obtain ⟨i1, i2, i3, i4, i5⟩ := id hI
      refine lv_aload_n hx hb dL_law_27 rfl (lv_at hl 0 rfl) ?_
      refine lv_iload_n hx hb dL_law_28 rfl (lv_at hl 3 rfl) ?_
      refine r_sld F hW hX hbl hbA hL i (by omega) dL_law_29 ?_
      refine lv_bipush (v := nI 15) hx hb dL_law_30 (by decide) ?_
      refine x_and hx hb 4 16 (by decide) (by decide) dL_law_32 ?_
      have hm16 : (xs i).toBitVec.toNat % 16 < 16 := Nat.mod_lt _ (by decide)
      generalize (xs i).toBitVec.toNat % 16 = mm at hm16 ⊢
      rcases (show mm = 0 ∨ mm = 1 ∨ mm = 2 ∨ mm = 3 ∨ mm = 4 ∨ mm = 5 ∨ mm = 6 ∨ mm = 7 ∨ mm = 8 ∨ 9 ≤ mm by omega) with rfl | rfl | rfl | rfl | rfl | rfl | rfl | rfl | rfl | h9
      · refine lv_tableIn (off := 51) (tgt := 84) hx hb dL_law_33 (by decide) (by decide) (by decide) (by decide) ?_
        refine lv_aload_n hx hb dL_law_84 rfl (lv_at hl 1 rfl) ?_
        refine lv_aload_n hx hb dL_law_85 rfl (lv_at hl 0 rfl) ?_
        refine lv_iload_n hx hb dL_law_86 rfl (lv_at hl 3 rfl) ?_
        refine lv_iconst (v := nI 1) hx hb dL_law_87 (by decide) ?_
        refine n_add hx hb dL_law_88 ?_
        refine r_sld F hW hX hbl hbA hL (i + 1) (by omega) dL_law_89 ?_
        refine lv_aload_n hx hb dL_law_90 rfl (lv_at hl 0 rfl) ?_
        refine lv_iload_n hx hb dL_law_91 rfl (lv_at hl 3 rfl) ?_
        refine lv_iconst (v := nI 2) hx hb dL_law_92 (by decide) ?_
        refine n_add hx hb dL_law_93 ?_
        refine r_sld F hW hX hbl hbA hL (i + 2) (by omega) dL_law_94 ?_
        refine lv_aload_n hx hb dL_law_95 rfl (lv_at hl 0 rfl) ?_
        refine lv_iload_n hx hb dL_law_96 rfl (lv_at hl 3 rfl) ?_
        refine lv_iconst (v := nI 3) hx hb dL_law_97 (by decide) ?_
        refine n_add hx hb dL_law_98 ?_
        refine r_sld F hW hX hbl hbA hL (i + 3) (by omega) dL_law_99 ?_
        refine lv_aload_n hx hb dL_law_100 rfl (lv_at hl 0 rfl) ?_
        refine lv_iload_n hx hb dL_law_101 rfl (lv_at hl 3 rfl) ?_
        refine lv_iconst (v := nI 4) hx hb dL_law_102 (by decide) ?_
        refine n_add hx hb dL_law_103 ?_
        refine r_sld F hW hX hbl hbA hL (i + 4) (by omega) dL_law_104 ?_
        refine lv_aload_n hx hb dL_law_105 rfl (lv_at hl 0 rfl) ?_
        refine lv_iload_n hx hb dL_law_106 rfl (lv_at hl 3 rfl) ?_
        refine lv_iconst (v := nI 5) hx hb dL_law_107 (by decide) ?_
        refine n_add hx hb dL_law_108 ?_
        refine r_sld F hW hX hbl hbA hL (i + 5) (by omega) dL_law_109 ?_
        refine k_V (rest := []) (wr := [(aO, arI cI 16 fO), (aK, arI cI 8 fK), (aS, arI cI 16 fS), (aB, arI cB 64 fB), (aR, arL cL 8 fR), (o2, obj 1 [.ref bI, .ref bO, .ref bX, .ref bS, .ref bK, .ref bT, .ref bQ, .int (nI on)]), (bI, arI cI 16 gI), (bO, arI cI 16 gO), (bX, arI cI 16 gx), (bS, arI cI 16 gs), (bK, arI cI 8 gK), (bT, arI cI 16 gT), (bQ, arI cI 64 gQ)]) (w' := [(o1, obj 0 [.ref aI, .ref aO, .ref aK, .ref aS, .int (nI on), .ref aB, .ref aR]), (aI, arI cI 16 (put4 (4 * ((xs (i + 1)).toBitVec.toNat % 4)) (xs (i + 2)) (xs (i + 3)) (xs (i + 4)) (xs (i + 5)) fI)), (aO, arI cI 16 fO), (aK, arI cI 8 fK), (aS, arI cI 16 fS), (aB, arI cB 64 fB), (aR, arL cL 8 fR), (o2, obj 1 [.ref bI, .ref bO, .ref bX, .ref bS, .ref bK, .ref bT, .ref bQ, .int (nI on)]), (bI, arI cI 16 gI), (bO, arI cI 16 gO), (bX, arI cI 16 gx), (bS, arI cI 16 gs), (bK, arI cI 8 gK), (bT, arI cI 16 gT), (bQ, arI cI 64 gQ)]) (q0 := 0) (ci := 0) F hW (ct_X0_put l G cI cB cL o1 aI [.ref aI, .ref aO, .ref aK, .ref aS, .int (nI on), .ref aB, .ref aR] rfl fI (xs (i + 1)) (xs (i + 2)) (xs (i + 3)) (xs (i + 4)) (xs (i + 5))) [0, 1] [2, 3, 4, 5, 6, 7, 8, 9, 10, 11, 12, 13, 14] [13, 14, 0, 1, 2, 3, 4, 5, 6, 7, 8, 9, 10, 11, 12] rfl rfl rfl rfl (by decide) rfl rfl rfl rfl g_X0_put ⟨rfl, rfl⟩ hd_X0_put ⟨Nat.le_of_ble_eq_true rfl, Nat.le_of_ble_eq_true rfl⟩ rfl hl.1 rfl (Nat.le_of_ble_eq_true rfl) dL_law_110 ⟨Nat.le_of_ble_eq_true rfl, Nat.le_of_ble_eq_true rfl⟩ (fun H locs hW => ?_)
        refine lv_aload_n hx hb dL_law_113 rfl (lv_at hl 2 rfl) ?_
        refine lv_aload_n hx hb dL_law_114 rfl (lv_at hl 0 rfl) ?_
        refine lv_iload_n hx hb dL_law_115 rfl (lv_at hl 3 rfl) ?_
        refine lv_iconst (v := nI 1) hx hb dL_law_116 (by decide) ?_
        refine n_add hx hb dL_law_117 ?_
        refine r_sld F hW hX hbl hbA hL (i + 1) (by omega) dL_law_118 ?_
        refine lv_aload_n hx hb dL_law_119 rfl (lv_at hl 0 rfl) ?_
        refine lv_iload_n hx hb dL_law_120 rfl (lv_at hl 3 rfl) ?_
        refine lv_iconst (v := nI 2) hx hb dL_law_121 (by decide) ?_
        refine n_add hx hb dL_law_122 ?_
        refine r_sld F hW hX hbl hbA hL (i + 2) (by omega) dL_law_123 ?_
        refine lv_aload_n hx hb dL_law_124 rfl (lv_at hl 0 rfl) ?_
        refine lv_iload_n hx hb dL_law_125 rfl (lv_at hl 3 rfl) ?_
        refine lv_iconst (v := nI 3) hx hb dL_law_126 (by decide) ?_
        refine n_add hx hb dL_law_127 ?_
        refine r_sld F hW hX hbl hbA hL (i + 3) (by omega) dL_law_128 ?_
        refine lv_aload_n hx hb dL_law_129 rfl (lv_at hl 0 rfl) ?_
        refine lv_iload_n hx hb dL_law_130 rfl (lv_at hl 3 rfl) ?_
        refine lv_iconst (v := nI 4) hx hb dL_law_131 (by decide) ?_
        refine n_add hx hb dL_law_132 ?_
        refine r_sld F hW hX hbl hbA hL (i + 4) (by omega) dL_law_133 ?_
        refine lv_aload_n hx hb dL_law_134 rfl (lv_at hl 0 rfl) ?_
        refine lv_iload_n hx hb dL_law_135 rfl (lv_at hl 3 rfl) ?_
        refine lv_iconst (v := nI 5) hx hb dL_law_136 (by decide) ?_
        refine n_add hx hb dL_law_137 ?_
        refine r_sld F hW hX hbl hbA hL (i + 5) (by omega) dL_law_138 ?_
        refine k_V (rest := []) (wr := [(o1, obj 0 [.ref aI, .ref aO, .ref aK, .ref aS, .int (nI on), .ref aB, .ref aR]), (aI, arI cI 16 (put4 (4 * ((xs (i + 1)).toBitVec.toNat % 4)) (xs (i + 2)) (xs (i + 3)) (xs (i + 4)) (xs (i + 5)) fI)), (aO, arI cI 16 fO), (aK, arI cI 8 fK), (aS, arI cI 16 fS), (aB, arI cB 64 fB), (aR, arL cL 8 fR), (bO, arI cI 16 gO), (bX, arI cI 16 gx), (bS, arI cI 16 gs), (bK, arI cI 8 gK), (bT, arI cI 16 gT), (bQ, arI cI 64 gQ)]) (w' := [(o1, obj 0 [.ref aI, .ref aO, .ref aK, .ref aS, .int (nI on), .ref aB, .ref aR]), (aI, arI cI 16 (put4 (4 * ((xs (i + 1)).toBitVec.toNat % 4)) (xs (i + 2)) (xs (i + 3)) (xs (i + 4)) (xs (i + 5)) fI)), (aO, arI cI 16 fO), (aK, arI cI 8 fK), (aS, arI cI 16 fS), (aB, arI cB 64 fB), (aR, arL cL 8 fR), (o2, obj 1 [.ref bI, .ref bO, .ref bX, .ref bS, .ref bK, .ref bT, .ref bQ, .int (nI on)]), (bI, arI cI 16 (put4 (((xs (i + 1)).toBitVec.toNat % 4) * 4) (xs (i + 2)) (xs (i + 3)) (xs (i + 4)) (xs (i + 5)) gI)), (bO, arI cI 16 gO), (bX, arI cI 16 gx), (bS, arI cI 16 gs), (bK, arI cI 8 gK), (bT, arI cI 16 gT), (bQ, arI cI 64 gQ)]) (q0 := 0) (ci := 1) F hW (ct_X1_put l G cI cB cL o2 bI [.ref bI, .ref bO, .ref bX, .ref bS, .ref bK, .ref bT, .ref bQ, .int (nI on)] rfl gI (xs (i + 1)) (xs (i + 2)) (xs (i + 3)) (xs (i + 4)) (xs (i + 5))) [7, 8] [0, 1, 2, 3, 4, 5, 6, 9, 10, 11, 12, 13, 14] [0, 1, 2, 3, 4, 5, 6, 13, 14, 7, 8, 9, 10, 11, 12] rfl rfl rfl rfl (by decide) rfl rfl rfl rfl g_X1_put ⟨rfl, rfl⟩ hd_X1_put ⟨Nat.le_of_ble_eq_true rfl, Nat.le_of_ble_eq_true rfl⟩ rfl hl.1 rfl (Nat.le_of_ble_eq_true rfl) dL_law_139 ⟨Nat.le_of_ble_eq_true rfl, Nat.le_of_ble_eq_true rfl⟩ (fun H locs hW => ?_)
        refine lv_goto (tgt := 359) hx hb dL_law_142 (by decide) ?_
        exact fin hi6 on (put4 (4 * ((xs (i + 1)).toBitVec.toNat % 4)) (xs (i + 2)) (xs (i + 3)) (xs (i + 4)) (xs (i + 5)) fI) fO fK fS fB (put4 (((xs (i + 1)).toBitVec.toNat % 4) * 4) (xs (i + 2)) (xs (i + 3)) (xs (i + 4)) (xs (i + 5)) gI) gO gx gs gK gT gQ fR H locs ls hon ⟨put_law (by omega) _ _ _ _ i1, i2, i3, i4, i5⟩ hW (lv_sub hl [0, 1, 2, 3] rfl)
      · refine lv_tableIn (off := 112) (tgt := 145) hx hb dL_law_33 (by decide) (by decide) (by decide) (by decide) ?_
        refine lv_aload_n hx hb dL_law_145 rfl (lv_at hl 1 rfl) ?_
        refine lv_aload_n hx hb dL_law_146 rfl (lv_at hl 0 rfl) ?_
        refine lv_iload_n hx hb dL_law_147 rfl (lv_at hl 3 rfl) ?_
        refine lv_iconst (v := nI 1) hx hb dL_law_148 (by decide) ?_
        refine n_add hx hb dL_law_149 ?_
        refine r_sld F hW hX hbl hbA hL (i + 1) (by omega) dL_law_150 ?_
        refine k_V (rest := []) (wr := [(aK, arI cI 8 fK), (aS, arI cI 16 fS), (aB, arI cB 64 fB), (o2, obj 1 [.ref bI, .ref bO, .ref bX, .ref bS, .ref bK, .ref bT, .ref bQ, .int (nI on)]), (bI, arI cI 16 gI), (bO, arI cI 16 gO), (bX, arI cI 16 gx), (bS, arI cI 16 gs), (bK, arI cI 8 gK), (bT, arI cI 16 gT), (bQ, arI cI 64 gQ)]) (w' := [(o1, obj 0 [.ref aI, .ref aO, .ref aK, .ref aS, .int (nI on), .ref aB, .ref aR]), (aI, arI cI 16 fI), (aO, arI cI 16 (mixAo (1 + (xs (i + 1)).toBitVec.toNat % 16) fI fR fO)), (aK, arI cI 8 fK), (aS, arI cI 16 fS), (aB, arI cB 64 fB), (aR, arL cL 8 (rowA (1 + (xs (i + 1)).toBitVec.toNat % 16) fI fR)), (o2, obj 1 [.ref bI, .ref bO, .ref bX, .ref bS, .ref bK, .ref bT, .ref bQ, .int (nI on)]), (bI, arI cI 16 gI), (bO, arI cI 16 gO), (bX, arI cI 16 gx), (bS, arI cI 16 gs), (bK, arI cI 8 gK), (bT, arI cI 16 gT), (bQ, arI cI 64 gQ)]) (q0 := 0) (ci := 0) F hW (ct_X0_salsa l G cI cB cL o1 aI aO aR [.ref aI, .ref aO, .ref aK, .ref aS, .int (nI on), .ref aB, .ref aR] rfl rfl rfl fI fO fR (xs (i + 1))) [0, 1, 2, 6] [3, 4, 5, 7, 8, 9, 10, 11, 12, 13, 14] [11, 12, 13, 0, 1, 2, 14, 3, 4, 5, 6, 7, 8, 9, 10] rfl rfl rfl rfl (by decide) rfl rfl rfl rfl g_X0_salsa ⟨rfl, rfl⟩ hd_X0_salsa ⟨Nat.le_of_ble_eq_true rfl, Nat.le_of_ble_eq_true rfl⟩ rfl hl.1 rfl (Nat.le_of_ble_eq_true rfl) dL_law_151 ⟨Nat.le_of_ble_eq_true rfl, Nat.le_of_ble_eq_true rfl⟩ (fun H locs hW => ?_)
        refine lv_aload_n hx hb dL_law_154 rfl (lv_at hl 2 rfl) ?_
        refine lv_aload_n hx hb dL_law_155 rfl (lv_at hl 0 rfl) ?_
        refine lv_iload_n hx hb dL_law_156 rfl (lv_at hl 3 rfl) ?_
        refine lv_iconst (v := nI 1) hx hb dL_law_157 (by decide) ?_
        refine n_add hx hb dL_law_158 ?_
        refine r_sld F hW hX hbl hbA hL (i + 1) (by omega) dL_law_159 ?_
        refine k_V (rest := []) (wr := [(o1, obj 0 [.ref aI, .ref aO, .ref aK, .ref aS, .int (nI on), .ref aB, .ref aR]), (aI, arI cI 16 fI), (aO, arI cI 16 (mixAo (1 + (xs (i + 1)).toBitVec.toNat % 16) fI fR fO)), (aK, arI cI 8 fK), (aS, arI cI 16 fS), (aB, arI cB 64 fB), (aR, arL cL 8 (rowA (1 + (xs (i + 1)).toBitVec.toNat % 16) fI fR)), (bK, arI cI 8 gK), (bT, arI cI 16 gT), (bQ, arI cI 64 gQ)]) (w' := [(o1, obj 0 [.ref aI, .ref aO, .ref aK, .ref aS, .int (nI on), .ref aB, .ref aR]), (aI, arI cI 16 fI), (aO, arI cI 16 (mixAo (1 + (xs (i + 1)).toBitVec.toNat % 16) fI fR fO)), (aK, arI cI 8 fK), (aS, arI cI 16 fS), (aB, arI cB 64 fB), (aR, arL cL 8 (rowA (1 + (xs (i + 1)).toBitVec.toNat % 16) fI fR)), (o2, obj 1 [.ref bI, .ref bO, .ref bX, .ref bS, .ref bK, .ref bT, .ref bQ, .int (nI on)]), (bI, arI cI 16 gI), (bO, arI cI 16 (it_ (cpK (coreG rS (2 + 2 * ((xs (i + 1)).toBitVec.toNat % 16)) (it_ (cpK gI) 16 gs) gx)) 16 gO)), (bX, arI cI 16 (coreG rS (2 + 2 * ((xs (i + 1)).toBitVec.toNat % 16)) (it_ (cpK gI) 16 gs) gx)), (bS, arI cI 16 (it_ (cpK gI) 16 gs)), (bK, arI cI 8 gK), (bT, arI cI 16 gT), (bQ, arI cI 64 gQ)]) (q0 := 0) (ci := 1) F hW (ct_X1_salsa l G cI cB cL o2 bI bO bX bS [.ref bI, .ref bO, .ref bX, .ref bS, .ref bK, .ref bT, .ref bQ, .int (nI on)] rfl rfl rfl rfl gI gO gx gs (xs (i + 1))) [7, 8, 9, 10, 11] [0, 1, 2, 3, 4, 5, 6, 12, 13, 14] [0, 1, 2, 3, 4, 5, 6, 10, 11, 12, 13, 14, 7, 8, 9] rfl rfl rfl rfl (by decide) rfl rfl rfl rfl g_X1_salsa ⟨rfl, rfl⟩ hd_X1_salsa ⟨Nat.le_of_ble_eq_true rfl, Nat.le_of_ble_eq_true rfl⟩ rfl hl.1 rfl (Nat.le_of_ble_eq_true rfl) dL_law_160 ⟨Nat.le_of_ble_eq_true rfl, Nat.le_of_ble_eq_true rfl⟩ (fun H locs hW => ?_)
        refine lv_goto (tgt := 359) hx hb dL_law_163 (by decide) ?_
        exact fin hi6 on fI (mixAo (1 + (xs (i + 1)).toBitVec.toNat % 16) fI fR fO) fK fS fB gI (it_ (cpK (coreG rS (2 + 2 * ((xs (i + 1)).toBitVec.toNat % 16)) (it_ (cpK gI) 16 gs) gx)) 16 gO) (coreG rS (2 + 2 * ((xs (i + 1)).toBitVec.toNat % 16)) (it_ (cpK gI) 16 gs) gx) (it_ (cpK gI) 16 gs) gK gT gQ (rowA (1 + (xs (i + 1)).toBitVec.toNat % 16) fI fR) H locs ls hon ⟨i1, (by rw [show 2 + 2 * ((xs (i + 1)).toBitVec.toNat % 16) = 2 * (1 + (xs (i + 1)).toBitVec.toNat % 16) by omega]; exact salsa_law _ i1), i3, i4, i5⟩ hW (lv_sub hl [0, 1, 2, 3] rfl)
      · refine lv_tableIn (off := 133) (tgt := 166) hx hb dL_law_33 (by decide) (by decide) (by decide) (by decide) ?_
        refine lv_aload_n hx hb dL_law_166 rfl (lv_at hl 1 rfl) ?_
        refine lv_aload_n hx hb dL_law_167 rfl (lv_at hl 0 rfl) ?_
        refine lv_iload_n hx hb dL_law_168 rfl (lv_at hl 3 rfl) ?_
        refine lv_iconst (v := nI 1) hx hb dL_law_169 (by decide) ?_
        refine n_add hx hb dL_law_170 ?_
        refine r_sld F hW hX hbl hbA hL (i + 1) (by omega) dL_law_171 ?_
        refine k_V (rest := []) (wr := [(aK, arI cI 8 fK), (aS, arI cI 16 fS), (aB, arI cB 64 fB), (o2, obj 1 [.ref bI, .ref bO, .ref bX, .ref bS, .ref bK, .ref bT, .ref bQ, .int (nI on)]), (bI, arI cI 16 gI), (bO, arI cI 16 gO), (bX, arI cI 16 gx), (bS, arI cI 16 gs), (bK, arI cI 8 gK), (bT, arI cI 16 gT), (bQ, arI cI 64 gQ)]) (w' := [(o1, obj 0 [.ref aI, .ref aO, .ref aK, .ref aS, .int (nI on), .ref aB, .ref aR]), (aI, arI cI 16 fI), (aO, arI cI 16 (it_ (outB fI (rowB (1 + (xs (i + 1)).toBitVec.toNat % 16) fI fR)) 16 fO)), (aK, arI cI 8 fK), (aS, arI cI 16 fS), (aB, arI cB 64 fB), (aR, arL cL 8 (rowB (1 + (xs (i + 1)).toBitVec.toNat % 16) fI fR)), (o2, obj 1 [.ref bI, .ref bO, .ref bX, .ref bS, .ref bK, .ref bT, .ref bQ, .int (nI on)]), (bI, arI cI 16 gI), (bO, arI cI 16 gO), (bX, arI cI 16 gx), (bS, arI cI 16 gs), (bK, arI cI 8 gK), (bT, arI cI 16 gT), (bQ, arI cI 64 gQ)]) (q0 := 0) (ci := 0) F hW (ct_X0_chacha l G cI cB cL o1 aI aO aR [.ref aI, .ref aO, .ref aK, .ref aS, .int (nI on), .ref aB, .ref aR] rfl rfl rfl fI fO fR (xs (i + 1))) [0, 1, 2, 6] [3, 4, 5, 7, 8, 9, 10, 11, 12, 13, 14] [11, 12, 13, 0, 1, 2, 14, 3, 4, 5, 6, 7, 8, 9, 10] rfl rfl rfl rfl (by decide) rfl rfl rfl rfl g_X0_chacha ⟨rfl, rfl⟩ hd_X0_chacha ⟨Nat.le_of_ble_eq_true rfl, Nat.le_of_ble_eq_true rfl⟩ rfl hl.1 rfl (Nat.le_of_ble_eq_true rfl) dL_law_172 ⟨Nat.le_of_ble_eq_true rfl, Nat.le_of_ble_eq_true rfl⟩ (fun H locs hW => ?_)
        refine lv_aload_n hx hb dL_law_175 rfl (lv_at hl 2 rfl) ?_
        refine lv_aload_n hx hb dL_law_176 rfl (lv_at hl 0 rfl) ?_
        refine lv_iload_n hx hb dL_law_177 rfl (lv_at hl 3 rfl) ?_
        refine lv_iconst (v := nI 1) hx hb dL_law_178 (by decide) ?_
        refine n_add hx hb dL_law_179 ?_
        refine r_sld F hW hX hbl hbA hL (i + 1) (by omega) dL_law_180 ?_
        refine k_V (rest := []) (wr := [(o1, obj 0 [.ref aI, .ref aO, .ref aK, .ref aS, .int (nI on), .ref aB, .ref aR]), (aI, arI cI 16 fI), (aO, arI cI 16 (it_ (outB fI (rowB (1 + (xs (i + 1)).toBitVec.toNat % 16) fI fR)) 16 fO)), (aK, arI cI 8 fK), (aS, arI cI 16 fS), (aB, arI cB 64 fB), (aR, arL cL 8 (rowB (1 + (xs (i + 1)).toBitVec.toNat % 16) fI fR)), (bK, arI cI 8 gK), (bT, arI cI 16 gT), (bQ, arI cI 64 gQ)]) (w' := [(o1, obj 0 [.ref aI, .ref aO, .ref aK, .ref aS, .int (nI on), .ref aB, .ref aR]), (aI, arI cI 16 fI), (aO, arI cI 16 (it_ (outB fI (rowB (1 + (xs (i + 1)).toBitVec.toNat % 16) fI fR)) 16 fO)), (aK, arI cI 8 fK), (aS, arI cI 16 fS), (aB, arI cB 64 fB), (aR, arL cL 8 (rowB (1 + (xs (i + 1)).toBitVec.toNat % 16) fI fR)), (o2, obj 1 [.ref bI, .ref bO, .ref bX, .ref bS, .ref bK, .ref bT, .ref bQ, .int (nI on)]), (bI, arI cI 16 gI), (bO, arI cI 16 (it_ (cpK (coreG rC (2 + 2 * ((xs (i + 1)).toBitVec.toNat % 16)) (it_ (cpK gI) 16 gs) gx)) 16 gO)), (bX, arI cI 16 (coreG rC (2 + 2 * ((xs (i + 1)).toBitVec.toNat % 16)) (it_ (cpK gI) 16 gs) gx)), (bS, arI cI 16 (it_ (cpK gI) 16 gs)), (bK, arI cI 8 gK), (bT, arI cI 16 gT), (bQ, arI cI 64 gQ)]) (q0 := 0) (ci := 1) F hW (ct_X1_chacha l G cI cB cL o2 bI bO bX bS [.ref bI, .ref bO, .ref bX, .ref bS, .ref bK, .ref bT, .ref bQ, .int (nI on)] rfl rfl rfl rfl gI gO gx gs (xs (i + 1))) [7, 8, 9, 10, 11] [0, 1, 2, 3, 4, 5, 6, 12, 13, 14] [0, 1, 2, 3, 4, 5, 6, 10, 11, 12, 13, 14, 7, 8, 9] rfl rfl rfl rfl (by decide) rfl rfl rfl rfl g_X1_chacha ⟨rfl, rfl⟩ hd_X1_chacha ⟨Nat.le_of_ble_eq_true rfl, Nat.le_of_ble_eq_true rfl⟩ rfl hl.1 rfl (Nat.le_of_ble_eq_true rfl) dL_law_181 ⟨Nat.le_of_ble_eq_true rfl, Nat.le_of_ble_eq_true rfl⟩ (fun H locs hW => ?_)
        refine lv_goto (tgt := 359) hx hb dL_law_184 (by decide) ?_
        exact fin hi6 on fI (it_ (outB fI (rowB (1 + (xs (i + 1)).toBitVec.toNat % 16) fI fR)) 16 fO) fK fS fB gI (it_ (cpK (coreG rC (2 + 2 * ((xs (i + 1)).toBitVec.toNat % 16)) (it_ (cpK gI) 16 gs) gx)) 16 gO) (coreG rC (2 + 2 * ((xs (i + 1)).toBitVec.toNat % 16)) (it_ (cpK gI) 16 gs) gx) (it_ (cpK gI) 16 gs) gK gT gQ (rowB (1 + (xs (i + 1)).toBitVec.toNat % 16) fI fR) H locs ls hon ⟨i1, (by rw [show 2 + 2 * ((xs (i + 1)).toBitVec.toNat % 16) = 2 * (1 + (xs (i + 1)).toBitVec.toNat % 16) by omega]; exact chacha_law _ i1), i3, i4, i5⟩ hW (lv_sub hl [0, 1, 2, 3] rfl)
      · refine lv_tableIn (off := 154) (tgt := 187) hx hb dL_law_33 (by decide) (by decide) (by decide) (by decide) ?_
        refine lv_aload_n hx hb dL_law_187 rfl (lv_at hl 1 rfl) ?_
        refine k_V (rest := []) (wr := [(aK, arI cI 8 fK), (aS, arI cI 16 fS), (aB, arI cB 64 fB), (aR, arL cL 8 fR), (o2, obj 1 [.ref bI, .ref bO, .ref bX, .ref bS, .ref bK, .ref bT, .ref bQ, .int (nI on)]), (bI, arI cI 16 gI), (bO, arI cI 16 gO), (bX, arI cI 16 gx), (bS, arI cI 16 gs), (bK, arI cI 8 gK), (bT, arI cI 16 gT), (bQ, arI cI 64 gQ)]) (w' := [(o1, obj 0 [.ref aI, .ref aO, .ref aK, .ref aS, .int (nI on), .ref aB, .ref aR]), (aI, arI cI 16 (it_ (cpK fO) 16 fI)), (aO, arI cI 16 fO), (aK, arI cI 8 fK), (aS, arI cI 16 fS), (aB, arI cB 64 fB), (aR, arL cL 8 fR), (o2, obj 1 [.ref bI, .ref bO, .ref bX, .ref bS, .ref bK, .ref bT, .ref bQ, .int (nI on)]), (bI, arI cI 16 gI), (bO, arI cI 16 gO), (bX, arI cI 16 gx), (bS, arI cI 16 gs), (bK, arI cI 8 gK), (bT, arI cI 16 gT), (bQ, arI cI 64 gQ)]) (q0 := 0) (ci := 0) F hW (ct_X0_again l G cI cB cL o1 aI aO [.ref aI, .ref aO, .ref aK, .ref aS, .int (nI on), .ref aB, .ref aR] rfl rfl fI fO) [0, 1, 2] [3, 4, 5, 6, 7, 8, 9, 10, 11, 12, 13, 14] [12, 13, 14, 0, 1, 2, 3, 4, 5, 6, 7, 8, 9, 10, 11] rfl rfl rfl rfl (by decide) rfl rfl rfl rfl g_X0_again ⟨rfl, rfl⟩ hd_X0_again ⟨Nat.le_of_ble_eq_true rfl, Nat.le_of_ble_eq_true rfl⟩ rfl hl.1 rfl (Nat.le_of_ble_eq_true rfl) dL_law_188 ⟨Nat.le_of_ble_eq_true rfl, Nat.le_of_ble_eq_true rfl⟩ (fun H locs hW => ?_)
        refine lv_aload_n hx hb dL_law_191 rfl (lv_at hl 2 rfl) ?_
        refine k_V (rest := []) (wr := [(o1, obj 0 [.ref aI, .ref aO, .ref aK, .ref aS, .int (nI on), .ref aB, .ref aR]), (aI, arI cI 16 (it_ (cpK fO) 16 fI)), (aO, arI cI 16 fO), (aK, arI cI 8 fK), (aS, arI cI 16 fS), (aB, arI cB 64 fB), (aR, arL cL 8 fR), (bX, arI cI 16 gx), (bS, arI cI 16 gs), (bK, arI cI 8 gK), (bT, arI cI 16 gT), (bQ, arI cI 64 gQ)]) (w' := [(o1, obj 0 [.ref aI, .ref aO, .ref aK, .ref aS, .int (nI on), .ref aB, .ref aR]), (aI, arI cI 16 (it_ (cpK fO) 16 fI)), (aO, arI cI 16 fO), (aK, arI cI 8 fK), (aS, arI cI 16 fS), (aB, arI cB 64 fB), (aR, arL cL 8 fR), (o2, obj 1 [.ref bI, .ref bO, .ref bX, .ref bS, .ref bK, .ref bT, .ref bQ, .int (nI on)]), (bI, arI cI 16 (it_ (cpK gO) 16 gI)), (bO, arI cI 16 gO), (bX, arI cI 16 gx), (bS, arI cI 16 gs), (bK, arI cI 8 gK), (bT, arI cI 16 gT), (bQ, arI cI 64 gQ)]) (q0 := 0) (ci := 1) F hW (ct_X1_again l G cI cB cL o2 bI bO [.ref bI, .ref bO, .ref bX, .ref bS, .ref bK, .ref bT, .ref bQ, .int (nI on)] rfl rfl gI gO) [7, 8, 9] [0, 1, 2, 3, 4, 5, 6, 10, 11, 12, 13, 14] [0, 1, 2, 3, 4, 5, 6, 12, 13, 14, 7, 8, 9, 10, 11] rfl rfl rfl rfl (by decide) rfl rfl rfl rfl g_X1_again ⟨rfl, rfl⟩ hd_X1_again ⟨Nat.le_of_ble_eq_true rfl, Nat.le_of_ble_eq_true rfl⟩ rfl hl.1 rfl (Nat.le_of_ble_eq_true rfl) dL_law_192 ⟨Nat.le_of_ble_eq_true rfl, Nat.le_of_ble_eq_true rfl⟩ (fun H locs hW => ?_)
        refine lv_goto (tgt := 359) hx hb dL_law_195 (by decide) ?_
        exact fin hi6 on (it_ (cpK fO) 16 fI) fO fK fS fB (it_ (cpK gO) 16 gI) gO gx gs gK gT gQ fR H locs ls hon ⟨(fun j hj => by rw [cp_at _ _ hj, cp_at _ _ hj]; exact i2 j hj), i2, i3, i4, i5⟩ hW (lv_sub hl [0, 1, 2, 3] rfl)
      · refine lv_tableIn (off := 165) (tgt := 198) hx hb dL_law_33 (by decide) (by decide) (by decide) (by decide) ?_
        refine lv_aload_n hx hb dL_law_198 rfl (lv_at hl 1 rfl) ?_
        refine lv_aload_n hx hb dL_law_199 rfl (lv_at hl 0 rfl) ?_
        refine lv_iload_n hx hb dL_law_200 rfl (lv_at hl 3 rfl) ?_
        refine lv_iconst (v := nI 1) hx hb dL_law_201 (by decide) ?_
        refine n_add hx hb dL_law_202 ?_
        refine r_sld F hW hX hbl hbA hL (i + 1) (by omega) dL_law_203 ?_
        refine k_VI (rest := []) (wr := [(aI, arI cI 16 fI), (aK, arI cI 8 fK), (aS, arI cI 16 fS), (aB, arI cB 64 fB), (aR, arL cL 8 fR), (o2, obj 1 [.ref bI, .ref bO, .ref bX, .ref bS, .ref bK, .ref bT, .ref bQ, .int (nI on)]), (bI, arI cI 16 gI), (bO, arI cI 16 gO), (bX, arI cI 16 gx), (bS, arI cI 16 gs), (bK, arI cI 8 gK), (bT, arI cI 16 gT), (bQ, arI cI 64 gQ)]) (w' := [(o1, obj 0 [.ref aI, .ref aO, .ref aK, .ref aS, .int (nI on), .ref aB, .ref aR]), (aI, arI cI 16 fI), (aO, arI cI 16 fO), (aK, arI cI 8 fK), (aS, arI cI 16 fS), (aB, arI cB 64 fB), (aR, arL cL 8 fR), (o2, obj 1 [.ref bI, .ref bO, .ref bX, .ref bS, .ref bK, .ref bT, .ref bQ, .int (nI on)]), (bI, arI cI 16 gI), (bO, arI cI 16 gO), (bX, arI cI 16 gx), (bS, arI cI 16 gs), (bK, arI cI 8 gK), (bT, arI cI 16 gT), (bQ, arI cI 64 gQ)]) (q0 := 0) (ci := 0) F hW (ct_X0_out l G cI cB cL o1 aO [.ref aI, .ref aO, .ref aK, .ref aS, .int (nI on), .ref aB, .ref aR] rfl fO (xs (i + 1))) [0, 2] [1, 3, 4, 5, 6, 7, 8, 9, 10, 11, 12, 13, 14] [13, 0, 14, 1, 2, 3, 4, 5, 6, 7, 8, 9, 10, 11, 12] rfl rfl rfl rfl (by decide) rfl rfl rfl rfl g_X0_out ⟨rfl, rfl⟩ hd_X0_out ⟨Nat.le_of_ble_eq_true rfl, Nat.le_of_ble_eq_true rfl⟩ rfl hl.1 rfl (Nat.le_of_ble_eq_true rfl) dL_law_204 ⟨Nat.le_of_ble_eq_true rfl, Nat.le_of_ble_eq_true rfl⟩ (fun H locs hW => ?_)
        refine lv_aload_n hx hb dL_law_207 rfl (lv_at hl 2 rfl) ?_
        refine lv_aload_n hx hb dL_law_208 rfl (lv_at hl 0 rfl) ?_
        refine lv_iload_n hx hb dL_law_209 rfl (lv_at hl 3 rfl) ?_
        refine lv_iconst (v := nI 1) hx hb dL_law_210 (by decide) ?_
        refine n_add hx hb dL_law_211 ?_
        refine r_sld F hW hX hbl hbA hL (i + 1) (by omega) dL_law_212 ?_
        refine k_VI (rest := [.int (fO ((xs (i + 1)).toBitVec.toNat % 16))]) (wr := [(o1, obj 0 [.ref aI, .ref aO, .ref aK, .ref aS, .int (nI on), .ref aB, .ref aR]), (aI, arI cI 16 fI), (aO, arI cI 16 fO), (aK, arI cI 8 fK), (aS, arI cI 16 fS), (aB, arI cB 64 fB), (aR, arL cL 8 fR), (bI, arI cI 16 gI), (bX, arI cI 16 gx), (bS, arI cI 16 gs), (bK, arI cI 8 gK), (bT, arI cI 16 gT), (bQ, arI cI 64 gQ)]) (w' := [(o1, obj 0 [.ref aI, .ref aO, .ref aK, .ref aS, .int (nI on), .ref aB, .ref aR]), (aI, arI cI 16 fI), (aO, arI cI 16 fO), (aK, arI cI 8 fK), (aS, arI cI 16 fS), (aB, arI cB 64 fB), (aR, arL cL 8 fR), (o2, obj 1 [.ref bI, .ref bO, .ref bX, .ref bS, .ref bK, .ref bT, .ref bQ, .int (nI on)]), (bI, arI cI 16 gI), (bO, arI cI 16 gO), (bX, arI cI 16 gx), (bS, arI cI 16 gs), (bK, arI cI 8 gK), (bT, arI cI 16 gT), (bQ, arI cI 64 gQ)]) (q0 := 0) (ci := 1) F hW (ct_X1_out l G cI cB cL o2 bO [.ref bI, .ref bO, .ref bX, .ref bS, .ref bK, .ref bT, .ref bQ, .int (nI on)] rfl gO (xs (i + 1))) [7, 9] [0, 1, 2, 3, 4, 5, 6, 8, 10, 11, 12, 13, 14] [0, 1, 2, 3, 4, 5, 6, 13, 7, 14, 8, 9, 10, 11, 12] rfl rfl rfl rfl (by decide) rfl rfl rfl rfl g_X1_out ⟨rfl, rfl⟩ hd_X1_out ⟨Nat.le_of_ble_eq_true rfl, Nat.le_of_ble_eq_true rfl⟩ rfl hl.1 rfl (Nat.le_of_ble_eq_true rfl) dL_law_213 ⟨Nat.le_of_ble_eq_true rfl, Nat.le_of_ble_eq_true rfl⟩ (fun H locs hW => ?_)
        refine lv_icmp_eq (tgt := 359) hx hb dL_law_216 (by decide) (fun _ => ?_) (fun hne => absurd (i2 _ (Nat.mod_lt _ (by decide))) hne)
        exact fin hi6 on fI fO fK fS fB gI gO gx gs gK gT gQ fR H locs ls hon ⟨i1, i2, i3, i4, i5⟩ hW (lv_sub hl [0, 1, 2, 3] rfl)
      · refine lv_tableIn (off := 188) (tgt := 221) hx hb dL_law_33 (by decide) (by decide) (by decide) (by decide) ?_
        refine lv_aload_n hx hb dL_law_221 rfl (lv_at hl 1 rfl) ?_
        refine lv_aload_n hx hb dL_law_222 rfl (lv_at hl 0 rfl) ?_
        refine lv_iload_n hx hb dL_law_223 rfl (lv_at hl 3 rfl) ?_
        refine lv_iconst (v := nI 1) hx hb dL_law_224 (by decide) ?_
        refine n_add hx hb dL_law_225 ?_
        refine r_sld F hW hX hbl hbA hL (i + 1) (by omega) dL_law_226 ?_
        refine lv_aload_n hx hb dL_law_227 rfl (lv_at hl 0 rfl) ?_
        refine lv_iload_n hx hb dL_law_228 rfl (lv_at hl 3 rfl) ?_
        refine lv_iconst (v := nI 2) hx hb dL_law_229 (by decide) ?_
        refine n_add hx hb dL_law_230 ?_
        refine r_sld F hW hX hbl hbA hL (i + 2) (by omega) dL_law_231 ?_
        refine lv_aload_n hx hb dL_law_232 rfl (lv_at hl 0 rfl) ?_
        refine lv_iload_n hx hb dL_law_233 rfl (lv_at hl 3 rfl) ?_
        refine lv_iconst (v := nI 3) hx hb dL_law_234 (by decide) ?_
        refine n_add hx hb dL_law_235 ?_
        refine r_sld F hW hX hbl hbA hL (i + 3) (by omega) dL_law_236 ?_
        refine lv_aload_n hx hb dL_law_237 rfl (lv_at hl 0 rfl) ?_
        refine lv_iload_n hx hb dL_law_238 rfl (lv_at hl 3 rfl) ?_
        refine lv_iconst (v := nI 4) hx hb dL_law_239 (by decide) ?_
        refine n_add hx hb dL_law_240 ?_
        refine r_sld F hW hX hbl hbA hL (i + 4) (by omega) dL_law_241 ?_
        refine lv_aload_n hx hb dL_law_242 rfl (lv_at hl 0 rfl) ?_
        refine lv_iload_n hx hb dL_law_243 rfl (lv_at hl 3 rfl) ?_
        refine lv_iconst (v := nI 5) hx hb dL_law_244 (by decide) ?_
        refine n_add hx hb dL_law_245 ?_
        refine r_sld F hW hX hbl hbA hL (i + 5) (by omega) dL_law_246 ?_
        refine k_V (rest := []) (wr := [(aI, arI cI 16 fI), (aO, arI cI 16 fO), (aS, arI cI 16 fS), (aB, arI cB 64 fB), (aR, arL cL 8 fR), (o2, obj 1 [.ref bI, .ref bO, .ref bX, .ref bS, .ref bK, .ref bT, .ref bQ, .int (nI on)]), (bI, arI cI 16 gI), (bO, arI cI 16 gO), (bX, arI cI 16 gx), (bS, arI cI 16 gs), (bK, arI cI 8 gK), (bT, arI cI 16 gT), (bQ, arI cI 64 gQ)]) (w' := [(o1, obj 0 [.ref aI, .ref aO, .ref aK, .ref aS, .int (nI on), .ref aB, .ref aR]), (aI, arI cI 16 fI), (aO, arI cI 16 fO), (aK, arI cI 8 (put4 (4 * ((xs (i + 1)).toBitVec.toNat % 2)) (xs (i + 2)) (xs (i + 3)) (xs (i + 4)) (xs (i + 5)) fK)), (aS, arI cI 16 fS), (aB, arI cB 64 fB), (aR, arL cL 8 fR), (o2, obj 1 [.ref bI, .ref bO, .ref bX, .ref bS, .ref bK, .ref bT, .ref bQ, .int (nI on)]), (bI, arI cI 16 gI), (bO, arI cI 16 gO), (bX, arI cI 16 gx), (bS, arI cI 16 gs), (bK, arI cI 8 gK), (bT, arI cI 16 gT), (bQ, arI cI 64 gQ)]) (q0 := 0) (ci := 0) F hW (ct_X0_key l G cI cB cL o1 aK [.ref aI, .ref aO, .ref aK, .ref aS, .int (nI on), .ref aB, .ref aR] rfl fK (xs (i + 1)) (xs (i + 2)) (xs (i + 3)) (xs (i + 4)) (xs (i + 5))) [0, 3] [1, 2, 4, 5, 6, 7, 8, 9, 10, 11, 12, 13, 14] [13, 0, 1, 14, 2, 3, 4, 5, 6, 7, 8, 9, 10, 11, 12] rfl rfl rfl rfl (by decide) rfl rfl rfl rfl g_X0_key ⟨rfl, rfl⟩ hd_X0_key ⟨Nat.le_of_ble_eq_true rfl, Nat.le_of_ble_eq_true rfl⟩ rfl hl.1 rfl (Nat.le_of_ble_eq_true rfl) dL_law_247 ⟨Nat.le_of_ble_eq_true rfl, Nat.le_of_ble_eq_true rfl⟩ (fun H locs hW => ?_)
        refine lv_aload_n hx hb dL_law_250 rfl (lv_at hl 2 rfl) ?_
        refine lv_aload_n hx hb dL_law_251 rfl (lv_at hl 0 rfl) ?_
        refine lv_iload_n hx hb dL_law_252 rfl (lv_at hl 3 rfl) ?_
        refine lv_iconst (v := nI 1) hx hb dL_law_253 (by decide) ?_
        refine n_add hx hb dL_law_254 ?_
        refine r_sld F hW hX hbl hbA hL (i + 1) (by omega) dL_law_255 ?_
        refine lv_aload_n hx hb dL_law_256 rfl (lv_at hl 0 rfl) ?_
        refine lv_iload_n hx hb dL_law_257 rfl (lv_at hl 3 rfl) ?_
        refine lv_iconst (v := nI 2) hx hb dL_law_258 (by decide) ?_
        refine n_add hx hb dL_law_259 ?_
        refine r_sld F hW hX hbl hbA hL (i + 2) (by omega) dL_law_260 ?_
        refine lv_aload_n hx hb dL_law_261 rfl (lv_at hl 0 rfl) ?_
        refine lv_iload_n hx hb dL_law_262 rfl (lv_at hl 3 rfl) ?_
        refine lv_iconst (v := nI 3) hx hb dL_law_263 (by decide) ?_
        refine n_add hx hb dL_law_264 ?_
        refine r_sld F hW hX hbl hbA hL (i + 3) (by omega) dL_law_265 ?_
        refine lv_aload_n hx hb dL_law_266 rfl (lv_at hl 0 rfl) ?_
        refine lv_iload_n hx hb dL_law_267 rfl (lv_at hl 3 rfl) ?_
        refine lv_iconst (v := nI 4) hx hb dL_law_268 (by decide) ?_
        refine n_add hx hb dL_law_269 ?_
        refine r_sld F hW hX hbl hbA hL (i + 4) (by omega) dL_law_270 ?_
        refine lv_aload_n hx hb dL_law_271 rfl (lv_at hl 0 rfl) ?_
        refine lv_iload_n hx hb dL_law_272 rfl (lv_at hl 3 rfl) ?_
        refine lv_iconst (v := nI 5) hx hb dL_law_273 (by decide) ?_
        refine n_add hx hb dL_law_274 ?_
        refine r_sld F hW hX hbl hbA hL (i + 5) (by omega) dL_law_275 ?_
        refine k_V (rest := []) (wr := [(o1, obj 0 [.ref aI, .ref aO, .ref aK, .ref aS, .int (nI on), .ref aB, .ref aR]), (aI, arI cI 16 fI), (aO, arI cI 16 fO), (aK, arI cI 8 (put4 (4 * ((xs (i + 1)).toBitVec.toNat % 2)) (xs (i + 2)) (xs (i + 3)) (xs (i + 4)) (xs (i + 5)) fK)), (aS, arI cI 16 fS), (aB, arI cB 64 fB), (aR, arL cL 8 fR), (bI, arI cI 16 gI), (bO, arI cI 16 gO), (bX, arI cI 16 gx), (bS, arI cI 16 gs), (bT, arI cI 16 gT), (bQ, arI cI 64 gQ)]) (w' := [(o1, obj 0 [.ref aI, .ref aO, .ref aK, .ref aS, .int (nI on), .ref aB, .ref aR]), (aI, arI cI 16 fI), (aO, arI cI 16 fO), (aK, arI cI 8 (put4 (4 * ((xs (i + 1)).toBitVec.toNat % 2)) (xs (i + 2)) (xs (i + 3)) (xs (i + 4)) (xs (i + 5)) fK)), (aS, arI cI 16 fS), (aB, arI cB 64 fB), (aR, arL cL 8 fR), (o2, obj 1 [.ref bI, .ref bO, .ref bX, .ref bS, .ref bK, .ref bT, .ref bQ, .int (nI on)]), (bI, arI cI 16 gI), (bO, arI cI 16 gO), (bX, arI cI 16 gx), (bS, arI cI 16 gs), (bK, arI cI 8 (put4 (((xs (i + 1)).toBitVec.toNat % 2) * 4) (xs (i + 2)) (xs (i + 3)) (xs (i + 4)) (xs (i + 5)) gK)), (bT, arI cI 16 gT), (bQ, arI cI 64 gQ)]) (q0 := 0) (ci := 1) F hW (ct_X1_key l G cI cB cL o2 bK [.ref bI, .ref bO, .ref bX, .ref bS, .ref bK, .ref bT, .ref bQ, .int (nI on)] rfl gK (xs (i + 1)) (xs (i + 2)) (xs (i + 3)) (xs (i + 4)) (xs (i + 5))) [7, 12] [0, 1, 2, 3, 4, 5, 6, 8, 9, 10, 11, 13, 14] [0, 1, 2, 3, 4, 5, 6, 13, 7, 8, 9, 10, 14, 11, 12] rfl rfl rfl rfl (by decide) rfl rfl rfl rfl g_X1_key ⟨rfl, rfl⟩ hd_X1_key ⟨Nat.le_of_ble_eq_true rfl, Nat.le_of_ble_eq_true rfl⟩ rfl hl.1 rfl (Nat.le_of_ble_eq_true rfl) dL_law_276 ⟨Nat.le_of_ble_eq_true rfl, Nat.le_of_ble_eq_true rfl⟩ (fun H locs hW => ?_)
        refine lv_goto (tgt := 359) hx hb dL_law_279 (by decide) ?_
        exact fin hi6 on fI fO (put4 (4 * ((xs (i + 1)).toBitVec.toNat % 2)) (xs (i + 2)) (xs (i + 3)) (xs (i + 4)) (xs (i + 5)) fK) fS fB gI gO gx gs (put4 (((xs (i + 1)).toBitVec.toNat % 2) * 4) (xs (i + 2)) (xs (i + 3)) (xs (i + 4)) (xs (i + 5)) gK) gT gQ fR H locs ls hon ⟨i1, i2, put_law (by omega) _ _ _ _ i3, i4, i5⟩ hW (lv_sub hl [0, 1, 2, 3] rfl)
      · refine lv_tableIn (off := 249) (tgt := 282) hx hb dL_law_33 (by decide) (by decide) (by decide) (by decide) ?_
        refine lv_aload_n hx hb dL_law_282 rfl (lv_at hl 1 rfl) ?_
        refine lv_aload_n hx hb dL_law_283 rfl (lv_at hl 0 rfl) ?_
        refine lv_iload_n hx hb dL_law_284 rfl (lv_at hl 3 rfl) ?_
        refine lv_iconst (v := nI 1) hx hb dL_law_285 (by decide) ?_
        refine n_add hx hb dL_law_286 ?_
        refine r_sld F hW hX hbl hbA hL (i + 1) (by omega) dL_law_287 ?_
        refine lv_aload_n hx hb dL_law_288 rfl (lv_at hl 0 rfl) ?_
        refine lv_iload_n hx hb dL_law_289 rfl (lv_at hl 3 rfl) ?_
        refine lv_iconst (v := nI 2) hx hb dL_law_290 (by decide) ?_
        refine n_add hx hb dL_law_291 ?_
        refine r_sld F hW hX hbl hbA hL (i + 2) (by omega) dL_law_292 ?_
        refine lv_aload_n hx hb dL_law_293 rfl (lv_at hl 0 rfl) ?_
        refine lv_iload_n hx hb dL_law_294 rfl (lv_at hl 3 rfl) ?_
        refine lv_iconst (v := nI 3) hx hb dL_law_295 (by decide) ?_
        refine n_add hx hb dL_law_296 ?_
        refine r_sld F hW hX hbl hbA hL (i + 3) (by omega) dL_law_297 ?_
        refine k_V (rest := []) (wr := [(aI, arI cI 16 fI), (aO, arI cI 16 fO), (aB, arI cB 64 fB), (aR, arL cL 8 fR), (o2, obj 1 [.ref bI, .ref bO, .ref bX, .ref bS, .ref bK, .ref bT, .ref bQ, .int (nI on)]), (bI, arI cI 16 gI), (bO, arI cI 16 gO), (bX, arI cI 16 gx), (bS, arI cI 16 gs), (bK, arI cI 8 gK), (bT, arI cI 16 gT), (bQ, arI cI 64 gQ)]) (w' := [(o1, obj 0 [.ref aI, .ref aO, .ref aK, .ref aS, .int (nI 1), .ref aB, .ref aR]), (aI, arI cI 16 fI), (aO, arI cI 16 fO), (aK, arI cI 8 fK), (aS, arI cI 16 (nonceF fK (xs (i + 1)) (xs (i + 2)) (xs (i + 3)) fS)), (aB, arI cB 64 fB), (aR, arL cL 8 fR), (o2, obj 1 [.ref bI, .ref bO, .ref bX, .ref bS, .ref bK, .ref bT, .ref bQ, .int (nI on)]), (bI, arI cI 16 gI), (bO, arI cI 16 gO), (bX, arI cI 16 gx), (bS, arI cI 16 gs), (bK, arI cI 8 gK), (bT, arI cI 16 gT), (bQ, arI cI 64 gQ)]) (q0 := 0) (ci := 0) F hW (ct_X0_nonce l G cI cB cL o1 aI aO aK aS aB aR (nI on) fK fS (xs (i + 1)) (xs (i + 2)) (xs (i + 3))) [0, 3, 4] [1, 2, 5, 6, 7, 8, 9, 10, 11, 12, 13, 14] [12, 0, 1, 13, 14, 2, 3, 4, 5, 6, 7, 8, 9, 10, 11] rfl rfl rfl rfl (by decide) rfl rfl rfl rfl g_X0_nonce ⟨rfl, rfl⟩ hd_X0_nonce ⟨Nat.le_of_ble_eq_true rfl, Nat.le_of_ble_eq_true rfl⟩ rfl hl.1 rfl (Nat.le_of_ble_eq_true rfl) dL_law_298 ⟨Nat.le_of_ble_eq_true rfl, Nat.le_of_ble_eq_true rfl⟩ (fun H locs hW => ?_)
        refine lv_aload_n hx hb dL_law_301 rfl (lv_at hl 2 rfl) ?_
        refine lv_aload_n hx hb dL_law_302 rfl (lv_at hl 0 rfl) ?_
        refine lv_iload_n hx hb dL_law_303 rfl (lv_at hl 3 rfl) ?_
        refine lv_iconst (v := nI 1) hx hb dL_law_304 (by decide) ?_
        refine n_add hx hb dL_law_305 ?_
        refine r_sld F hW hX hbl hbA hL (i + 1) (by omega) dL_law_306 ?_
        refine lv_aload_n hx hb dL_law_307 rfl (lv_at hl 0 rfl) ?_
        refine lv_iload_n hx hb dL_law_308 rfl (lv_at hl 3 rfl) ?_
        refine lv_iconst (v := nI 2) hx hb dL_law_309 (by decide) ?_
        refine n_add hx hb dL_law_310 ?_
        refine r_sld F hW hX hbl hbA hL (i + 2) (by omega) dL_law_311 ?_
        refine lv_aload_n hx hb dL_law_312 rfl (lv_at hl 0 rfl) ?_
        refine lv_iload_n hx hb dL_law_313 rfl (lv_at hl 3 rfl) ?_
        refine lv_iconst (v := nI 3) hx hb dL_law_314 (by decide) ?_
        refine n_add hx hb dL_law_315 ?_
        refine r_sld F hW hX hbl hbA hL (i + 3) (by omega) dL_law_316 ?_
        refine k_V (rest := []) (wr := [(o1, obj 0 [.ref aI, .ref aO, .ref aK, .ref aS, .int (nI 1), .ref aB, .ref aR]), (aI, arI cI 16 fI), (aO, arI cI 16 fO), (aK, arI cI 8 fK), (aS, arI cI 16 (nonceF fK (xs (i + 1)) (xs (i + 2)) (xs (i + 3)) fS)), (aB, arI cB 64 fB), (aR, arL cL 8 fR), (bI, arI cI 16 gI), (bO, arI cI 16 gO), (bX, arI cI 16 gx), (bS, arI cI 16 gs), (bQ, arI cI 64 gQ)]) (w' := [(o1, obj 0 [.ref aI, .ref aO, .ref aK, .ref aS, .int (nI 1), .ref aB, .ref aR]), (aI, arI cI 16 fI), (aO, arI cI 16 fO), (aK, arI cI 8 fK), (aS, arI cI 16 (nonceF fK (xs (i + 1)) (xs (i + 2)) (xs (i + 3)) fS)), (aB, arI cB 64 fB), (aR, arL cL 8 fR), (o2, obj 1 [.ref bI, .ref bO, .ref bX, .ref bS, .ref bK, .ref bT, .ref bQ, .int (nI 1)]), (bI, arI cI 16 gI), (bO, arI cI 16 gO), (bX, arI cI 16 gx), (bS, arI cI 16 gs), (bK, arI cI 8 gK), (bT, arI cI 16 (nonceF gK (xs (i + 1)) (xs (i + 2)) (xs (i + 3)) gT)), (bQ, arI cI 64 gQ)]) (q0 := 0) (ci := 1) F hW (ct_X1_nonce l G cI cB cL o2 bI bO bX bS bK bT bQ (nI on) gK gT (xs (i + 1)) (xs (i + 2)) (xs (i + 3))) [7, 12, 13] [0, 1, 2, 3, 4, 5, 6, 8, 9, 10, 11, 14] [0, 1, 2, 3, 4, 5, 6, 12, 7, 8, 9, 10, 13, 14, 11] rfl rfl rfl rfl (by decide) rfl rfl rfl rfl g_X1_nonce ⟨rfl, rfl⟩ hd_X1_nonce ⟨Nat.le_of_ble_eq_true rfl, Nat.le_of_ble_eq_true rfl⟩ rfl hl.1 rfl (Nat.le_of_ble_eq_true rfl) dL_law_317 ⟨Nat.le_of_ble_eq_true rfl, Nat.le_of_ble_eq_true rfl⟩ (fun H locs hW => ?_)
        refine lv_goto (tgt := 359) hx hb dL_law_320 (by decide) ?_
        exact fin hi6 1 fI fO fK (nonceF fK (xs (i + 1)) (xs (i + 2)) (xs (i + 3)) fS) fB gI gO gx gs gK (nonceF gK (xs (i + 1)) (xs (i + 2)) (xs (i + 3)) gT) gQ fR H locs ls (Or.inr rfl) ⟨i1, i2, i3, nonce_law _ _ _ i3 i4, i5⟩ hW (lv_sub hl [0, 1, 2, 3] rfl)
      · refine lv_tableIn (off := 290) (tgt := 323) hx hb dL_law_33 (by decide) (by decide) (by decide) (by decide) ?_
        rcases hon with rfl | rfl
        · refine lv_aload_n hx hb dL_law_323 rfl (lv_at hl 1 rfl) ?_
          refine k_VI (rest := []) (wr := [(aI, arI cI 16 fI), (aO, arI cI 16 fO), (aK, arI cI 8 fK), (aS, arI cI 16 fS), (aB, arI cB 64 fB), (aR, arL cL 8 fR), (o2, obj 1 [.ref bI, .ref bO, .ref bX, .ref bS, .ref bK, .ref bT, .ref bQ, .int (nI 0)]), (bI, arI cI 16 gI), (bO, arI cI 16 gO), (bX, arI cI 16 gx), (bS, arI cI 16 gs), (bK, arI cI 8 gK), (bT, arI cI 16 gT), (bQ, arI cI 64 gQ)]) (w' := [(o1, obj 0 [.ref aI, .ref aO, .ref aK, .ref aS, .int (nI 0), .ref aB, .ref aR]), (aI, arI cI 16 fI), (aO, arI cI 16 fO), (aK, arI cI 8 fK), (aS, arI cI 16 fS), (aB, arI cB 64 fB), (aR, arL cL 8 fR), (o2, obj 1 [.ref bI, .ref bO, .ref bX, .ref bS, .ref bK, .ref bT, .ref bQ, .int (nI 0)]), (bI, arI cI 16 gI), (bO, arI cI 16 gO), (bX, arI cI 16 gx), (bS, arI cI 16 gs), (bK, arI cI 8 gK), (bT, arI cI 16 gT), (bQ, arI cI 64 gQ)]) (q0 := 0) (ci := 0) F hW (ct_X0_block0 l G cI cB cL o1 [.ref aI, .ref aO, .ref aK, .ref aS, .int (nI 0), .ref aB, .ref aR] rfl) [0] [1, 2, 3, 4, 5, 6, 7, 8, 9, 10, 11, 12, 13, 14] [14, 0, 1, 2, 3, 4, 5, 6, 7, 8, 9, 10, 11, 12, 13] rfl rfl rfl rfl (by decide) rfl rfl rfl rfl g_X0_block ⟨rfl, rfl⟩ hd_X0_block ⟨Nat.le_of_ble_eq_true rfl, Nat.le_of_ble_eq_true rfl⟩ rfl hl.1 rfl (Nat.le_of_ble_eq_true rfl) dL_law_324 ⟨Nat.le_of_ble_eq_true rfl, Nat.le_of_ble_eq_true rfl⟩ (fun H locs hW => ?_)
          refine lv_aload_n hx hb dL_law_327 rfl (lv_at hl 2 rfl) ?_
          refine k_VI (rest := [.int (nI 0)]) (wr := [(o1, obj 0 [.ref aI, .ref aO, .ref aK, .ref aS, .int (nI 0), .ref aB, .ref aR]), (aI, arI cI 16 fI), (aO, arI cI 16 fO), (aK, arI cI 8 fK), (aS, arI cI 16 fS), (aB, arI cB 64 fB), (aR, arL cL 8 fR), (bI, arI cI 16 gI), (bO, arI cI 16 gO), (bX, arI cI 16 gx), (bS, arI cI 16 gs), (bK, arI cI 8 gK), (bT, arI cI 16 gT), (bQ, arI cI 64 gQ)]) (w' := [(o1, obj 0 [.ref aI, .ref aO, .ref aK, .ref aS, .int (nI 0), .ref aB, .ref aR]), (aI, arI cI 16 fI), (aO, arI cI 16 fO), (aK, arI cI 8 fK), (aS, arI cI 16 fS), (aB, arI cB 64 fB), (aR, arL cL 8 fR), (o2, obj 1 [.ref bI, .ref bO, .ref bX, .ref bS, .ref bK, .ref bT, .ref bQ, .int (nI 0)]), (bI, arI cI 16 gI), (bO, arI cI 16 gO), (bX, arI cI 16 gx), (bS, arI cI 16 gs), (bK, arI cI 8 gK), (bT, arI cI 16 gT), (bQ, arI cI 64 gQ)]) (q0 := 0) (ci := 1) F hW (ct_X1_block0 l G cI cB cL o2 [.ref bI, .ref bO, .ref bX, .ref bS, .ref bK, .ref bT, .ref bQ, .int (nI 0)] rfl) [7] [0, 1, 2, 3, 4, 5, 6, 8, 9, 10, 11, 12, 13, 14] [0, 1, 2, 3, 4, 5, 6, 14, 7, 8, 9, 10, 11, 12, 13] rfl rfl rfl rfl (by decide) rfl rfl rfl rfl g_X1_block ⟨rfl, rfl⟩ hd_X1_block ⟨Nat.le_of_ble_eq_true rfl, Nat.le_of_ble_eq_true rfl⟩ rfl hl.1 rfl (Nat.le_of_ble_eq_true rfl) dL_law_328 ⟨Nat.le_of_ble_eq_true rfl, Nat.le_of_ble_eq_true rfl⟩ (fun H locs hW => ?_)
          refine lv_icmp_eq (tgt := 359) hx hb dL_law_331 (by decide) (fun _ => ?_) (fun hne => absurd (rfl) hne)
          exact fin hi6 0 fI fO fK fS fB gI gO gx gs gK gT gQ fR H locs ls (Or.inl rfl) ⟨i1, i2, i3, i4, i5⟩ hW (lv_sub hl [0, 1, 2, 3] rfl)
        · refine lv_aload_n hx hb dL_law_323 rfl (lv_at hl 1 rfl) ?_
          refine k_VI (rest := []) (wr := [(aI, arI cI 16 fI), (aO, arI cI 16 fO), (aK, arI cI 8 fK), (o2, obj 1 [.ref bI, .ref bO, .ref bX, .ref bS, .ref bK, .ref bT, .ref bQ, .int (nI 1)]), (bI, arI cI 16 gI), (bO, arI cI 16 gO), (bX, arI cI 16 gx), (bS, arI cI 16 gs), (bK, arI cI 8 gK), (bT, arI cI 16 gT), (bQ, arI cI 64 gQ)]) (w' := [(o1, obj 0 [.ref aI, .ref aO, .ref aK, .ref aS, .int (nI 1), .ref aB, .ref aR]), (aI, arI cI 16 fI), (aO, arI cI 16 fO), (aK, arI cI 8 fK), (aS, arI cI 16 (incF fS)), (aB, arI cB 64 (it_ (blK fS (rowB 10 fS fR)) 16 fB)), (aR, arL cL 8 (rowB 10 fS fR)), (o2, obj 1 [.ref bI, .ref bO, .ref bX, .ref bS, .ref bK, .ref bT, .ref bQ, .int (nI 1)]), (bI, arI cI 16 gI), (bO, arI cI 16 gO), (bX, arI cI 16 gx), (bS, arI cI 16 gs), (bK, arI cI 8 gK), (bT, arI cI 16 gT), (bQ, arI cI 64 gQ)]) (q0 := 0) (ci := 0) F hW (ct_X0_block1 l G cI cB cL o1 aS aB aR [.ref aI, .ref aO, .ref aK, .ref aS, .int (nI 1), .ref aB, .ref aR] rfl rfl rfl rfl fS fB fR) [0, 4, 5, 6] [1, 2, 3, 7, 8, 9, 10, 11, 12, 13, 14] [11, 0, 1, 2, 12, 13, 14, 3, 4, 5, 6, 7, 8, 9, 10] rfl rfl rfl rfl (by decide) rfl rfl rfl rfl g_X0_block ⟨rfl, rfl⟩ hd_X0_block ⟨Nat.le_of_ble_eq_true rfl, Nat.le_of_ble_eq_true rfl⟩ rfl hl.1 rfl (Nat.le_of_ble_eq_true rfl) dL_law_324 ⟨Nat.le_of_ble_eq_true rfl, Nat.le_of_ble_eq_true rfl⟩ (fun H locs hW => ?_)
          refine lv_aload_n hx hb dL_law_327 rfl (lv_at hl 2 rfl) ?_
          refine k_VI (rest := [.int (nI 1)]) (wr := [(o1, obj 0 [.ref aI, .ref aO, .ref aK, .ref aS, .int (nI 1), .ref aB, .ref aR]), (aI, arI cI 16 fI), (aO, arI cI 16 fO), (aK, arI cI 8 fK), (aS, arI cI 16 (incF fS)), (aB, arI cB 64 (it_ (blK fS (rowB 10 fS fR)) 16 fB)), (aR, arL cL 8 (rowB 10 fS fR)), (bI, arI cI 16 gI), (bO, arI cI 16 gO), (bK, arI cI 8 gK)]) (w' := [(o1, obj 0 [.ref aI, .ref aO, .ref aK, .ref aS, .int (nI 1), .ref aB, .ref aR]), (aI, arI cI 16 fI), (aO, arI cI 16 fO), (aK, arI cI 8 fK), (aS, arI cI 16 (incF fS)), (aB, arI cB 64 (it_ (blK fS (rowB 10 fS fR)) 16 fB)), (aR, arL cL 8 (rowB 10 fS fR)), (o2, obj 1 [.ref bI, .ref bO, .ref bX, .ref bS, .ref bK, .ref bT, .ref bQ, .int (nI 1)]), (bI, arI cI 16 gI), (bO, arI cI 16 gO), (bX, arI cI 16 (coreG rC 20 (it_ (cpK gT) 16 gs) gx)), (bS, arI cI 16 (it_ (cpK gT) 16 gs)), (bK, arI cI 8 gK), (bT, arI cI 16 (incF gT)), (bQ, arI cI 64 (it_ (strK (coreG rC 20 (it_ (cpK gT) 16 gs) gx)) 64 gQ))]) (q0 := 0) (ci := 1) F hW (ct_X1_block1 l G cI cB cL o2 bX bS bT bQ [.ref bI, .ref bO, .ref bX, .ref bS, .ref bK, .ref bT, .ref bQ, .int (nI 1)] rfl rfl rfl rfl rfl gx gs gT gQ) [7, 10, 11, 13, 14] [0, 1, 2, 3, 4, 5, 6, 8, 9, 12] [0, 1, 2, 3, 4, 5, 6, 10, 7, 8, 11, 12, 9, 13, 14] rfl rfl rfl rfl (by decide) rfl rfl rfl rfl g_X1_block ⟨rfl, rfl⟩ hd_X1_block ⟨Nat.le_of_ble_eq_true rfl, Nat.le_of_ble_eq_true rfl⟩ rfl hl.1 rfl (Nat.le_of_ble_eq_true rfl) dL_law_328 ⟨Nat.le_of_ble_eq_true rfl, Nat.le_of_ble_eq_true rfl⟩ (fun H locs hW => ?_)
          refine lv_icmp_eq (tgt := 359) hx hb dL_law_331 (by decide) (fun _ => ?_) (fun hne => absurd (rfl) hne)
          exact fin hi6 1 fI fO fK (incF fS) (it_ (blK fS (rowB 10 fS fR)) 16 fB) gI gO (coreG rC 20 (it_ (cpK gT) 16 gs) gx) (it_ (cpK gT) 16 gs) gK (incF gT) (it_ (strK (coreG rC 20 (it_ (cpK gT) 16 gs) gx)) 64 gQ) (rowB 10 fS fR) H locs ls (Or.inr rfl) ⟨i1, i2, i3, inc_law i4, block_law i4⟩ hW (lv_sub hl [0, 1, 2, 3] rfl)
      · refine lv_tableIn (off := 303) (tgt := 336) hx hb dL_law_33 (by decide) (by decide) (by decide) (by decide) ?_
        refine lv_aload_n hx hb dL_law_336 rfl (lv_at hl 1 rfl) ?_
        refine lv_aload_n hx hb dL_law_337 rfl (lv_at hl 0 rfl) ?_
        refine lv_iload_n hx hb dL_law_338 rfl (lv_at hl 3 rfl) ?_
        refine lv_iconst (v := nI 1) hx hb dL_law_339 (by decide) ?_
        refine n_add hx hb dL_law_340 ?_
        refine r_sld F hW hX hbl hbA hL (i + 1) (by omega) dL_law_341 ?_
        refine k_VI (rest := []) (wr := [(aI, arI cI 16 fI), (aO, arI cI 16 fO), (aK, arI cI 8 fK), (aS, arI cI 16 fS), (aR, arL cL 8 fR), (o2, obj 1 [.ref bI, .ref bO, .ref bX, .ref bS, .ref bK, .ref bT, .ref bQ, .int (nI on)]), (bI, arI cI 16 gI), (bO, arI cI 16 gO), (bX, arI cI 16 gx), (bS, arI cI 16 gs), (bK, arI cI 8 gK), (bT, arI cI 16 gT), (bQ, arI cI 64 gQ)]) (w' := [(o1, obj 0 [.ref aI, .ref aO, .ref aK, .ref aS, .int (nI on), .ref aB, .ref aR]), (aI, arI cI 16 fI), (aO, arI cI 16 fO), (aK, arI cI 8 fK), (aS, arI cI 16 fS), (aB, arI cB 64 fB), (aR, arL cL 8 fR), (o2, obj 1 [.ref bI, .ref bO, .ref bX, .ref bS, .ref bK, .ref bT, .ref bQ, .int (nI on)]), (bI, arI cI 16 gI), (bO, arI cI 16 gO), (bX, arI cI 16 gx), (bS, arI cI 16 gs), (bK, arI cI 8 gK), (bT, arI cI 16 gT), (bQ, arI cI 64 gQ)]) (q0 := 0) (ci := 0) F hW (ct_X0_stream l G cI cB cL o1 aB [.ref aI, .ref aO, .ref aK, .ref aS, .int (nI on), .ref aB, .ref aR] rfl fB (xs (i + 1))) [0, 5] [1, 2, 3, 4, 6, 7, 8, 9, 10, 11, 12, 13, 14] [13, 0, 1, 2, 3, 14, 4, 5, 6, 7, 8, 9, 10, 11, 12] rfl rfl rfl rfl (by decide) rfl rfl rfl rfl g_X0_stream ⟨rfl, rfl⟩ hd_X0_stream ⟨Nat.le_of_ble_eq_true rfl, Nat.le_of_ble_eq_true rfl⟩ rfl hl.1 rfl (Nat.le_of_ble_eq_true rfl) dL_law_342 ⟨Nat.le_of_ble_eq_true rfl, Nat.le_of_ble_eq_true rfl⟩ (fun H locs hW => ?_)
        refine lv_aload_n hx hb dL_law_345 rfl (lv_at hl 2 rfl) ?_
        refine lv_aload_n hx hb dL_law_346 rfl (lv_at hl 0 rfl) ?_
        refine lv_iload_n hx hb dL_law_347 rfl (lv_at hl 3 rfl) ?_
        refine lv_iconst (v := nI 1) hx hb dL_law_348 (by decide) ?_
        refine n_add hx hb dL_law_349 ?_
        refine r_sld F hW hX hbl hbA hL (i + 1) (by omega) dL_law_350 ?_
        refine k_VI (rest := [.int (fB ((xs (i + 1)).toBitVec.toNat % 64) &&& nI 255)]) (wr := [(o1, obj 0 [.ref aI, .ref aO, .ref aK, .ref aS, .int (nI on), .ref aB, .ref aR]), (aI, arI cI 16 fI), (aO, arI cI 16 fO), (aK, arI cI 8 fK), (aS, arI cI 16 fS), (aB, arI cB 64 fB), (aR, arL cL 8 fR), (bI, arI cI 16 gI), (bO, arI cI 16 gO), (bX, arI cI 16 gx), (bS, arI cI 16 gs), (bK, arI cI 8 gK), (bT, arI cI 16 gT)]) (w' := [(o1, obj 0 [.ref aI, .ref aO, .ref aK, .ref aS, .int (nI on), .ref aB, .ref aR]), (aI, arI cI 16 fI), (aO, arI cI 16 fO), (aK, arI cI 8 fK), (aS, arI cI 16 fS), (aB, arI cB 64 fB), (aR, arL cL 8 fR), (o2, obj 1 [.ref bI, .ref bO, .ref bX, .ref bS, .ref bK, .ref bT, .ref bQ, .int (nI on)]), (bI, arI cI 16 gI), (bO, arI cI 16 gO), (bX, arI cI 16 gx), (bS, arI cI 16 gs), (bK, arI cI 8 gK), (bT, arI cI 16 gT), (bQ, arI cI 64 gQ)]) (q0 := 0) (ci := 1) F hW (ct_X1_stream l G cI cB cL o2 bQ [.ref bI, .ref bO, .ref bX, .ref bS, .ref bK, .ref bT, .ref bQ, .int (nI on)] rfl gQ (xs (i + 1))) [7, 14] [0, 1, 2, 3, 4, 5, 6, 8, 9, 10, 11, 12, 13] [0, 1, 2, 3, 4, 5, 6, 13, 7, 8, 9, 10, 11, 12, 14] rfl rfl rfl rfl (by decide) rfl rfl rfl rfl g_X1_stream ⟨rfl, rfl⟩ hd_X1_stream ⟨Nat.le_of_ble_eq_true rfl, Nat.le_of_ble_eq_true rfl⟩ rfl hl.1 rfl (Nat.le_of_ble_eq_true rfl) dL_law_351 ⟨Nat.le_of_ble_eq_true rfl, Nat.le_of_ble_eq_true rfl⟩ (fun H locs hW => ?_)
        refine lv_icmp_eq (tgt := 359) hx hb dL_law_354 (by decide) (fun _ => ?_) (fun hne => absurd (i5 _ (Nat.mod_lt _ (by decide))) hne)
        exact fin hi6 on fI fO fK fS fB gI gO gx gs gK gT gQ fR H locs ls hon ⟨i1, i2, i3, i4, i5⟩ hW (lv_sub hl [0, 1, 2, 3] rfl)
      · refine lv_tableOut (tgt := 359) hx hb dL_law_33 (Or.inr (by rw [nI_toInt (by omega)]; omega)) (by decide) ?_
        exact fin hi6 on fI fO fK fS fB gI gO gx gs gK gT gQ fR H locs ls hon ⟨i1, i2, i3, i4, i5⟩ hW (lv_sub hl [0, 1, 2, 3] rfl)
end
section
set_option maxRecDepth 100000
set_option maxHeartbeats 8000000 in
theorem whole_start {p : Program} {e : Env} {s : State} {m : MethodId} {below : List Frame} {meth : Method} {c : Code} (l : Launch) {b L : Nat} {xs : Nat → Int32} (hL : L ≤ 384) (C0 : lw_At p s m meth c b L xs) : W p l e room_1 s m #[Value.ref b] below meth c s.heap [] 0 0 (lw_Z below #[Value.ref b] s) (entryFrame m ([Value.ref b] : List Value).toArray 4) := by
  obtain ⟨hx, hb, hr, hml, hown, hts0, hX, hbl, hlocks, hgv⟩ := id C0
  have hts : ∀ w ∈ lw_all, w.before #[Value.ref b] s = true := fun w h => hts0 w (lw_all_tbl h)
  have F : Fx p m c code 4 s #[Value.ref b] R_law meth ret := ⟨⟨hx, hb, hml, hown, hts⟩, hr, hlocks⟩
  obtain ⟨c0, iS0, hKn0⟩ := u_known (C := RX0) (T := TX0) (N := 7) (n := 7) hts in_X0 (hts _ q19)
  obtain ⟨c1, iS1, hKn1⟩ := u_known (C := RX1) (T := TX1) (N := 8) (n := 8) hts in_X1 (hts _ q149)
  obtain ⟨G, hKc⟩ : ∃ G : va_G, ∀ (k : Nat) (q : vw_C), cl_[k]? = some q → u_Kn s q.1 q.2.1 q.2.2 (G.1 k) (G.2 k) := by
    refine ⟨(fun k => if k = 0 then c0 else c1, fun k => if k = 0 then iS0 else iS1), ?_⟩
    intro k q hq
    match k, hq with
    | 0, hq => cases hq; exact hKn0
    | 1, hq => cases hq; exact hKn1
    | k + 2, hq => simp [cl_] at hq
  obtain ⟨cI, cB, cL, hK⟩ := ty_start (G := G) ⟨hKc, fun k q h => by simp at h⟩ (hts _ q48) (hts _ q49) (hts _ q50)
  have hW : Wd G (tys_ cI cB cL) (fun q : Nat => s.heap.size ≤ q) s s.heap [] [] := ⟨hK, fun k q h => by simp at h, ⟨fun i j p q h => by simp at h, fun k q h => by simp at h⟩, va_S.rf, fun _ h => h⟩
  have hl := lv_entry ([.ref b]) (n := 4) (Nat.le_of_ble_eq_true rfl)
  rw [lg_entry_eq]
  generalize (lg_sl ([.ref b]) ++ List.replicate (4 - (lg_sl ([.ref b])).length) Slot.unset).toArray = ls at hl ⊢
  have hl : lv_has ls 4 [(0, .ref b)] := hl
  refine va_new (ci := 0) (fs := [.null, .null, .null, .null, .int (nI 0), .null, .null]) (C := RX0) (T := TX0) (N := 7) hx hb hts in_X0 tyX0 tyX0_ok hown (hts _ q18) (hts _ q19) (hts _ q16) hW.1 hW.2.1 hW.2.2.1 hW.2.2.2.1 hW.2.2.2.2 rfl (fun j hj => ?_) (Nat.le_of_ble_eq_true rfl) (Nat.le_of_ble_eq_true rfl) dL_law_0 (fun o1 H hP hD hS => ?_)
  · rcases (show j = 0 ∨ j = 1 ∨ j = 2 ∨ j = 3 ∨ j = 4 ∨ j = 5 ∨ j = 6 by omega) with rfl | rfl | rfl | rfl | rfl | rfl | rfl <;> rfl
  have hW : Wd G (tys_ cI cB cL) (fun q : Nat => s.heap.size ≤ q) s H _ ([] ++ [(o1, obj 0 [.null, .null, .null, .null, .int (nI 0), .null, .null])]) := ⟨hK, hP, hD, hS, fun _ h => h⟩
  refine lv_dup hx hb dL_law_3 rfl ?_
  refine k_N (rest := [.ref o1]) (wr := []) F hW (ct_X0_init l G cI cB cL o1) [0] [] rfl rfl rfl rfl (by decide) q22 q16 q20 q21 rfl ⟨rfl, rfl⟩ (by decide +kernel) ⟨Nat.le_of_ble_eq_true rfl, Nat.le_of_ble_eq_true rfl⟩ rfl hl.1 rfl (Nat.le_of_ble_eq_true rfl) dL_law_4 ⟨Nat.le_of_ble_eq_true rfl, Nat.le_of_ble_eq_true rfl⟩ (fun u H locs hW => ?_)
  obtain ⟨aI, aO, aK, aS, aB, aR⟩ := u
  have hW : Wd G (tys_ cI cB cL) (fun q : Nat => s.heap.size ≤ q) s H locs [(o1, obj 0 [.ref aI, .ref aO, .ref aK, .ref aS, .int (nI 0), .ref aB, .ref aR]), (aI, arI cI 16 z32), (aO, arI cI 16 z32), (aK, arI cI 8 z32), (aS, arI cI 16 z32), (aB, arI cB 64 z32), (aR, arL cL 8 z64)] := hW
  refine W.widen (k := 7) (n := 135) (Nat.le_of_ble_eq_true rfl) (Nat.le_of_ble_eq_true rfl) ?_
  refine lv_astore_n (lv' := [(1, .ref o1), (0, .ref b)]) hx hb dL_law_7 rfl hl (by decide) rfl (fun ls hl => ?_)
  refine va_new (ci := 1) (fs := [.null, .null, .null, .null, .null, .null, .null, .int (nI 0)]) (C := RX1) (T := TX1) (N := 8) hx hb hts in_X1 tyX1 tyX1_ok hown (hts _ q148) (hts _ q149) (hts _ q17) hW.1 hW.2.1 hW.2.2.1 hW.2.2.2.1 hW.2.2.2.2 rfl (fun j hj => ?_) (Nat.le_of_ble_eq_true rfl) (Nat.le_of_ble_eq_true rfl) dL_law_8 (fun o2 H hP hD hS => ?_)
  · rcases (show j = 0 ∨ j = 1 ∨ j = 2 ∨ j = 3 ∨ j = 4 ∨ j = 5 ∨ j = 6 ∨ j = 7 by omega) with rfl | rfl | rfl | rfl | rfl | rfl | rfl | rfl <;> rfl
  have hW : Wd G (tys_ cI cB cL) (fun q : Nat => s.heap.size ≤ q) s H _ ([(o1, obj 0 [.ref aI, .ref aO, .ref aK, .ref aS, .int (nI 0), .ref aB, .ref aR]), (aI, arI cI 16 z32), (aO, arI cI 16 z32), (aK, arI cI 8 z32), (aS, arI cI 16 z32), (aB, arI cB 64 z32), (aR, arL cL 8 z64)] ++ [(o2, obj 1 [.null, .null, .null, .null, .null, .null, .null, .int (nI 0)])]) := ⟨hK, hP, hD, hS, fun _ h => h⟩
  refine lv_dup hx hb dL_law_11 rfl ?_
  refine k_N (rest := [.ref o2]) (wr := [(o1, obj 0 [.ref aI, .ref aO, .ref aK, .ref aS, .int (nI 0), .ref aB, .ref aR]), (aI, arI cI 16 z32), (aO, arI cI 16 z32), (aK, arI cI 8 z32), (aS, arI cI 16 z32), (aB, arI cB 64 z32), (aR, arL cL 8 z64)]) F hW (ct_X1_init l G cI cB cL o2) [7] [0, 1, 2, 3, 4, 5, 6] rfl rfl rfl rfl (by decide) q152 q17 q150 q151 rfl ⟨rfl, rfl⟩ (by decide +kernel) ⟨Nat.le_of_ble_eq_true rfl, Nat.le_of_ble_eq_true rfl⟩ rfl hl.1 rfl (Nat.le_of_ble_eq_true rfl) dL_law_12 ⟨Nat.le_of_ble_eq_true rfl, Nat.le_of_ble_eq_true rfl⟩ (fun u H locs hW => ?_)
  obtain ⟨bI, bO, bX, bS, bK, bT, bQ⟩ := u
  have hW : Wd G (tys_ cI cB cL) (fun q : Nat => s.heap.size ≤ q) s H locs [(o1, obj 0 [.ref aI, .ref aO, .ref aK, .ref aS, .int (nI 0), .ref aB, .ref aR]), (aI, arI cI 16 z32), (aO, arI cI 16 z32), (aK, arI cI 8 z32), (aS, arI cI 16 z32), (aB, arI cB 64 z32), (aR, arL cL 8 z64), (o2, obj 1 [.ref bI, .ref bO, .ref bX, .ref bS, .ref bK, .ref bT, .ref bQ, .int (nI 0)]), (bI, arI cI 16 z32), (bO, arI cI 16 z32), (bX, arI cI 16 z32), (bS, arI cI 16 z32), (bK, arI cI 8 z32), (bT, arI cI 16 z32), (bQ, arI cI 64 z32)] := hW
  refine W.widen (k := 15) (n := 295) (Nat.le_of_ble_eq_true rfl) (Nat.le_of_ble_eq_true rfl) ?_
  refine lv_astore_n (lv' := [(2, .ref o2), (1, .ref o1), (0, .ref b)]) hx hb dL_law_15 rfl hl (by decide) rfl (fun ls hl => ?_)
  refine lv_iconst (v := nI 0) hx hb dL_law_16 (by decide) ?_
  refine lv_istore_n (lv' := [(3, .int (nI 0)), (2, .ref o2), (1, .ref o1), (0, .ref b)]) hx hb dL_law_17 rfl hl (by decide) rfl (fun ls hl => ?_)
  exact law_loop hL F hX hbl (L + 1) 0 (by omega) (by omega) 0 z32 z32 z32 z32 z32 z32 z32 z32 z32 z32 z32 z32 z64 H locs ls (Or.inl rfl) ⟨fun _ _ => rfl, fun _ _ => rfl, fun _ _ => rfl, fun _ _ => rfl, fun _ _ => (by decide : (0 : Int32) &&& nI 255 = 0)⟩ hW (lv_sub hl [3, 2, 1, 0] rfl)
set_option maxHeartbeats 4000000 in
theorem lw_walk (l : Launch) (b : Addr) (xs : List Int32) : MetFree l x (headSpec (Jvm.Cond.code x code maxLocals ret :: tables_1) room_1) (lw_P b xs) (fun _ _ _ _ _ => True) lw_Q := by
  refine MetFree.of_bodyS (code := code) (maxLocals := maxLocals) (ret := ret) (by decide) ?_ ?_
  · intro args s m h hn
    obtain ⟨meth, c, h1, h2, h3, h4, h5, h6, -, -⟩ := Cond.code_spec hn (atoms_spec (ws := Jvm.Cond.code x code maxLocals ret :: tables_1) h _ List.mem_cons_self)
    exact ⟨meth, c, h1, h2, h3, h4, h5, h6⟩
  · intro p e s m args below meth c s₁ B hml0 hP _
    obtain ⟨rfl, hx, hbd, hgv⟩ := hP
    obtain ⟨scr, harrAt, hlist, hof, hsmall⟩ := hx
    obtain ⟨hcb, hkn, -, -⟩ := State.arrayAt?_spec harrAt
    have hown : s.vm.findClass R_law = some m.cls := findClass_of_methodNamed B.named
    have hts0 : ∀ c ∈ (Jvm.Cond.code x code maxLocals ret :: tables_1), c.before #[Value.ref b] s = true := atoms_spec (ws := Jvm.Cond.code x code maxLocals ret :: tables_1) B.pre
    have hts : ∀ w ∈ lw_tbl, w.before #[Value.ref b] s = true := k2_hts_sels lw_privs (fun w hw => hts0 w (List.mem_cons_of_mem _ hw)) lw_privs_ok
    have hml : c.maxLocals = 4 := B.maxLocals_eq (hts0 _ List.mem_cons_self)
    have X₀ : Stand p l e room_1 s m #[Value.ref b] below meth c s₁ [] 0 0 := Stand.of_body B
    have hh0 : s₁.heap = s.heap := by rw [B.state]; rfl
    have hsz : scr.slots.size = xs.length := by rw [← Array.length_toList, hlist, List.length_map]
    have hval : ∀ j : Nat, j < xs.length → scr.slots[j]? = some (.int (xs.getD j 0)) := fun j hj => by
      rw [← Array.getElem?_toList, hlist]
      simp [hj]
    have hbl : b < s.heap.size := (Array.getElem?_eq_some_iff.mp hcb).1
    have hX : va_X b xs.length (fun j => xs.getD j 0) s s.heap := ⟨scr, hcb, hof, hkn, hsz, hval⟩
    have K : W p l e room_1 s m #[Value.ref b] below meth c s₁.heap [] 0 0 (lw_Z below #[Value.ref b] s) (entryFrame m ([Value.ref b] : List Value).toArray 4) := by
      rw [hh0]
      exact whole_start l hbd ⟨B.exec, B.bytes, B.returns, hml, hown, hts, hX, hbl, B.notSynchronized, hgv⟩
    obtain ⟨t, a1, o, b1, b2, b3⟩ := K s₁ rfl X₀
    exact ⟨t, o, a1, b1, b2, b3⟩
theorem lw_pre_spec {args : Array Value} {s : State} (h : (Jvm.Cond.and given_1 narrow_1).before args s = true) (hr : rest_1_c.before args s = true) : ∃ (b : Addr) (xs : List Int32), lw_P b xs args s := by
  have hs := flat_of_before _ h
  have hq := flat_of_before _ hr
  have hc : (Cond.count 1).before args s = true := hs _ (by decide +kernel)
  have harr : (Cond.arrayOf (.arg 0) .int).before args s = true := hs _ (by decide +kernel)
  have hle : (Cond.le (.length (.arg 0)) (.int 384)).before args s = true := hs _ (by decide +kernel)
  have hlen : (Cond.isInt (.length (.arg 0))).before args s = true := hq _ (by decide +kernel)
  have hall : (Cond.all (.arg 0) (.isInt (.elem (.arg 0) (.index 0)))).before args s = true := hq _ (by decide +kernel)
  obtain ⟨b, xs, hb, hx⟩ := State.ints_of_pre rfl harr hlen hall
  have hsm : xs.length < 2 ^ 31 := hx.choose_spec.2.2.2
  have hev : (Term.length (.arg 0)).eval args s none [] s = some (.int xs.length.toInt32) := hx.length_eval hb
  have hv := Cond.le_ints hev (show (Term.int 384).eval args s none [] s = some (.int 384) from rfl)
  have hd : xs.length.toInt32 ≤ 384 := by
    simpa [Cond.before, Cond.holds, hv] using hle
  have hN : xs.length ≤ 384 := (Int32.ofNat_le_ofNat hsm (by decide)).mp (show Int32.ofNat xs.length ≤ Int32.ofNat 384 from hd)
  exact ⟨b, xs, Cond.one_arg hc (show args[0]? = some (.ref b) from hb), hx, hN, h⟩
theorem lw_comes (l : Launch) : Comes l x (Jvm.Cond.code x code maxLocals ret :: tables_1) room_1 (fun tb e args s => Calls_1 tb e args s ∧ rest_1 tb e args s ∧ Pre_1 tb e args s)
    (fun _ _ args s o t => lw_Q args s o t) := by
  intro p e ha hc hk s m args below hf hfit hheap happ hpre
  obtain ⟨b, xs, hP⟩ := lw_pre_spec hpre.2.2 hpre.2.1
  obtain ⟨k, o, h1, h2, h3, hQ⟩ := lw_walk l b xs p e ha hc hk s m args below hf ((Spec.applies_iff_loose hf).mp happ).1 hP trivial
  exact ⟨k, o, h1, h2, h3, hQ⟩
theorem lw_frame {s t : State} {o : Outcome} {args : Array Value} (h : Framed s o t [] 600000 7290000) :
    Framed s o t (fieldLocs frame_1_writes args s ++ arrayLocs frame_1_arrays args s ++ staticLocs frame_1_statics s) 600000 7290000 := h
theorem lw_limb (L : Cond) (hL : ∀ (args : Array Value) (s t : State), L.after args s (.returned (some (.int 1))) t = true) :
    ArmFor flags0 classFile x code maxLocals ret World_1 tables_1 room_1 Calls_1 rest_1 Pre_1
      (fun tb e a s o t => postC L tb e a s o t ∧ Framed s o t (fieldLocs frame_1_writes a s ++ arrayLocs frame_1_arrays a s ++ staticLocs frame_1_statics s) 600000 7290000) := by
  intro l _ _ _ p e ha hc hk s m args below hf hfit hheap happ hpre
  obtain ⟨k, o, h1, h2, h3, rfl, hF⟩ := lw_comes l p e ha hc hk s m args below hf hfit hheap happ hpre
  exact ⟨k, _, h1, h2, h3, hL args s _, lw_frame hF⟩
theorem i_vc : Claimed_1_1 ∧ Claimed_1_2 := ⟨lw_limb limb_1_1 (fun args s t => by simp [limb_1_1, Cond.after, Cond.holds, Cond.value]), lw_limb limb_1_2 (fun args s t => Cond.after_iff.mpr (by
  first | (rw [show limb_1_2 = Cond.eq .result (.int 1) from rfl, Cond.eq_ints (x := 1) (y := 1) rfl rfl]; simp; done) | (simp [limb_1_2, Cond.value, Term.eval]; done)))⟩
end
