section
-- ===== PART A: goes FIRST, ahead of the names: the tables' words, and 'selects' of the private methods out of them =====
/-- a private method of a class that the tables say can be made, by its rows of tables_1 -/
def lw_okq (q : MethodName × Nat) : Prop := (q.1.cls ≠ "java/lang/invoke/MethodHandle" ∧ q.1.cls ≠ "java/lang/invoke/VarHandle") ∧ Cond.instantiable q.1.cls q.2 ∈ tables_1 ∧ Cond.privateMethod q.1 ∈ tables_1 ∧ Cond.instanceMethod q.1 ∈ tables_1
set_option maxRecDepth 100000
theorem lw_p0 : lw_okq (⟨"FactorGraph", "fixAsGiven", "()V"⟩, 9) := ⟨⟨by decide +kernel, by decide +kernel⟩, List.mem_of_getElem? (i := 4) rfl, List.mem_of_getElem? (i := 65) rfl, List.mem_of_getElem? (i := 66) rfl⟩
theorem lw_p1 : lw_okq (⟨"FactorGraph", "solve", "(I)J"⟩, 9) := ⟨⟨by decide +kernel, by decide +kernel⟩, List.mem_of_getElem? (i := 4) rfl, List.mem_of_getElem? (i := 69) rfl, List.mem_of_getElem? (i := 70) rfl⟩
theorem lw_p2 : lw_okq (⟨"FactorGraph", "loadTables", "(I)V"⟩, 9) := ⟨⟨by decide +kernel, by decide +kernel⟩, List.mem_of_getElem? (i := 4) rfl, List.mem_of_getElem? (i := 73) rfl, List.mem_of_getElem? (i := 74) rfl⟩
theorem lw_p3 : lw_okq (⟨"FactorGraph", "weightIn", "(II)I"⟩, 9) := ⟨⟨by decide +kernel, by decide +kernel⟩, List.mem_of_getElem? (i := 4) rfl, List.mem_of_getElem? (i := 77) rfl, List.mem_of_getElem? (i := 78) rfl⟩
theorem lw_p4 : lw_okq (⟨"FactorGraph", "valueIn", "(II)I"⟩, 9) := ⟨⟨by decide +kernel, by decide +kernel⟩, List.mem_of_getElem? (i := 4) rfl, List.mem_of_getElem? (i := 81) rfl, List.mem_of_getElem? (i := 82) rfl⟩
theorem lw_p5 : lw_okq (⟨"FactorGraph", "cheapest", "(I)I"⟩, 9) := ⟨⟨by decide +kernel, by decide +kernel⟩, List.mem_of_getElem? (i := 4) rfl, List.mem_of_getElem? (i := 85) rfl, List.mem_of_getElem? (i := 86) rfl⟩
theorem lw_p6 : lw_okq (⟨"FactorGraph", "neighbours", "(I)I"⟩, 9) := ⟨⟨by decide +kernel, by decide +kernel⟩, List.mem_of_getElem? (i := 4) rfl, List.mem_of_getElem? (i := 89) rfl, List.mem_of_getElem? (i := 90) rfl⟩
theorem lw_p7 : lw_okq (⟨"FactorGraph", "takeOut", "(II)V"⟩, 9) := ⟨⟨by decide +kernel, by decide +kernel⟩, List.mem_of_getElem? (i := 4) rfl, List.mem_of_getElem? (i := 96) rfl, List.mem_of_getElem? (i := 97) rfl⟩
theorem lw_p8 : lw_okq (⟨"FactorGraph", "product", "(II)J"⟩, 9) := ⟨⟨by decide +kernel, by decide +kernel⟩, List.mem_of_getElem? (i := 4) rfl, List.mem_of_getElem? (i := 100) rfl, List.mem_of_getElem? (i := 101) rfl⟩
theorem lw_p9 : lw_okq (⟨"FactorGraph", "sumWith", "(II)J"⟩, 9) := ⟨⟨by decide +kernel, by decide +kernel⟩, List.mem_of_getElem? (i := 4) rfl, List.mem_of_getElem? (i := 108) rfl, List.mem_of_getElem? (i := 109) rfl⟩
theorem lw_p10 : lw_okq (⟨"FactorGraph", "sumWithBoth", "(IIII)J"⟩, 9) := ⟨⟨by decide +kernel, by decide +kernel⟩, List.mem_of_getElem? (i := 4) rfl, List.mem_of_getElem? (i := 116) rfl, List.mem_of_getElem? (i := 117) rfl⟩
theorem lw_p11 : lw_okq (⟨"FactorGraphModel", "bad", "(I)Z"⟩, 4) := ⟨⟨by decide +kernel, by decide +kernel⟩, List.mem_of_getElem? (i := 136) rfl, List.mem_of_getElem? (i := 159) rfl, List.mem_of_getElem? (i := 160) rfl⟩
theorem lw_p12 : lw_okq (⟨"FactorGraphModel", "worth", "(I)J"⟩, 4) := ⟨⟨by decide +kernel, by decide +kernel⟩, List.mem_of_getElem? (i := 136) rfl, List.mem_of_getElem? (i := 179) rfl, List.mem_of_getElem? (i := 180) rfl⟩
theorem lw_p13 : lw_okq (⟨"FactorGraphModel", "allowed", "(I)Z"⟩, 4) := ⟨⟨by decide +kernel, by decide +kernel⟩, List.mem_of_getElem? (i := 136) rfl, List.mem_of_getElem? (i := 183) rfl, List.mem_of_getElem? (i := 184) rfl⟩
theorem lw_p14 : lw_okq (⟨"FactorGraphModel", "value", "(II)I"⟩, 4) := ⟨⟨by decide +kernel, by decide +kernel⟩, List.mem_of_getElem? (i := 136) rfl, List.mem_of_getElem? (i := 187) rfl, List.mem_of_getElem? (i := 188) rfl⟩
theorem lw_p15 : lw_okq (⟨"FactorGraphModel", "both", "(II)J"⟩, 4) := ⟨⟨by decide +kernel, by decide +kernel⟩, List.mem_of_getElem? (i := 136) rfl, List.mem_of_getElem? (i := 195) rfl, List.mem_of_getElem? (i := 196) rfl⟩
def lw_privs_1 : List (MethodName × Nat) := [(⟨"FactorGraph", "fixAsGiven", "()V"⟩, 9), (⟨"FactorGraph", "solve", "(I)J"⟩, 9), (⟨"FactorGraph", "loadTables", "(I)V"⟩, 9), (⟨"FactorGraph", "weightIn", "(II)I"⟩, 9), (⟨"FactorGraph", "valueIn", "(II)I"⟩, 9), (⟨"FactorGraph", "cheapest", "(I)I"⟩, 9), (⟨"FactorGraph", "neighbours", "(I)I"⟩, 9), (⟨"FactorGraph", "takeOut", "(II)V"⟩, 9), (⟨"FactorGraph", "product", "(II)J"⟩, 9), (⟨"FactorGraph", "sumWith", "(II)J"⟩, 9), (⟨"FactorGraph", "sumWithBoth", "(IIII)J"⟩, 9), (⟨"FactorGraphModel", "bad", "(I)Z"⟩, 4), (⟨"FactorGraphModel", "worth", "(I)J"⟩, 4), (⟨"FactorGraphModel", "allowed", "(I)Z"⟩, 4), (⟨"FactorGraphModel", "value", "(II)I"⟩, 4), (⟨"FactorGraphModel", "both", "(II)J"⟩, 4)]
theorem lw_r1 : ∀ q ∈ lw_privs_1, lw_okq q := List.forall_mem_cons.mpr ⟨lw_p0, List.forall_mem_cons.mpr ⟨lw_p1, List.forall_mem_cons.mpr ⟨lw_p2, List.forall_mem_cons.mpr ⟨lw_p3, List.forall_mem_cons.mpr ⟨lw_p4, List.forall_mem_cons.mpr ⟨lw_p5, List.forall_mem_cons.mpr ⟨lw_p6, List.forall_mem_cons.mpr ⟨lw_p7, List.forall_mem_cons.mpr ⟨lw_p8, List.forall_mem_cons.mpr ⟨lw_p9, List.forall_mem_cons.mpr ⟨lw_p10, List.forall_mem_cons.mpr ⟨lw_p11, List.forall_mem_cons.mpr ⟨lw_p12, List.forall_mem_cons.mpr ⟨lw_p13, List.forall_mem_cons.mpr ⟨lw_p14, List.forall_mem_cons.mpr ⟨lw_p15, fun _ h => absurd h List.not_mem_nil⟩⟩⟩⟩⟩⟩⟩⟩⟩⟩⟩⟩⟩⟩⟩⟩
def lw_privs : List (MethodName × Nat) := lw_privs_1
def lw_tbl : List Cond := k2_sels lw_privs ++ tables_1
theorem lw_privs_ok : ∀ q ∈ lw_privs, lw_okq q := lw_r1
-- ===== ONE list of words for every method: the tables' words that hold all through a run =====
def lw_all : List Cond := lw_tbl.filter goodWord
/-- a word of the tables by its place: claim/WORDS.tsv -/
theorem lw_w {w : Cond} (i : Nat) (h : lw_tbl[i]? = some w) (g : goodWord w = true) : w ∈ lw_all := List.mem_filter.mpr ⟨List.mem_of_getElem? h, g⟩
theorem lw_all_tbl {w : Cond} (h : w ∈ lw_all) : w ∈ lw_tbl := (List.mem_filter.mp h).1
theorem lw_self : GoodIn lw_all lw_all := fun w h => ⟨h, good_of_word (List.mem_filter.mp h).2⟩
/-- a class's field words, by their places -/
theorem lw_in (ws : List Cond) (ps : List Nat) (hp : ws = ps.filterMap (fun i => lw_tbl[i]?)) (hg : ws.all goodWord = true) : ∀ w ∈ ws, w ∈ lw_all := by
  intro w h
  have h1 := List.all_eq_true.mp hg w h
  rw [hp] at h
  obtain ⟨i, -, hi⟩ := List.mem_filterMap.mp h
  exact lw_w i hi h1
/-- the words of a contract for the method y with code b, L locals, answer r -/
abbrev ws_ (y : MethodName) (b : ByteArray) (L : Nat) (r : Option FieldType) : List Cond := Cond.code y b L r :: lw_all
theorem lw_meth {y : MethodName} {b : ByteArray} {L : Nat} {r : Option FieldType} (h : Cond.code y b L r ∈ lw_all) : GoodIn lw_all (ws_ y b L r) := by
  intro w hw
  rcases List.mem_cons.mp hw with e | e
  · rw [e]
    exact lw_self _ h
  · exact lw_self _ e
theorem lw_app {a c : List Cond} (ha : ∀ w ∈ a, w ∈ lw_all) (hc : GoodIn lw_all c) : GoodIn lw_all (a ++ c) := by
  intro w hw
  rcases List.mem_append.mp hw with e | e
  · exact lw_self w (ha w e)
  · exact hc w e
/-- what a call through an object asks: cwV n hts (lw_V ..) -/
theorem lw_V {own : String} {idx : Nat} {C : String} {y : MethodName} {b : ByteArray} {L : Nat} {r : Option FieldType} (h1 : Cond.methodLink own idx y ∈ lw_all) (h2 : Cond.instanceMethod y ∈ lw_all) (h3 : Cond.selects C y y ∈ lw_all) (h4 : Cond.initialized C ∈ lw_all) (h5 : Cond.code y b L r ∈ lw_all) : GoodIn lw_all (wsV own idx C y (ws_ y b L r)) := by
  refine lw_app ?_ (lw_meth h5)
  intro w hw
  simp only [List.mem_cons, List.not_mem_nil, or_false] at hw
  rcases hw with e | e | e | e
  · rw [e]; exact h1
  · rw [e]; exact h2
  · rw [e]; exact h3
  · rw [e]; exact h4
/-- what a static call asks: va_cwS n hts (lw_S ..) -/
theorem lw_S {own : String} {idx : Nat} {y : MethodName} {b : ByteArray} {L : Nat} {r : Option FieldType} (h1 : Cond.methodLink own idx y ∈ lw_all) (h2 : Cond.static y ∈ lw_all) (h3 : Cond.initialized y.cls ∈ lw_all) (h4 : Cond.code y b L r ∈ lw_all) : GoodIn lw_all (va_wsS own idx y (ws_ y b L r)) := by
  refine lw_app ?_ (lw_meth h4)
  intro w hw
  simp only [List.mem_cons, List.not_mem_nil, or_false] at hw
  rcases hw with e | e | e
  · rw [e]; exact h1
  · rw [e]; exact h2
  · rw [e]; exact h3
/-- the words of a contract for a method WITH HANDLERS (hh: its table) -/
abbrev wsW_ (y : MethodName) (b : ByteArray) (L : Nat) (r : Option FieldType) (hh : List (Nat × Nat × Nat × Nat)) : List Cond := Cond.codeWith y b L r hh :: lw_all
theorem lw_methW {y : MethodName} {b : ByteArray} {L : Nat} {r : Option FieldType} {hh : List (Nat × Nat × Nat × Nat)} (h : Cond.codeWith y b L r hh ∈ lw_all) : GoodIn lw_all (wsW_ y b L r hh) := by
  intro w hw
  rcases List.mem_cons.mp hw with e | e
  · rw [e]
    exact lw_self _ h
  · exact lw_self _ e
/-- any list of words by their places (lw_in), good -/
theorem lw_good {ws : List Cond} (h : ∀ w ∈ ws, w ∈ lw_all) : GoodIn lw_all ws := fun w hw => lw_self w (h w hw)
/-- what a call of a method with handlers asks: vx_cwVW n hts (lw_VW ..), vx_cwSW n hts (lw_SW ..) -/
theorem lw_VW {own : String} {idx : Nat} {C : String} {y : MethodName} {b : ByteArray} {L : Nat} {r : Option FieldType} {hh : List (Nat × Nat × Nat × Nat)} (h1 : Cond.methodLink own idx y ∈ lw_all) (h2 : Cond.instanceMethod y ∈ lw_all) (h3 : Cond.selects C y y ∈ lw_all) (h4 : Cond.initialized C ∈ lw_all) (h5 : Cond.codeWith y b L r hh ∈ lw_all) : GoodIn lw_all (wsV own idx C y (wsW_ y b L r hh)) := by
  refine lw_app ?_ (lw_methW h5)
  intro w hw
  simp only [List.mem_cons, List.not_mem_nil, or_false] at hw
  rcases hw with e | e | e | e
  · rw [e]; exact h1
  · rw [e]; exact h2
  · rw [e]; exact h3
  · rw [e]; exact h4
theorem lw_SW {own : String} {idx : Nat} {y : MethodName} {b : ByteArray} {L : Nat} {r : Option FieldType} {hh : List (Nat × Nat × Nat × Nat)} (h1 : Cond.methodLink own idx y ∈ lw_all) (h2 : Cond.static y ∈ lw_all) (h3 : Cond.initialized y.cls ∈ lw_all) (h4 : Cond.codeWith y b L r hh ∈ lw_all) : GoodIn lw_all (va_wsS own idx y (wsW_ y b L r hh)) := by
  refine lw_app ?_ (lw_methW h4)
  intro w hw
  simp only [List.mem_cons, List.not_mem_nil, or_false] at hw
  rcases hw with e | e | e
  · rw [e]; exact h1
  · rw [e]; exact h2
  · rw [e]; exact h3
/-- a word by its place in its run of the tables -/
theorem lw_at {r : List Cond} (hr : ∀ w ∈ r, w ∈ lw_tbl) {w : Cond} (i : Nat) (h : r[i]? = some w) : w ∈ lw_tbl := hr w (List.mem_of_getElem? h)
theorem lw_g {w : Cond} (h : w ∈ lw_tbl) (g : goodWord w = true) : w ∈ lw_all := List.mem_filter.mpr ⟨h, g⟩
theorem lw_ms : ∀ w ∈ k2_sels lw_privs, w ∈ lw_tbl := fun w h => show w ∈ k2_sels lw_privs ++ tables_1 from List.mem_append_left _ h
theorem lw_m0 : ∀ w ∈ tables_1, w ∈ lw_tbl := fun w h => show w ∈ k2_sels lw_privs ++ tables_1 from List.mem_append_right (k2_sels lw_privs) h
theorem qs0 : (Cond.selects "FactorGraph" ⟨"FactorGraph", "fixAsGiven", "()V"⟩ ⟨"FactorGraph", "fixAsGiven", "()V"⟩) ∈ lw_all := lw_g (lw_at lw_ms 0 rfl) rfl
theorem qs1 : (Cond.selects "FactorGraph" ⟨"FactorGraph", "solve", "(I)J"⟩ ⟨"FactorGraph", "solve", "(I)J"⟩) ∈ lw_all := lw_g (lw_at lw_ms 1 rfl) rfl
theorem qs2 : (Cond.selects "FactorGraph" ⟨"FactorGraph", "loadTables", "(I)V"⟩ ⟨"FactorGraph", "loadTables", "(I)V"⟩) ∈ lw_all := lw_g (lw_at lw_ms 2 rfl) rfl
theorem qs3 : (Cond.selects "FactorGraph" ⟨"FactorGraph", "weightIn", "(II)I"⟩ ⟨"FactorGraph", "weightIn", "(II)I"⟩) ∈ lw_all := lw_g (lw_at lw_ms 3 rfl) rfl
theorem qs4 : (Cond.selects "FactorGraph" ⟨"FactorGraph", "valueIn", "(II)I"⟩ ⟨"FactorGraph", "valueIn", "(II)I"⟩) ∈ lw_all := lw_g (lw_at lw_ms 4 rfl) rfl
theorem qs5 : (Cond.selects "FactorGraph" ⟨"FactorGraph", "cheapest", "(I)I"⟩ ⟨"FactorGraph", "cheapest", "(I)I"⟩) ∈ lw_all := lw_g (lw_at lw_ms 5 rfl) rfl
theorem qs6 : (Cond.selects "FactorGraph" ⟨"FactorGraph", "neighbours", "(I)I"⟩ ⟨"FactorGraph", "neighbours", "(I)I"⟩) ∈ lw_all := lw_g (lw_at lw_ms 6 rfl) rfl
theorem qs7 : (Cond.selects "FactorGraph" ⟨"FactorGraph", "takeOut", "(II)V"⟩ ⟨"FactorGraph", "takeOut", "(II)V"⟩) ∈ lw_all := lw_g (lw_at lw_ms 7 rfl) rfl
theorem qs8 : (Cond.selects "FactorGraph" ⟨"FactorGraph", "product", "(II)J"⟩ ⟨"FactorGraph", "product", "(II)J"⟩) ∈ lw_all := lw_g (lw_at lw_ms 8 rfl) rfl
theorem qs9 : (Cond.selects "FactorGraph" ⟨"FactorGraph", "sumWith", "(II)J"⟩ ⟨"FactorGraph", "sumWith", "(II)J"⟩) ∈ lw_all := lw_g (lw_at lw_ms 9 rfl) rfl
theorem qs10 : (Cond.selects "FactorGraph" ⟨"FactorGraph", "sumWithBoth", "(IIII)J"⟩ ⟨"FactorGraph", "sumWithBoth", "(IIII)J"⟩) ∈ lw_all := lw_g (lw_at lw_ms 10 rfl) rfl
theorem qs11 : (Cond.selects "FactorGraphModel" ⟨"FactorGraphModel", "bad", "(I)Z"⟩ ⟨"FactorGraphModel", "bad", "(I)Z"⟩) ∈ lw_all := lw_g (lw_at lw_ms 11 rfl) rfl
theorem qs12 : (Cond.selects "FactorGraphModel" ⟨"FactorGraphModel", "worth", "(I)J"⟩ ⟨"FactorGraphModel", "worth", "(I)J"⟩) ∈ lw_all := lw_g (lw_at lw_ms 12 rfl) rfl
theorem qs13 : (Cond.selects "FactorGraphModel" ⟨"FactorGraphModel", "allowed", "(I)Z"⟩ ⟨"FactorGraphModel", "allowed", "(I)Z"⟩) ∈ lw_all := lw_g (lw_at lw_ms 13 rfl) rfl
theorem qs14 : (Cond.selects "FactorGraphModel" ⟨"FactorGraphModel", "value", "(II)I"⟩ ⟨"FactorGraphModel", "value", "(II)I"⟩) ∈ lw_all := lw_g (lw_at lw_ms 14 rfl) rfl
theorem qs15 : (Cond.selects "FactorGraphModel" ⟨"FactorGraphModel", "both", "(II)J"⟩ ⟨"FactorGraphModel", "both", "(II)J"⟩) ∈ lw_all := lw_g (lw_at lw_ms 15 rfl) rfl
end
section
set_option maxRecDepth 100000
/-! FactorGraph -/
def RX0 : String := "FactorGraph"
def TX0 : u_T := fun k => match k with
  | 0 => ("FactorGraph", "factors", "I", false)
  | 1 => ("FactorGraph", "arity", "[I", true)
  | 2 => ("FactorGraph", "variables", "[I", true)
  | 3 => ("FactorGraph", "weights", "[I", true)
  | 4 => ("FactorGraph", "given", "[I", true)
  | 5 => ("FactorGraph", "fixed", "[I", true)
  | 6 => ("FactorGraph", "tables", "I", false)
  | 7 => ("FactorGraph", "scope", "[I", true)
  | _ => ("FactorGraph", "table", "[J", true)
def tyX0 : Nat → FieldType := fun k => match k with
  | 0 => .int
  | 1 => .array .int
  | 2 => .array .int
  | 3 => .array .int
  | 4 => .array .int
  | 5 => .array .int
  | 6 => .int
  | 7 => .array .int
  | _ => .array .long
abbrev wsX00 : List Cond := u_ws RX0 TX0 9
theorem nmX0 : ∀ a, a < 9 → ∀ b, b < 9 → a ≠ b → (TX0 a).2.1 ≠ (TX0 b).2.1 := by decide +kernel
theorem tyX0_ok : ∀ k, k < 9 → parseFieldDescriptor (TX0 k).2.2.1 = some (tyX0 k) := by decide +kernel
abbrev cX0_init : ByteArray := prog_1_method_1_code
def yX0_init : MethodName := ⟨RX0, "<init>", "()V"⟩
abbrev cX0_factor : ByteArray := prog_1_method_3_code
def yX0_factor : MethodName := ⟨RX0, "factor", "(III)I"⟩
abbrev cX0_bad : ByteArray := prog_1_method_2_code
def yX0_bad : MethodName := ⟨RX0, "bad", "(I)Z"⟩
abbrev cX0_weight : ByteArray := prog_1_method_4_code
def yX0_weight : MethodName := ⟨RX0, "weight", "(III)I"⟩
abbrev cX0_evidence : ByteArray := prog_1_method_5_code
def yX0_evidence : MethodName := ⟨RX0, "evidence", "(II)I"⟩
abbrev cX0_drop : ByteArray := prog_1_method_6_code
def yX0_drop : MethodName := ⟨RX0, "drop", "()I"⟩
abbrev cX0_total : ByteArray := prog_1_method_19_code
def yX0_total : MethodName := ⟨RX0, "total", "()J"⟩
abbrev cX0_fixAsGiven : ByteArray := prog_1_method_7_code
def yX0_fixAsGiven : MethodName := ⟨RX0, "fixAsGiven", "()V"⟩
abbrev cX0_solve : ByteArray := prog_1_method_16_code
def yX0_solve : MethodName := ⟨RX0, "solve", "(I)J"⟩
abbrev cX0_loadTables : ByteArray := prog_1_method_10_code
def yX0_loadTables : MethodName := ⟨RX0, "loadTables", "(I)V"⟩
abbrev cX0_weightIn : ByteArray := prog_1_method_9_code
def yX0_weightIn : MethodName := ⟨RX0, "weightIn", "(II)I"⟩
abbrev cX0_valueIn : ByteArray := prog_1_method_8_code
def yX0_valueIn : MethodName := ⟨RX0, "valueIn", "(II)I"⟩
abbrev cX0_cheapest : ByteArray := prog_1_method_13_code
def yX0_cheapest : MethodName := ⟨RX0, "cheapest", "(I)I"⟩
abbrev cX0_neighbours : ByteArray := prog_1_method_12_code
def yX0_neighbours : MethodName := ⟨RX0, "neighbours", "(I)I"⟩
abbrev cX0_bits : ByteArray := prog_1_method_11_code
def yX0_bits : MethodName := ⟨RX0, "bits", "(I)I"⟩
abbrev cX0_takeOut : ByteArray := prog_1_method_15_code
def yX0_takeOut : MethodName := ⟨RX0, "takeOut", "(II)V"⟩
abbrev cX0_product : ByteArray := prog_1_method_14_code
def yX0_product : MethodName := ⟨RX0, "product", "(II)J"⟩
abbrev cX0_share : ByteArray := prog_1_method_20_code
def yX0_share : MethodName := ⟨RX0, "share", "(I)J"⟩
abbrev cX0_sumWith : ByteArray := prog_1_method_17_code
def yX0_sumWith : MethodName := ⟨RX0, "sumWith", "(II)J"⟩
abbrev cX0_alike : ByteArray := prog_1_method_21_code
def yX0_alike : MethodName := ⟨RX0, "alike", "(II)J"⟩
abbrev cX0_sumWithBoth : ByteArray := prog_1_method_18_code
def yX0_sumWithBoth : MethodName := ⟨RX0, "sumWithBoth", "(IIII)J"⟩
abbrev cX0_best : ByteArray := prog_1_method_22_code
def yX0_best : MethodName := ⟨RX0, "best", "()J"⟩
abbrev cX0_bestAssignment : ByteArray := prog_1_method_23_code
def yX0_bestAssignment : MethodName := ⟨RX0, "bestAssignment", "()I"⟩
abbrev cX0_possible : ByteArray := prog_1_method_24_code
def yX0_possible : MethodName := ⟨RX0, "possible", "()I"⟩
abbrev cX0_independent : ByteArray := prog_1_method_25_code
def yX0_independent : MethodName := ⟨RX0, "independent", "(II)Z"⟩
theorem q17 : (Jvm.Cond.initialized "FactorGraph") ∈ lw_all := lw_g (lw_at lw_m0 1 rfl) rfl
theorem q20 : (Jvm.Cond.instantiable "FactorGraph" (9 : Nat)) ∈ lw_all := lw_g (lw_at lw_m0 4 rfl) rfl
theorem q22 : (Jvm.Cond.instanceMethod ({ cls := "FactorGraph", name := "<init>", desc := "()V" } : Jvm.MethodName)) ∈ lw_all := lw_g (lw_at lw_m0 6 rfl) rfl
theorem q23 : (Jvm.Cond.code ({ cls := "FactorGraph", name := "<init>", desc := "()V" } : Jvm.MethodName) prog_1_method_1_code (2 : Nat) (Option.none : Option Jvm.ClassFile.FieldType)) ∈ lw_all := lw_g (lw_at lw_m0 7 rfl) rfl
theorem q24 : (Jvm.Cond.methodLink "FactorGraph" (1 : Nat) ({ cls := "java/lang/Object", name := "<init>", desc := "()V" } : Jvm.MethodName)) ∈ lw_all := lw_g (lw_at lw_m0 8 rfl) rfl
theorem q27 : (Jvm.Cond.fieldLink "FactorGraph" (36 : Nat) "FactorGraph" "factors" "I") ∈ lw_all := lw_g (lw_at lw_m0 11 rfl) rfl
theorem q28 : (Jvm.Cond.fieldLink "FactorGraph" (7 : Nat) "FactorGraph" "arity" "[I") ∈ lw_all := lw_g (lw_at lw_m0 12 rfl) rfl
theorem q29 : (Jvm.Cond.fieldLink "FactorGraph" (13 : Nat) "FactorGraph" "variables" "[I") ∈ lw_all := lw_g (lw_at lw_m0 13 rfl) rfl
theorem q30 : (Jvm.Cond.fieldLink "FactorGraph" (16 : Nat) "FactorGraph" "weights" "[I") ∈ lw_all := lw_g (lw_at lw_m0 14 rfl) rfl
theorem q31 : (Jvm.Cond.fieldLink "FactorGraph" (19 : Nat) "FactorGraph" "given" "[I") ∈ lw_all := lw_g (lw_at lw_m0 15 rfl) rfl
theorem q32 : (Jvm.Cond.fieldLink "FactorGraph" (22 : Nat) "FactorGraph" "fixed" "[I") ∈ lw_all := lw_g (lw_at lw_m0 16 rfl) rfl
theorem q33 : (Jvm.Cond.fieldLink "FactorGraph" (44 : Nat) "FactorGraph" "tables" "I") ∈ lw_all := lw_g (lw_at lw_m0 17 rfl) rfl
theorem q34 : (Jvm.Cond.fieldLink "FactorGraph" (25 : Nat) "FactorGraph" "scope" "[I") ∈ lw_all := lw_g (lw_at lw_m0 18 rfl) rfl
theorem q35 : (Jvm.Cond.fieldLink "FactorGraph" (28 : Nat) "FactorGraph" "table" "[J") ∈ lw_all := lw_g (lw_at lw_m0 19 rfl) rfl
theorem q36 : (Jvm.Cond.lays "FactorGraph" "FactorGraph" "factors" "I") ∈ lw_all := lw_g (lw_at lw_m0 20 rfl) rfl
theorem q37 : (Jvm.Cond.soleField "FactorGraph" "factors") ∈ lw_all := lw_g (lw_at lw_m0 21 rfl) rfl
theorem q38 : (Jvm.Cond.laysFinal "FactorGraph" "FactorGraph" "arity" "[I") ∈ lw_all := lw_g (lw_at lw_m0 22 rfl) rfl
theorem q39 : (Jvm.Cond.soleField "FactorGraph" "arity") ∈ lw_all := lw_g (lw_at lw_m0 23 rfl) rfl
theorem q40 : (Jvm.Cond.laysFinal "FactorGraph" "FactorGraph" "variables" "[I") ∈ lw_all := lw_g (lw_at lw_m0 24 rfl) rfl
theorem q41 : (Jvm.Cond.soleField "FactorGraph" "variables") ∈ lw_all := lw_g (lw_at lw_m0 25 rfl) rfl
theorem q42 : (Jvm.Cond.laysFinal "FactorGraph" "FactorGraph" "weights" "[I") ∈ lw_all := lw_g (lw_at lw_m0 26 rfl) rfl
theorem q43 : (Jvm.Cond.soleField "FactorGraph" "weights") ∈ lw_all := lw_g (lw_at lw_m0 27 rfl) rfl
theorem q44 : (Jvm.Cond.laysFinal "FactorGraph" "FactorGraph" "given" "[I") ∈ lw_all := lw_g (lw_at lw_m0 28 rfl) rfl
theorem q45 : (Jvm.Cond.soleField "FactorGraph" "given") ∈ lw_all := lw_g (lw_at lw_m0 29 rfl) rfl
theorem q46 : (Jvm.Cond.laysFinal "FactorGraph" "FactorGraph" "fixed" "[I") ∈ lw_all := lw_g (lw_at lw_m0 30 rfl) rfl
theorem q47 : (Jvm.Cond.soleField "FactorGraph" "fixed") ∈ lw_all := lw_g (lw_at lw_m0 31 rfl) rfl
theorem q48 : (Jvm.Cond.lays "FactorGraph" "FactorGraph" "tables" "I") ∈ lw_all := lw_g (lw_at lw_m0 32 rfl) rfl
theorem q49 : (Jvm.Cond.soleField "FactorGraph" "tables") ∈ lw_all := lw_g (lw_at lw_m0 33 rfl) rfl
theorem q50 : (Jvm.Cond.laysFinal "FactorGraph" "FactorGraph" "scope" "[I") ∈ lw_all := lw_g (lw_at lw_m0 34 rfl) rfl
theorem q51 : (Jvm.Cond.soleField "FactorGraph" "scope") ∈ lw_all := lw_g (lw_at lw_m0 35 rfl) rfl
theorem q52 : (Jvm.Cond.laysFinal "FactorGraph" "FactorGraph" "table" "[J") ∈ lw_all := lw_g (lw_at lw_m0 36 rfl) rfl
theorem q53 : (Jvm.Cond.soleField "FactorGraph" "table") ∈ lw_all := lw_g (lw_at lw_m0 37 rfl) rfl
theorem q54 : (Jvm.Cond.superclass "FactorGraph" "java/lang/Object") ∈ lw_all := lw_g (lw_at lw_m0 38 rfl) rfl
theorem q58 : (Jvm.Cond.instanceMethod ({ cls := "FactorGraph", name := "factor", desc := "(III)I" } : Jvm.MethodName)) ∈ lw_all := lw_g (lw_at lw_m0 42 rfl) rfl
theorem q59 : (Jvm.Cond.selects "FactorGraph" ({ cls := "FactorGraph", name := "factor", desc := "(III)I" } : Jvm.MethodName) ({ cls := "FactorGraph", name := "factor", desc := "(III)I" } : Jvm.MethodName)) ∈ lw_all := lw_g (lw_at lw_m0 43 rfl) rfl
theorem q60 : (Jvm.Cond.code ({ cls := "FactorGraph", name := "factor", desc := "(III)I" } : Jvm.MethodName) prog_1_method_3_code (7 : Nat) (Option.some Jvm.ClassFile.FieldType.int)) ∈ lw_all := lw_g (lw_at lw_m0 44 rfl) rfl
theorem q61 : (Jvm.Cond.methodLink "FactorGraph" (32 : Nat) ({ cls := "FactorGraph", name := "bad", desc := "(I)Z" } : Jvm.MethodName)) ∈ lw_all := lw_g (lw_at lw_m0 45 rfl) rfl
theorem q62 : (Jvm.Cond.static ({ cls := "FactorGraph", name := "bad", desc := "(I)Z" } : Jvm.MethodName)) ∈ lw_all := lw_g (lw_at lw_m0 46 rfl) rfl
theorem q63 : (Jvm.Cond.code ({ cls := "FactorGraph", name := "bad", desc := "(I)Z" } : Jvm.MethodName) prog_1_method_2_code (1 : Nat) (Option.some Jvm.ClassFile.FieldType.boolean)) ∈ lw_all := lw_g (lw_at lw_m0 47 rfl) rfl
theorem q65 : (Jvm.Cond.instanceMethod ({ cls := "FactorGraph", name := "weight", desc := "(III)I" } : Jvm.MethodName)) ∈ lw_all := lw_g (lw_at lw_m0 49 rfl) rfl
theorem q66 : (Jvm.Cond.selects "FactorGraph" ({ cls := "FactorGraph", name := "weight", desc := "(III)I" } : Jvm.MethodName) ({ cls := "FactorGraph", name := "weight", desc := "(III)I" } : Jvm.MethodName)) ∈ lw_all := lw_g (lw_at lw_m0 50 rfl) rfl
theorem q67 : (Jvm.Cond.code ({ cls := "FactorGraph", name := "weight", desc := "(III)I" } : Jvm.MethodName) prog_1_method_4_code (5 : Nat) (Option.some Jvm.ClassFile.FieldType.int)) ∈ lw_all := lw_g (lw_at lw_m0 51 rfl) rfl
theorem q69 : (Jvm.Cond.instanceMethod ({ cls := "FactorGraph", name := "evidence", desc := "(II)I" } : Jvm.MethodName)) ∈ lw_all := lw_g (lw_at lw_m0 53 rfl) rfl
theorem q70 : (Jvm.Cond.selects "FactorGraph" ({ cls := "FactorGraph", name := "evidence", desc := "(II)I" } : Jvm.MethodName) ({ cls := "FactorGraph", name := "evidence", desc := "(II)I" } : Jvm.MethodName)) ∈ lw_all := lw_g (lw_at lw_m0 54 rfl) rfl
theorem q71 : (Jvm.Cond.code ({ cls := "FactorGraph", name := "evidence", desc := "(II)I" } : Jvm.MethodName) prog_1_method_5_code (4 : Nat) (Option.some Jvm.ClassFile.FieldType.int)) ∈ lw_all := lw_g (lw_at lw_m0 55 rfl) rfl
theorem q73 : (Jvm.Cond.instanceMethod ({ cls := "FactorGraph", name := "drop", desc := "()I" } : Jvm.MethodName)) ∈ lw_all := lw_g (lw_at lw_m0 57 rfl) rfl
theorem q74 : (Jvm.Cond.selects "FactorGraph" ({ cls := "FactorGraph", name := "drop", desc := "()I" } : Jvm.MethodName) ({ cls := "FactorGraph", name := "drop", desc := "()I" } : Jvm.MethodName)) ∈ lw_all := lw_g (lw_at lw_m0 58 rfl) rfl
theorem q75 : (Jvm.Cond.code ({ cls := "FactorGraph", name := "drop", desc := "()I" } : Jvm.MethodName) prog_1_method_6_code (1 : Nat) (Option.some Jvm.ClassFile.FieldType.int)) ∈ lw_all := lw_g (lw_at lw_m0 59 rfl) rfl
theorem q77 : (Jvm.Cond.instanceMethod ({ cls := "FactorGraph", name := "total", desc := "()J" } : Jvm.MethodName)) ∈ lw_all := lw_g (lw_at lw_m0 61 rfl) rfl
theorem q78 : (Jvm.Cond.selects "FactorGraph" ({ cls := "FactorGraph", name := "total", desc := "()J" } : Jvm.MethodName) ({ cls := "FactorGraph", name := "total", desc := "()J" } : Jvm.MethodName)) ∈ lw_all := lw_g (lw_at lw_m0 62 rfl) rfl
theorem q79 : (Jvm.Cond.code ({ cls := "FactorGraph", name := "total", desc := "()J" } : Jvm.MethodName) prog_1_method_19_code (1 : Nat) (Option.some Jvm.ClassFile.FieldType.long)) ∈ lw_all := lw_g (lw_at lw_m0 63 rfl) rfl
theorem q80 : (Jvm.Cond.methodLink "FactorGraph" (79 : Nat) ({ cls := "FactorGraph", name := "fixAsGiven", desc := "()V" } : Jvm.MethodName)) ∈ lw_all := lw_g (lw_at lw_m0 64 rfl) rfl
theorem q81 : (Jvm.Cond.privateMethod ({ cls := "FactorGraph", name := "fixAsGiven", desc := "()V" } : Jvm.MethodName)) ∈ lw_tbl := lw_at lw_m0 65 rfl
theorem q82 : (Jvm.Cond.instanceMethod ({ cls := "FactorGraph", name := "fixAsGiven", desc := "()V" } : Jvm.MethodName)) ∈ lw_all := lw_g (lw_at lw_m0 66 rfl) rfl
theorem q83 : (Jvm.Cond.code ({ cls := "FactorGraph", name := "fixAsGiven", desc := "()V" } : Jvm.MethodName) prog_1_method_7_code (2 : Nat) (Option.none : Option Jvm.ClassFile.FieldType)) ∈ lw_all := lw_g (lw_at lw_m0 67 rfl) rfl
theorem q84 : (Jvm.Cond.methodLink "FactorGraph" (72 : Nat) ({ cls := "FactorGraph", name := "solve", desc := "(I)J" } : Jvm.MethodName)) ∈ lw_all := lw_g (lw_at lw_m0 68 rfl) rfl
theorem q85 : (Jvm.Cond.privateMethod ({ cls := "FactorGraph", name := "solve", desc := "(I)J" } : Jvm.MethodName)) ∈ lw_tbl := lw_at lw_m0 69 rfl
theorem q86 : (Jvm.Cond.instanceMethod ({ cls := "FactorGraph", name := "solve", desc := "(I)J" } : Jvm.MethodName)) ∈ lw_all := lw_g (lw_at lw_m0 70 rfl) rfl
theorem q87 : (Jvm.Cond.code ({ cls := "FactorGraph", name := "solve", desc := "(I)J" } : Jvm.MethodName) prog_1_method_16_code (6 : Nat) (Option.some Jvm.ClassFile.FieldType.long)) ∈ lw_all := lw_g (lw_at lw_m0 71 rfl) rfl
theorem q88 : (Jvm.Cond.methodLink "FactorGraph" (61 : Nat) ({ cls := "FactorGraph", name := "loadTables", desc := "(I)V" } : Jvm.MethodName)) ∈ lw_all := lw_g (lw_at lw_m0 72 rfl) rfl
theorem q89 : (Jvm.Cond.privateMethod ({ cls := "FactorGraph", name := "loadTables", desc := "(I)V" } : Jvm.MethodName)) ∈ lw_tbl := lw_at lw_m0 73 rfl
theorem q90 : (Jvm.Cond.instanceMethod ({ cls := "FactorGraph", name := "loadTables", desc := "(I)V" } : Jvm.MethodName)) ∈ lw_all := lw_g (lw_at lw_m0 74 rfl) rfl
theorem q91 : (Jvm.Cond.code ({ cls := "FactorGraph", name := "loadTables", desc := "(I)V" } : Jvm.MethodName) prog_1_method_10_code (5 : Nat) (Option.none : Option Jvm.ClassFile.FieldType)) ∈ lw_all := lw_g (lw_at lw_m0 75 rfl) rfl
theorem q92 : (Jvm.Cond.methodLink "FactorGraph" (47 : Nat) ({ cls := "FactorGraph", name := "weightIn", desc := "(II)I" } : Jvm.MethodName)) ∈ lw_all := lw_g (lw_at lw_m0 76 rfl) rfl
theorem q93 : (Jvm.Cond.privateMethod ({ cls := "FactorGraph", name := "weightIn", desc := "(II)I" } : Jvm.MethodName)) ∈ lw_tbl := lw_at lw_m0 77 rfl
theorem q94 : (Jvm.Cond.instanceMethod ({ cls := "FactorGraph", name := "weightIn", desc := "(II)I" } : Jvm.MethodName)) ∈ lw_all := lw_g (lw_at lw_m0 78 rfl) rfl
theorem q95 : (Jvm.Cond.code ({ cls := "FactorGraph", name := "weightIn", desc := "(II)I" } : Jvm.MethodName) prog_1_method_9_code (5 : Nat) (Option.some Jvm.ClassFile.FieldType.int)) ∈ lw_all := lw_g (lw_at lw_m0 79 rfl) rfl
theorem q96 : (Jvm.Cond.methodLink "FactorGraph" (40 : Nat) ({ cls := "FactorGraph", name := "valueIn", desc := "(II)I" } : Jvm.MethodName)) ∈ lw_all := lw_g (lw_at lw_m0 80 rfl) rfl
theorem q97 : (Jvm.Cond.privateMethod ({ cls := "FactorGraph", name := "valueIn", desc := "(II)I" } : Jvm.MethodName)) ∈ lw_tbl := lw_at lw_m0 81 rfl
theorem q98 : (Jvm.Cond.instanceMethod ({ cls := "FactorGraph", name := "valueIn", desc := "(II)I" } : Jvm.MethodName)) ∈ lw_all := lw_g (lw_at lw_m0 82 rfl) rfl
theorem q99 : (Jvm.Cond.code ({ cls := "FactorGraph", name := "valueIn", desc := "(II)I" } : Jvm.MethodName) prog_1_method_8_code (3 : Nat) (Option.some Jvm.ClassFile.FieldType.int)) ∈ lw_all := lw_g (lw_at lw_m0 83 rfl) rfl
theorem q100 : (Jvm.Cond.methodLink "FactorGraph" (65 : Nat) ({ cls := "FactorGraph", name := "cheapest", desc := "(I)I" } : Jvm.MethodName)) ∈ lw_all := lw_g (lw_at lw_m0 84 rfl) rfl
theorem q101 : (Jvm.Cond.privateMethod ({ cls := "FactorGraph", name := "cheapest", desc := "(I)I" } : Jvm.MethodName)) ∈ lw_tbl := lw_at lw_m0 85 rfl
theorem q102 : (Jvm.Cond.instanceMethod ({ cls := "FactorGraph", name := "cheapest", desc := "(I)I" } : Jvm.MethodName)) ∈ lw_all := lw_g (lw_at lw_m0 86 rfl) rfl
theorem q103 : (Jvm.Cond.code ({ cls := "FactorGraph", name := "cheapest", desc := "(I)I" } : Jvm.MethodName) prog_1_method_13_code (7 : Nat) (Option.some Jvm.ClassFile.FieldType.int)) ∈ lw_all := lw_g (lw_at lw_m0 87 rfl) rfl
theorem q104 : (Jvm.Cond.methodLink "FactorGraph" (50 : Nat) ({ cls := "FactorGraph", name := "neighbours", desc := "(I)I" } : Jvm.MethodName)) ∈ lw_all := lw_g (lw_at lw_m0 88 rfl) rfl
theorem q105 : (Jvm.Cond.privateMethod ({ cls := "FactorGraph", name := "neighbours", desc := "(I)I" } : Jvm.MethodName)) ∈ lw_tbl := lw_at lw_m0 89 rfl
theorem q106 : (Jvm.Cond.instanceMethod ({ cls := "FactorGraph", name := "neighbours", desc := "(I)I" } : Jvm.MethodName)) ∈ lw_all := lw_g (lw_at lw_m0 90 rfl) rfl
theorem q107 : (Jvm.Cond.code ({ cls := "FactorGraph", name := "neighbours", desc := "(I)I" } : Jvm.MethodName) prog_1_method_12_code (4 : Nat) (Option.some Jvm.ClassFile.FieldType.int)) ∈ lw_all := lw_g (lw_at lw_m0 91 rfl) rfl
theorem q108 : (Jvm.Cond.methodLink "FactorGraph" (54 : Nat) ({ cls := "FactorGraph", name := "bits", desc := "(I)I" } : Jvm.MethodName)) ∈ lw_all := lw_g (lw_at lw_m0 92 rfl) rfl
theorem q109 : (Jvm.Cond.static ({ cls := "FactorGraph", name := "bits", desc := "(I)I" } : Jvm.MethodName)) ∈ lw_all := lw_g (lw_at lw_m0 93 rfl) rfl
theorem q110 : (Jvm.Cond.code ({ cls := "FactorGraph", name := "bits", desc := "(I)I" } : Jvm.MethodName) prog_1_method_11_code (3 : Nat) (Option.some Jvm.ClassFile.FieldType.int)) ∈ lw_all := lw_g (lw_at lw_m0 94 rfl) rfl
theorem q111 : (Jvm.Cond.methodLink "FactorGraph" (68 : Nat) ({ cls := "FactorGraph", name := "takeOut", desc := "(II)V" } : Jvm.MethodName)) ∈ lw_all := lw_g (lw_at lw_m0 95 rfl) rfl
theorem q112 : (Jvm.Cond.privateMethod ({ cls := "FactorGraph", name := "takeOut", desc := "(II)V" } : Jvm.MethodName)) ∈ lw_tbl := lw_at lw_m0 96 rfl
theorem q113 : (Jvm.Cond.instanceMethod ({ cls := "FactorGraph", name := "takeOut", desc := "(II)V" } : Jvm.MethodName)) ∈ lw_all := lw_g (lw_at lw_m0 97 rfl) rfl
theorem q114 : (Jvm.Cond.code ({ cls := "FactorGraph", name := "takeOut", desc := "(II)V" } : Jvm.MethodName) prog_1_method_15_code (12 : Nat) (Option.none : Option Jvm.ClassFile.FieldType)) ∈ lw_all := lw_g (lw_at lw_m0 98 rfl) rfl
theorem q115 : (Jvm.Cond.methodLink "FactorGraph" (57 : Nat) ({ cls := "FactorGraph", name := "product", desc := "(II)J" } : Jvm.MethodName)) ∈ lw_all := lw_g (lw_at lw_m0 99 rfl) rfl
theorem q116 : (Jvm.Cond.privateMethod ({ cls := "FactorGraph", name := "product", desc := "(II)J" } : Jvm.MethodName)) ∈ lw_tbl := lw_at lw_m0 100 rfl
theorem q117 : (Jvm.Cond.instanceMethod ({ cls := "FactorGraph", name := "product", desc := "(II)J" } : Jvm.MethodName)) ∈ lw_all := lw_g (lw_at lw_m0 101 rfl) rfl
theorem q118 : (Jvm.Cond.code ({ cls := "FactorGraph", name := "product", desc := "(II)J" } : Jvm.MethodName) prog_1_method_14_code (6 : Nat) (Option.some Jvm.ClassFile.FieldType.long)) ∈ lw_all := lw_g (lw_at lw_m0 102 rfl) rfl
theorem q120 : (Jvm.Cond.instanceMethod ({ cls := "FactorGraph", name := "share", desc := "(I)J" } : Jvm.MethodName)) ∈ lw_all := lw_g (lw_at lw_m0 104 rfl) rfl
theorem q121 : (Jvm.Cond.selects "FactorGraph" ({ cls := "FactorGraph", name := "share", desc := "(I)J" } : Jvm.MethodName) ({ cls := "FactorGraph", name := "share", desc := "(I)J" } : Jvm.MethodName)) ∈ lw_all := lw_g (lw_at lw_m0 105 rfl) rfl
theorem q122 : (Jvm.Cond.code ({ cls := "FactorGraph", name := "share", desc := "(I)J" } : Jvm.MethodName) prog_1_method_20_code (2 : Nat) (Option.some Jvm.ClassFile.FieldType.long)) ∈ lw_all := lw_g (lw_at lw_m0 106 rfl) rfl
theorem q123 : (Jvm.Cond.methodLink "FactorGraph" (76 : Nat) ({ cls := "FactorGraph", name := "sumWith", desc := "(II)J" } : Jvm.MethodName)) ∈ lw_all := lw_g (lw_at lw_m0 107 rfl) rfl
theorem q124 : (Jvm.Cond.privateMethod ({ cls := "FactorGraph", name := "sumWith", desc := "(II)J" } : Jvm.MethodName)) ∈ lw_tbl := lw_at lw_m0 108 rfl
theorem q125 : (Jvm.Cond.instanceMethod ({ cls := "FactorGraph", name := "sumWith", desc := "(II)J" } : Jvm.MethodName)) ∈ lw_all := lw_g (lw_at lw_m0 109 rfl) rfl
theorem q126 : (Jvm.Cond.code ({ cls := "FactorGraph", name := "sumWith", desc := "(II)J" } : Jvm.MethodName) prog_1_method_17_code (6 : Nat) (Option.some Jvm.ClassFile.FieldType.long)) ∈ lw_all := lw_g (lw_at lw_m0 110 rfl) rfl
theorem q128 : (Jvm.Cond.instanceMethod ({ cls := "FactorGraph", name := "alike", desc := "(II)J" } : Jvm.MethodName)) ∈ lw_all := lw_g (lw_at lw_m0 112 rfl) rfl
theorem q129 : (Jvm.Cond.selects "FactorGraph" ({ cls := "FactorGraph", name := "alike", desc := "(II)J" } : Jvm.MethodName) ({ cls := "FactorGraph", name := "alike", desc := "(II)J" } : Jvm.MethodName)) ∈ lw_all := lw_g (lw_at lw_m0 113 rfl) rfl
theorem q130 : (Jvm.Cond.code ({ cls := "FactorGraph", name := "alike", desc := "(II)J" } : Jvm.MethodName) prog_1_method_21_code (7 : Nat) (Option.some Jvm.ClassFile.FieldType.long)) ∈ lw_all := lw_g (lw_at lw_m0 114 rfl) rfl
theorem q131 : (Jvm.Cond.methodLink "FactorGraph" (82 : Nat) ({ cls := "FactorGraph", name := "sumWithBoth", desc := "(IIII)J" } : Jvm.MethodName)) ∈ lw_all := lw_g (lw_at lw_m0 115 rfl) rfl
theorem q132 : (Jvm.Cond.privateMethod ({ cls := "FactorGraph", name := "sumWithBoth", desc := "(IIII)J" } : Jvm.MethodName)) ∈ lw_tbl := lw_at lw_m0 116 rfl
theorem q133 : (Jvm.Cond.instanceMethod ({ cls := "FactorGraph", name := "sumWithBoth", desc := "(IIII)J" } : Jvm.MethodName)) ∈ lw_all := lw_g (lw_at lw_m0 117 rfl) rfl
theorem q134 : (Jvm.Cond.code ({ cls := "FactorGraph", name := "sumWithBoth", desc := "(IIII)J" } : Jvm.MethodName) prog_1_method_18_code (8 : Nat) (Option.some Jvm.ClassFile.FieldType.long)) ∈ lw_all := lw_g (lw_at lw_m0 118 rfl) rfl
theorem q136 : (Jvm.Cond.instanceMethod ({ cls := "FactorGraph", name := "best", desc := "()J" } : Jvm.MethodName)) ∈ lw_all := lw_g (lw_at lw_m0 120 rfl) rfl
theorem q137 : (Jvm.Cond.selects "FactorGraph" ({ cls := "FactorGraph", name := "best", desc := "()J" } : Jvm.MethodName) ({ cls := "FactorGraph", name := "best", desc := "()J" } : Jvm.MethodName)) ∈ lw_all := lw_g (lw_at lw_m0 121 rfl) rfl
theorem q138 : (Jvm.Cond.code ({ cls := "FactorGraph", name := "best", desc := "()J" } : Jvm.MethodName) prog_1_method_22_code (1 : Nat) (Option.some Jvm.ClassFile.FieldType.long)) ∈ lw_all := lw_g (lw_at lw_m0 122 rfl) rfl
theorem q140 : (Jvm.Cond.instanceMethod ({ cls := "FactorGraph", name := "bestAssignment", desc := "()I" } : Jvm.MethodName)) ∈ lw_all := lw_g (lw_at lw_m0 124 rfl) rfl
theorem q141 : (Jvm.Cond.selects "FactorGraph" ({ cls := "FactorGraph", name := "bestAssignment", desc := "()I" } : Jvm.MethodName) ({ cls := "FactorGraph", name := "bestAssignment", desc := "()I" } : Jvm.MethodName)) ∈ lw_all := lw_g (lw_at lw_m0 125 rfl) rfl
theorem q142 : (Jvm.Cond.code ({ cls := "FactorGraph", name := "bestAssignment", desc := "()I" } : Jvm.MethodName) prog_1_method_23_code (7 : Nat) (Option.some Jvm.ClassFile.FieldType.int)) ∈ lw_all := lw_g (lw_at lw_m0 126 rfl) rfl
theorem q144 : (Jvm.Cond.instanceMethod ({ cls := "FactorGraph", name := "possible", desc := "()I" } : Jvm.MethodName)) ∈ lw_all := lw_g (lw_at lw_m0 128 rfl) rfl
theorem q145 : (Jvm.Cond.selects "FactorGraph" ({ cls := "FactorGraph", name := "possible", desc := "()I" } : Jvm.MethodName) ({ cls := "FactorGraph", name := "possible", desc := "()I" } : Jvm.MethodName)) ∈ lw_all := lw_g (lw_at lw_m0 129 rfl) rfl
theorem q146 : (Jvm.Cond.code ({ cls := "FactorGraph", name := "possible", desc := "()I" } : Jvm.MethodName) prog_1_method_24_code (1 : Nat) (Option.some Jvm.ClassFile.FieldType.int)) ∈ lw_all := lw_g (lw_at lw_m0 130 rfl) rfl
theorem q148 : (Jvm.Cond.instanceMethod ({ cls := "FactorGraph", name := "independent", desc := "(II)Z" } : Jvm.MethodName)) ∈ lw_all := lw_g (lw_at lw_m0 132 rfl) rfl
theorem q149 : (Jvm.Cond.selects "FactorGraph" ({ cls := "FactorGraph", name := "independent", desc := "(II)Z" } : Jvm.MethodName) ({ cls := "FactorGraph", name := "independent", desc := "(II)Z" } : Jvm.MethodName)) ∈ lw_all := lw_g (lw_at lw_m0 133 rfl) rfl
theorem q150 : (Jvm.Cond.code ({ cls := "FactorGraph", name := "independent", desc := "(II)Z" } : Jvm.MethodName) prog_1_method_25_code (11 : Nat) (Option.some Jvm.ClassFile.FieldType.boolean)) ∈ lw_all := lw_g (lw_at lw_m0 134 rfl) rfl
theorem in_X0 : ∀ w ∈ wsX00, w ∈ lw_all := lw_in wsX00 [36, 38, 40, 42, 44, 46, 48, 50, 52] (by decide +kernel) (by decide +kernel)
/-! FactorGraphModel -/
def RX1 : String := "FactorGraphModel"
def TX1 : u_T := fun k => match k with
  | 0 => ("FactorGraphModel", "factors", "I", false)
  | 1 => ("FactorGraphModel", "vars", "[I", true)
  | 2 => ("FactorGraphModel", "weights", "[I", true)
  | _ => ("FactorGraphModel", "fixed", "[I", true)
def tyX1 : Nat → FieldType := fun k => match k with
  | 0 => .int
  | 1 => .array .int
  | 2 => .array .int
  | _ => .array .int
abbrev wsX10 : List Cond := u_ws RX1 TX1 4
theorem nmX1 : ∀ a, a < 4 → ∀ b, b < 4 → a ≠ b → (TX1 a).2.1 ≠ (TX1 b).2.1 := by decide +kernel
theorem tyX1_ok : ∀ k, k < 4 → parseFieldDescriptor (TX1 k).2.2.1 = some (tyX1 k) := by decide +kernel
abbrev cX1_init : ByteArray := prog_3_method_1_code
def yX1_init : MethodName := ⟨RX1, "<init>", "()V"⟩
abbrev cX1_factor : ByteArray := prog_3_method_3_code
def yX1_factor : MethodName := ⟨RX1, "factor", "(III)I"⟩
abbrev cX1_bad : ByteArray := prog_3_method_2_code
def yX1_bad : MethodName := ⟨RX1, "bad", "(I)Z"⟩
abbrev cX1_weight : ByteArray := prog_3_method_4_code
def yX1_weight : MethodName := ⟨RX1, "weight", "(III)I"⟩
abbrev cX1_evidence : ByteArray := prog_3_method_5_code
def yX1_evidence : MethodName := ⟨RX1, "evidence", "(II)I"⟩
abbrev cX1_drop : ByteArray := prog_3_method_6_code
def yX1_drop : MethodName := ⟨RX1, "drop", "()I"⟩
abbrev cX1_total : ByteArray := prog_3_method_10_code
def yX1_total : MethodName := ⟨RX1, "total", "()J"⟩
abbrev cX1_worth : ByteArray := prog_3_method_9_code
def yX1_worth : MethodName := ⟨RX1, "worth", "(I)J"⟩
abbrev cX1_allowed : ByteArray := prog_3_method_8_code
def yX1_allowed : MethodName := ⟨RX1, "allowed", "(I)Z"⟩
abbrev cX1_value : ByteArray := prog_3_method_7_code
def yX1_value : MethodName := ⟨RX1, "value", "(II)I"⟩
abbrev cX1_share : ByteArray := prog_3_method_12_code
def yX1_share : MethodName := ⟨RX1, "share", "(I)J"⟩
abbrev cX1_both : ByteArray := prog_3_method_11_code
def yX1_both : MethodName := ⟨RX1, "both", "(II)J"⟩
abbrev cX1_alike : ByteArray := prog_3_method_13_code
def yX1_alike : MethodName := ⟨RX1, "alike", "(II)J"⟩
abbrev cX1_best : ByteArray := prog_3_method_14_code
def yX1_best : MethodName := ⟨RX1, "best", "()J"⟩
abbrev cX1_bestAssignment : ByteArray := prog_3_method_15_code
def yX1_bestAssignment : MethodName := ⟨RX1, "bestAssignment", "()I"⟩
abbrev cX1_possible : ByteArray := prog_3_method_16_code
def yX1_possible : MethodName := ⟨RX1, "possible", "()I"⟩
abbrev cX1_independent : ByteArray := prog_3_method_17_code
def yX1_independent : MethodName := ⟨RX1, "independent", "(II)Z"⟩
theorem q18 : (Jvm.Cond.initialized "FactorGraphModel") ∈ lw_all := lw_g (lw_at lw_m0 2 rfl) rfl
theorem q152 : (Jvm.Cond.instantiable "FactorGraphModel" (4 : Nat)) ∈ lw_all := lw_g (lw_at lw_m0 136 rfl) rfl
theorem q154 : (Jvm.Cond.instanceMethod ({ cls := "FactorGraphModel", name := "<init>", desc := "()V" } : Jvm.MethodName)) ∈ lw_all := lw_g (lw_at lw_m0 138 rfl) rfl
theorem q155 : (Jvm.Cond.code ({ cls := "FactorGraphModel", name := "<init>", desc := "()V" } : Jvm.MethodName) prog_3_method_1_code (2 : Nat) (Option.none : Option Jvm.ClassFile.FieldType)) ∈ lw_all := lw_g (lw_at lw_m0 139 rfl) rfl
theorem q156 : (Jvm.Cond.methodLink "FactorGraphModel" (1 : Nat) ({ cls := "java/lang/Object", name := "<init>", desc := "()V" } : Jvm.MethodName)) ∈ lw_all := lw_g (lw_at lw_m0 140 rfl) rfl
theorem q157 : (Jvm.Cond.fieldLink "FactorGraphModel" (23 : Nat) "FactorGraphModel" "factors" "I") ∈ lw_all := lw_g (lw_at lw_m0 141 rfl) rfl
theorem q158 : (Jvm.Cond.fieldLink "FactorGraphModel" (7 : Nat) "FactorGraphModel" "vars" "[I") ∈ lw_all := lw_g (lw_at lw_m0 142 rfl) rfl
theorem q159 : (Jvm.Cond.fieldLink "FactorGraphModel" (13 : Nat) "FactorGraphModel" "weights" "[I") ∈ lw_all := lw_g (lw_at lw_m0 143 rfl) rfl
theorem q160 : (Jvm.Cond.fieldLink "FactorGraphModel" (16 : Nat) "FactorGraphModel" "fixed" "[I") ∈ lw_all := lw_g (lw_at lw_m0 144 rfl) rfl
theorem q161 : (Jvm.Cond.lays "FactorGraphModel" "FactorGraphModel" "factors" "I") ∈ lw_all := lw_g (lw_at lw_m0 145 rfl) rfl
theorem q162 : (Jvm.Cond.soleField "FactorGraphModel" "factors") ∈ lw_all := lw_g (lw_at lw_m0 146 rfl) rfl
theorem q163 : (Jvm.Cond.laysFinal "FactorGraphModel" "FactorGraphModel" "vars" "[I") ∈ lw_all := lw_g (lw_at lw_m0 147 rfl) rfl
theorem q164 : (Jvm.Cond.soleField "FactorGraphModel" "vars") ∈ lw_all := lw_g (lw_at lw_m0 148 rfl) rfl
theorem q165 : (Jvm.Cond.laysFinal "FactorGraphModel" "FactorGraphModel" "weights" "[I") ∈ lw_all := lw_g (lw_at lw_m0 149 rfl) rfl
theorem q166 : (Jvm.Cond.soleField "FactorGraphModel" "weights") ∈ lw_all := lw_g (lw_at lw_m0 150 rfl) rfl
theorem q167 : (Jvm.Cond.laysFinal "FactorGraphModel" "FactorGraphModel" "fixed" "[I") ∈ lw_all := lw_g (lw_at lw_m0 151 rfl) rfl
theorem q168 : (Jvm.Cond.soleField "FactorGraphModel" "fixed") ∈ lw_all := lw_g (lw_at lw_m0 152 rfl) rfl
theorem q169 : (Jvm.Cond.superclass "FactorGraphModel" "java/lang/Object") ∈ lw_all := lw_g (lw_at lw_m0 153 rfl) rfl
theorem q171 : (Jvm.Cond.instanceMethod ({ cls := "FactorGraphModel", name := "factor", desc := "(III)I" } : Jvm.MethodName)) ∈ lw_all := lw_g (lw_at lw_m0 155 rfl) rfl
theorem q172 : (Jvm.Cond.selects "FactorGraphModel" ({ cls := "FactorGraphModel", name := "factor", desc := "(III)I" } : Jvm.MethodName) ({ cls := "FactorGraphModel", name := "factor", desc := "(III)I" } : Jvm.MethodName)) ∈ lw_all := lw_g (lw_at lw_m0 156 rfl) rfl
theorem q173 : (Jvm.Cond.code ({ cls := "FactorGraphModel", name := "factor", desc := "(III)I" } : Jvm.MethodName) prog_3_method_3_code (6 : Nat) (Option.some Jvm.ClassFile.FieldType.int)) ∈ lw_all := lw_g (lw_at lw_m0 157 rfl) rfl
theorem q174 : (Jvm.Cond.methodLink "FactorGraphModel" (19 : Nat) ({ cls := "FactorGraphModel", name := "bad", desc := "(I)Z" } : Jvm.MethodName)) ∈ lw_all := lw_g (lw_at lw_m0 158 rfl) rfl
theorem q175 : (Jvm.Cond.privateMethod ({ cls := "FactorGraphModel", name := "bad", desc := "(I)Z" } : Jvm.MethodName)) ∈ lw_tbl := lw_at lw_m0 159 rfl
theorem q176 : (Jvm.Cond.instanceMethod ({ cls := "FactorGraphModel", name := "bad", desc := "(I)Z" } : Jvm.MethodName)) ∈ lw_all := lw_g (lw_at lw_m0 160 rfl) rfl
theorem q177 : (Jvm.Cond.code ({ cls := "FactorGraphModel", name := "bad", desc := "(I)Z" } : Jvm.MethodName) prog_3_method_2_code (2 : Nat) (Option.some Jvm.ClassFile.FieldType.boolean)) ∈ lw_all := lw_g (lw_at lw_m0 161 rfl) rfl
theorem q179 : (Jvm.Cond.instanceMethod ({ cls := "FactorGraphModel", name := "weight", desc := "(III)I" } : Jvm.MethodName)) ∈ lw_all := lw_g (lw_at lw_m0 163 rfl) rfl
theorem q180 : (Jvm.Cond.selects "FactorGraphModel" ({ cls := "FactorGraphModel", name := "weight", desc := "(III)I" } : Jvm.MethodName) ({ cls := "FactorGraphModel", name := "weight", desc := "(III)I" } : Jvm.MethodName)) ∈ lw_all := lw_g (lw_at lw_m0 164 rfl) rfl
theorem q181 : (Jvm.Cond.code ({ cls := "FactorGraphModel", name := "weight", desc := "(III)I" } : Jvm.MethodName) prog_3_method_4_code (6 : Nat) (Option.some Jvm.ClassFile.FieldType.int)) ∈ lw_all := lw_g (lw_at lw_m0 165 rfl) rfl
theorem q183 : (Jvm.Cond.instanceMethod ({ cls := "FactorGraphModel", name := "evidence", desc := "(II)I" } : Jvm.MethodName)) ∈ lw_all := lw_g (lw_at lw_m0 167 rfl) rfl
theorem q184 : (Jvm.Cond.selects "FactorGraphModel" ({ cls := "FactorGraphModel", name := "evidence", desc := "(II)I" } : Jvm.MethodName) ({ cls := "FactorGraphModel", name := "evidence", desc := "(II)I" } : Jvm.MethodName)) ∈ lw_all := lw_g (lw_at lw_m0 168 rfl) rfl
theorem q185 : (Jvm.Cond.code ({ cls := "FactorGraphModel", name := "evidence", desc := "(II)I" } : Jvm.MethodName) prog_3_method_5_code (4 : Nat) (Option.some Jvm.ClassFile.FieldType.int)) ∈ lw_all := lw_g (lw_at lw_m0 169 rfl) rfl
theorem q187 : (Jvm.Cond.instanceMethod ({ cls := "FactorGraphModel", name := "drop", desc := "()I" } : Jvm.MethodName)) ∈ lw_all := lw_g (lw_at lw_m0 171 rfl) rfl
theorem q188 : (Jvm.Cond.selects "FactorGraphModel" ({ cls := "FactorGraphModel", name := "drop", desc := "()I" } : Jvm.MethodName) ({ cls := "FactorGraphModel", name := "drop", desc := "()I" } : Jvm.MethodName)) ∈ lw_all := lw_g (lw_at lw_m0 172 rfl) rfl
theorem q189 : (Jvm.Cond.code ({ cls := "FactorGraphModel", name := "drop", desc := "()I" } : Jvm.MethodName) prog_3_method_6_code (1 : Nat) (Option.some Jvm.ClassFile.FieldType.int)) ∈ lw_all := lw_g (lw_at lw_m0 173 rfl) rfl
theorem q191 : (Jvm.Cond.instanceMethod ({ cls := "FactorGraphModel", name := "total", desc := "()J" } : Jvm.MethodName)) ∈ lw_all := lw_g (lw_at lw_m0 175 rfl) rfl
theorem q192 : (Jvm.Cond.selects "FactorGraphModel" ({ cls := "FactorGraphModel", name := "total", desc := "()J" } : Jvm.MethodName) ({ cls := "FactorGraphModel", name := "total", desc := "()J" } : Jvm.MethodName)) ∈ lw_all := lw_g (lw_at lw_m0 176 rfl) rfl
theorem q193 : (Jvm.Cond.code ({ cls := "FactorGraphModel", name := "total", desc := "()J" } : Jvm.MethodName) prog_3_method_10_code (6 : Nat) (Option.some Jvm.ClassFile.FieldType.long)) ∈ lw_all := lw_g (lw_at lw_m0 177 rfl) rfl
theorem q194 : (Jvm.Cond.methodLink "FactorGraphModel" (34 : Nat) ({ cls := "FactorGraphModel", name := "worth", desc := "(I)J" } : Jvm.MethodName)) ∈ lw_all := lw_g (lw_at lw_m0 178 rfl) rfl
theorem q195 : (Jvm.Cond.privateMethod ({ cls := "FactorGraphModel", name := "worth", desc := "(I)J" } : Jvm.MethodName)) ∈ lw_tbl := lw_at lw_m0 179 rfl
theorem q196 : (Jvm.Cond.instanceMethod ({ cls := "FactorGraphModel", name := "worth", desc := "(I)J" } : Jvm.MethodName)) ∈ lw_all := lw_g (lw_at lw_m0 180 rfl) rfl
theorem q197 : (Jvm.Cond.code ({ cls := "FactorGraphModel", name := "worth", desc := "(I)J" } : Jvm.MethodName) prog_3_method_9_code (8 : Nat) (Option.some Jvm.ClassFile.FieldType.long)) ∈ lw_all := lw_g (lw_at lw_m0 181 rfl) rfl
theorem q198 : (Jvm.Cond.methodLink "FactorGraphModel" (27 : Nat) ({ cls := "FactorGraphModel", name := "allowed", desc := "(I)Z" } : Jvm.MethodName)) ∈ lw_all := lw_g (lw_at lw_m0 182 rfl) rfl
theorem q199 : (Jvm.Cond.privateMethod ({ cls := "FactorGraphModel", name := "allowed", desc := "(I)Z" } : Jvm.MethodName)) ∈ lw_tbl := lw_at lw_m0 183 rfl
theorem q200 : (Jvm.Cond.instanceMethod ({ cls := "FactorGraphModel", name := "allowed", desc := "(I)Z" } : Jvm.MethodName)) ∈ lw_all := lw_g (lw_at lw_m0 184 rfl) rfl
theorem q201 : (Jvm.Cond.code ({ cls := "FactorGraphModel", name := "allowed", desc := "(I)Z" } : Jvm.MethodName) prog_3_method_8_code (3 : Nat) (Option.some Jvm.ClassFile.FieldType.boolean)) ∈ lw_all := lw_g (lw_at lw_m0 185 rfl) rfl
theorem q202 : (Jvm.Cond.methodLink "FactorGraphModel" (30 : Nat) ({ cls := "FactorGraphModel", name := "value", desc := "(II)I" } : Jvm.MethodName)) ∈ lw_all := lw_g (lw_at lw_m0 186 rfl) rfl
theorem q203 : (Jvm.Cond.privateMethod ({ cls := "FactorGraphModel", name := "value", desc := "(II)I" } : Jvm.MethodName)) ∈ lw_tbl := lw_at lw_m0 187 rfl
theorem q204 : (Jvm.Cond.instanceMethod ({ cls := "FactorGraphModel", name := "value", desc := "(II)I" } : Jvm.MethodName)) ∈ lw_all := lw_g (lw_at lw_m0 188 rfl) rfl
theorem q205 : (Jvm.Cond.code ({ cls := "FactorGraphModel", name := "value", desc := "(II)I" } : Jvm.MethodName) prog_3_method_7_code (3 : Nat) (Option.some Jvm.ClassFile.FieldType.int)) ∈ lw_all := lw_g (lw_at lw_m0 189 rfl) rfl
theorem q207 : (Jvm.Cond.instanceMethod ({ cls := "FactorGraphModel", name := "share", desc := "(I)J" } : Jvm.MethodName)) ∈ lw_all := lw_g (lw_at lw_m0 191 rfl) rfl
theorem q208 : (Jvm.Cond.selects "FactorGraphModel" ({ cls := "FactorGraphModel", name := "share", desc := "(I)J" } : Jvm.MethodName) ({ cls := "FactorGraphModel", name := "share", desc := "(I)J" } : Jvm.MethodName)) ∈ lw_all := lw_g (lw_at lw_m0 192 rfl) rfl
theorem q209 : (Jvm.Cond.code ({ cls := "FactorGraphModel", name := "share", desc := "(I)J" } : Jvm.MethodName) prog_3_method_12_code (2 : Nat) (Option.some Jvm.ClassFile.FieldType.long)) ∈ lw_all := lw_g (lw_at lw_m0 193 rfl) rfl
theorem q210 : (Jvm.Cond.methodLink "FactorGraphModel" (38 : Nat) ({ cls := "FactorGraphModel", name := "both", desc := "(II)J" } : Jvm.MethodName)) ∈ lw_all := lw_g (lw_at lw_m0 194 rfl) rfl
theorem q211 : (Jvm.Cond.privateMethod ({ cls := "FactorGraphModel", name := "both", desc := "(II)J" } : Jvm.MethodName)) ∈ lw_tbl := lw_at lw_m0 195 rfl
theorem q212 : (Jvm.Cond.instanceMethod ({ cls := "FactorGraphModel", name := "both", desc := "(II)J" } : Jvm.MethodName)) ∈ lw_all := lw_g (lw_at lw_m0 196 rfl) rfl
theorem q213 : (Jvm.Cond.code ({ cls := "FactorGraphModel", name := "both", desc := "(II)J" } : Jvm.MethodName) prog_3_method_11_code (8 : Nat) (Option.some Jvm.ClassFile.FieldType.long)) ∈ lw_all := lw_g (lw_at lw_m0 197 rfl) rfl
theorem q215 : (Jvm.Cond.instanceMethod ({ cls := "FactorGraphModel", name := "alike", desc := "(II)J" } : Jvm.MethodName)) ∈ lw_all := lw_g (lw_at lw_m0 199 rfl) rfl
theorem q216 : (Jvm.Cond.selects "FactorGraphModel" ({ cls := "FactorGraphModel", name := "alike", desc := "(II)J" } : Jvm.MethodName) ({ cls := "FactorGraphModel", name := "alike", desc := "(II)J" } : Jvm.MethodName)) ∈ lw_all := lw_g (lw_at lw_m0 200 rfl) rfl
theorem q217 : (Jvm.Cond.code ({ cls := "FactorGraphModel", name := "alike", desc := "(II)J" } : Jvm.MethodName) prog_3_method_13_code (8 : Nat) (Option.some Jvm.ClassFile.FieldType.long)) ∈ lw_all := lw_g (lw_at lw_m0 201 rfl) rfl
theorem q219 : (Jvm.Cond.instanceMethod ({ cls := "FactorGraphModel", name := "best", desc := "()J" } : Jvm.MethodName)) ∈ lw_all := lw_g (lw_at lw_m0 203 rfl) rfl
theorem q220 : (Jvm.Cond.selects "FactorGraphModel" ({ cls := "FactorGraphModel", name := "best", desc := "()J" } : Jvm.MethodName) ({ cls := "FactorGraphModel", name := "best", desc := "()J" } : Jvm.MethodName)) ∈ lw_all := lw_g (lw_at lw_m0 204 rfl) rfl
theorem q221 : (Jvm.Cond.code ({ cls := "FactorGraphModel", name := "best", desc := "()J" } : Jvm.MethodName) prog_3_method_14_code (6 : Nat) (Option.some Jvm.ClassFile.FieldType.long)) ∈ lw_all := lw_g (lw_at lw_m0 205 rfl) rfl
theorem q223 : (Jvm.Cond.instanceMethod ({ cls := "FactorGraphModel", name := "bestAssignment", desc := "()I" } : Jvm.MethodName)) ∈ lw_all := lw_g (lw_at lw_m0 207 rfl) rfl
theorem q224 : (Jvm.Cond.selects "FactorGraphModel" ({ cls := "FactorGraphModel", name := "bestAssignment", desc := "()I" } : Jvm.MethodName) ({ cls := "FactorGraphModel", name := "bestAssignment", desc := "()I" } : Jvm.MethodName)) ∈ lw_all := lw_g (lw_at lw_m0 208 rfl) rfl
theorem q225 : (Jvm.Cond.code ({ cls := "FactorGraphModel", name := "bestAssignment", desc := "()I" } : Jvm.MethodName) prog_3_method_15_code (4 : Nat) (Option.some Jvm.ClassFile.FieldType.int)) ∈ lw_all := lw_g (lw_at lw_m0 209 rfl) rfl
theorem q226 : (Jvm.Cond.methodLink "FactorGraphModel" (42 : Nat) ({ cls := "FactorGraphModel", name := "best", desc := "()J" } : Jvm.MethodName)) ∈ lw_all := lw_g (lw_at lw_m0 210 rfl) rfl
theorem q228 : (Jvm.Cond.instanceMethod ({ cls := "FactorGraphModel", name := "possible", desc := "()I" } : Jvm.MethodName)) ∈ lw_all := lw_g (lw_at lw_m0 212 rfl) rfl
theorem q229 : (Jvm.Cond.selects "FactorGraphModel" ({ cls := "FactorGraphModel", name := "possible", desc := "()I" } : Jvm.MethodName) ({ cls := "FactorGraphModel", name := "possible", desc := "()I" } : Jvm.MethodName)) ∈ lw_all := lw_g (lw_at lw_m0 213 rfl) rfl
theorem q230 : (Jvm.Cond.code ({ cls := "FactorGraphModel", name := "possible", desc := "()I" } : Jvm.MethodName) prog_3_method_16_code (3 : Nat) (Option.some Jvm.ClassFile.FieldType.int)) ∈ lw_all := lw_g (lw_at lw_m0 214 rfl) rfl
theorem q232 : (Jvm.Cond.instanceMethod ({ cls := "FactorGraphModel", name := "independent", desc := "(II)Z" } : Jvm.MethodName)) ∈ lw_all := lw_g (lw_at lw_m0 216 rfl) rfl
theorem q233 : (Jvm.Cond.selects "FactorGraphModel" ({ cls := "FactorGraphModel", name := "independent", desc := "(II)Z" } : Jvm.MethodName) ({ cls := "FactorGraphModel", name := "independent", desc := "(II)Z" } : Jvm.MethodName)) ∈ lw_all := lw_g (lw_at lw_m0 217 rfl) rfl
theorem q234 : (Jvm.Cond.code ({ cls := "FactorGraphModel", name := "independent", desc := "(II)Z" } : Jvm.MethodName) prog_3_method_17_code (3 : Nat) (Option.some Jvm.ClassFile.FieldType.boolean)) ∈ lw_all := lw_g (lw_at lw_m0 218 rfl) rfl
theorem q235 : (Jvm.Cond.methodLink "FactorGraphModel" (46 : Nat) ({ cls := "FactorGraphModel", name := "total", desc := "()J" } : Jvm.MethodName)) ∈ lw_all := lw_g (lw_at lw_m0 219 rfl) rfl
theorem q236 : (Jvm.Cond.methodLink "FactorGraphModel" (49 : Nat) ({ cls := "FactorGraphModel", name := "share", desc := "(I)J" } : Jvm.MethodName)) ∈ lw_all := lw_g (lw_at lw_m0 220 rfl) rfl
theorem in_X1 : ∀ w ∈ wsX10, w ∈ lw_all := lw_in wsX10 [161, 163, 165, 167] (by decide +kernel) (by decide +kernel)
/-! java/lang/Object -/
def RJ0 : String := "java/lang/Object"
abbrev cJ0_init : ByteArray := object_method_1_code
def yJ0_init : MethodName := ⟨RJ0, "<init>", "()V"⟩
theorem q25 : (Jvm.Cond.instanceMethod ({ cls := "java/lang/Object", name := "<init>", desc := "()V" } : Jvm.MethodName)) ∈ lw_all := lw_g (lw_at lw_m0 9 rfl) rfl
theorem q26 : (Jvm.Cond.code ({ cls := "java/lang/Object", name := "<init>", desc := "()V" } : Jvm.MethodName) object_method_1_code (1 : Nat) (Option.none : Option Jvm.ClassFile.FieldType)) ∈ lw_all := lw_g (lw_at lw_m0 10 rfl) rfl
theorem q55 : (Jvm.Cond.arrayClass Jvm.ClassFile.FieldType.int) ∈ lw_all := lw_g (lw_at lw_m0 39 rfl) rfl
theorem q56 : (Jvm.Cond.arrayClass Jvm.ClassFile.FieldType.long) ∈ lw_all := lw_g (lw_at lw_m0 40 rfl) rfl
theorem q16 : (Jvm.Cond.initialized "FactorGraphLaw") ∈ lw_all := lw_g (lw_at lw_m0 0 rfl) rfl
theorem q19 : (Jvm.Cond.classLink "FactorGraphLaw" (7 : Nat) "FactorGraph") ∈ lw_all := lw_g (lw_at lw_m0 3 rfl) rfl
theorem q21 : (Jvm.Cond.methodLink "FactorGraphLaw" (9 : Nat) ({ cls := "FactorGraph", name := "<init>", desc := "()V" } : Jvm.MethodName)) ∈ lw_all := lw_g (lw_at lw_m0 5 rfl) rfl
theorem q57 : (Jvm.Cond.methodLink "FactorGraphLaw" (13 : Nat) ({ cls := "FactorGraph", name := "factor", desc := "(III)I" } : Jvm.MethodName)) ∈ lw_all := lw_g (lw_at lw_m0 41 rfl) rfl
theorem q64 : (Jvm.Cond.methodLink "FactorGraphLaw" (18 : Nat) ({ cls := "FactorGraph", name := "weight", desc := "(III)I" } : Jvm.MethodName)) ∈ lw_all := lw_g (lw_at lw_m0 48 rfl) rfl
theorem q68 : (Jvm.Cond.methodLink "FactorGraphLaw" (22 : Nat) ({ cls := "FactorGraph", name := "evidence", desc := "(II)I" } : Jvm.MethodName)) ∈ lw_all := lw_g (lw_at lw_m0 52 rfl) rfl
theorem q72 : (Jvm.Cond.methodLink "FactorGraphLaw" (27 : Nat) ({ cls := "FactorGraph", name := "drop", desc := "()I" } : Jvm.MethodName)) ∈ lw_all := lw_g (lw_at lw_m0 56 rfl) rfl
theorem q76 : (Jvm.Cond.methodLink "FactorGraphLaw" (32 : Nat) ({ cls := "FactorGraph", name := "total", desc := "()J" } : Jvm.MethodName)) ∈ lw_all := lw_g (lw_at lw_m0 60 rfl) rfl
theorem q119 : (Jvm.Cond.methodLink "FactorGraphLaw" (37 : Nat) ({ cls := "FactorGraph", name := "share", desc := "(I)J" } : Jvm.MethodName)) ∈ lw_all := lw_g (lw_at lw_m0 103 rfl) rfl
theorem q127 : (Jvm.Cond.methodLink "FactorGraphLaw" (42 : Nat) ({ cls := "FactorGraph", name := "alike", desc := "(II)J" } : Jvm.MethodName)) ∈ lw_all := lw_g (lw_at lw_m0 111 rfl) rfl
theorem q135 : (Jvm.Cond.methodLink "FactorGraphLaw" (47 : Nat) ({ cls := "FactorGraph", name := "best", desc := "()J" } : Jvm.MethodName)) ∈ lw_all := lw_g (lw_at lw_m0 119 rfl) rfl
theorem q139 : (Jvm.Cond.methodLink "FactorGraphLaw" (51 : Nat) ({ cls := "FactorGraph", name := "bestAssignment", desc := "()I" } : Jvm.MethodName)) ∈ lw_all := lw_g (lw_at lw_m0 123 rfl) rfl
theorem q143 : (Jvm.Cond.methodLink "FactorGraphLaw" (55 : Nat) ({ cls := "FactorGraph", name := "possible", desc := "()I" } : Jvm.MethodName)) ∈ lw_all := lw_g (lw_at lw_m0 127 rfl) rfl
theorem q147 : (Jvm.Cond.methodLink "FactorGraphLaw" (59 : Nat) ({ cls := "FactorGraph", name := "independent", desc := "(II)Z" } : Jvm.MethodName)) ∈ lw_all := lw_g (lw_at lw_m0 131 rfl) rfl
theorem q151 : (Jvm.Cond.classLink "FactorGraphLaw" (10 : Nat) "FactorGraphModel") ∈ lw_all := lw_g (lw_at lw_m0 135 rfl) rfl
theorem q153 : (Jvm.Cond.methodLink "FactorGraphLaw" (12 : Nat) ({ cls := "FactorGraphModel", name := "<init>", desc := "()V" } : Jvm.MethodName)) ∈ lw_all := lw_g (lw_at lw_m0 137 rfl) rfl
theorem q170 : (Jvm.Cond.methodLink "FactorGraphLaw" (17 : Nat) ({ cls := "FactorGraphModel", name := "factor", desc := "(III)I" } : Jvm.MethodName)) ∈ lw_all := lw_g (lw_at lw_m0 154 rfl) rfl
theorem q178 : (Jvm.Cond.methodLink "FactorGraphLaw" (21 : Nat) ({ cls := "FactorGraphModel", name := "weight", desc := "(III)I" } : Jvm.MethodName)) ∈ lw_all := lw_g (lw_at lw_m0 162 rfl) rfl
theorem q182 : (Jvm.Cond.methodLink "FactorGraphLaw" (26 : Nat) ({ cls := "FactorGraphModel", name := "evidence", desc := "(II)I" } : Jvm.MethodName)) ∈ lw_all := lw_g (lw_at lw_m0 166 rfl) rfl
theorem q186 : (Jvm.Cond.methodLink "FactorGraphLaw" (31 : Nat) ({ cls := "FactorGraphModel", name := "drop", desc := "()I" } : Jvm.MethodName)) ∈ lw_all := lw_g (lw_at lw_m0 170 rfl) rfl
theorem q190 : (Jvm.Cond.methodLink "FactorGraphLaw" (36 : Nat) ({ cls := "FactorGraphModel", name := "total", desc := "()J" } : Jvm.MethodName)) ∈ lw_all := lw_g (lw_at lw_m0 174 rfl) rfl
theorem q206 : (Jvm.Cond.methodLink "FactorGraphLaw" (41 : Nat) ({ cls := "FactorGraphModel", name := "share", desc := "(I)J" } : Jvm.MethodName)) ∈ lw_all := lw_g (lw_at lw_m0 190 rfl) rfl
theorem q214 : (Jvm.Cond.methodLink "FactorGraphLaw" (46 : Nat) ({ cls := "FactorGraphModel", name := "alike", desc := "(II)J" } : Jvm.MethodName)) ∈ lw_all := lw_g (lw_at lw_m0 198 rfl) rfl
theorem q218 : (Jvm.Cond.methodLink "FactorGraphLaw" (50 : Nat) ({ cls := "FactorGraphModel", name := "best", desc := "()J" } : Jvm.MethodName)) ∈ lw_all := lw_g (lw_at lw_m0 202 rfl) rfl
theorem q222 : (Jvm.Cond.methodLink "FactorGraphLaw" (54 : Nat) ({ cls := "FactorGraphModel", name := "bestAssignment", desc := "()I" } : Jvm.MethodName)) ∈ lw_all := lw_g (lw_at lw_m0 206 rfl) rfl
theorem q227 : (Jvm.Cond.methodLink "FactorGraphLaw" (58 : Nat) ({ cls := "FactorGraphModel", name := "possible", desc := "()I" } : Jvm.MethodName)) ∈ lw_all := lw_g (lw_at lw_m0 211 rfl) rfl
theorem q231 : (Jvm.Cond.methodLink "FactorGraphLaw" (63 : Nat) ({ cls := "FactorGraphModel", name := "independent", desc := "(II)Z" } : Jvm.MethodName)) ∈ lw_all := lw_g (lw_at lw_m0 215 rfl) rfl
/-! the law's own entry -/
abbrev cL_law : ByteArray := code
end
section
set_option maxRecDepth 100000
theorem dX0_init_0 : decode cX0_init 0 = .ok (.aload_n 0, 1) := by decide +kernel
theorem dX0_init_1 : decode cX0_init 1 = .ok (.invokespecial 1, 3) := by decide +kernel
theorem dX0_init_4 : decode cX0_init 4 = .ok (.aload_n 0, 1) := by decide +kernel
theorem dX0_init_5 : decode cX0_init 5 = .ok (.bipush 7, 2) := by decide +kernel
theorem dX0_init_7 : decode cX0_init 7 = .ok (.newarray .int, 2) := by decide +kernel
theorem dX0_init_9 : decode cX0_init 9 = .ok (.putfield 7, 3) := by decide +kernel
theorem dX0_init_12 : decode cX0_init 12 = .ok (.aload_n 0, 1) := by decide +kernel
theorem dX0_init_13 : decode cX0_init 13 = .ok (.bipush 21, 2) := by decide +kernel
theorem dX0_init_15 : decode cX0_init 15 = .ok (.newarray .int, 2) := by decide +kernel
theorem dX0_init_17 : decode cX0_init 17 = .ok (.putfield 13, 3) := by decide +kernel
theorem dX0_init_20 : decode cX0_init 20 = .ok (.aload_n 0, 1) := by decide +kernel
theorem dX0_init_21 : decode cX0_init 21 = .ok (.bipush 56, 2) := by decide +kernel
theorem dX0_init_23 : decode cX0_init 23 = .ok (.newarray .int, 2) := by decide +kernel
theorem dX0_init_25 : decode cX0_init 25 = .ok (.putfield 16, 3) := by decide +kernel
theorem dX0_init_28 : decode cX0_init 28 = .ok (.aload_n 0, 1) := by decide +kernel
theorem dX0_init_29 : decode cX0_init 29 = .ok (.bipush 7, 2) := by decide +kernel
theorem dX0_init_31 : decode cX0_init 31 = .ok (.newarray .int, 2) := by decide +kernel
theorem dX0_init_33 : decode cX0_init 33 = .ok (.putfield 19, 3) := by decide +kernel
theorem dX0_init_36 : decode cX0_init 36 = .ok (.aload_n 0, 1) := by decide +kernel
theorem dX0_init_37 : decode cX0_init 37 = .ok (.bipush 7, 2) := by decide +kernel
theorem dX0_init_39 : decode cX0_init 39 = .ok (.newarray .int, 2) := by decide +kernel
theorem dX0_init_41 : decode cX0_init 41 = .ok (.putfield 22, 3) := by decide +kernel
theorem dX0_init_44 : decode cX0_init 44 = .ok (.aload_n 0, 1) := by decide +kernel
theorem dX0_init_45 : decode cX0_init 45 = .ok (.bipush 16, 2) := by decide +kernel
theorem dX0_init_47 : decode cX0_init 47 = .ok (.newarray .int, 2) := by decide +kernel
theorem dX0_init_49 : decode cX0_init 49 = .ok (.putfield 25, 3) := by decide +kernel
theorem dX0_init_52 : decode cX0_init 52 = .ok (.aload_n 0, 1) := by decide +kernel
theorem dX0_init_53 : decode cX0_init 53 = .ok (.sipush 2048, 3) := by decide +kernel
theorem dX0_init_56 : decode cX0_init 56 = .ok (.newarray .long, 2) := by decide +kernel
theorem dX0_init_58 : decode cX0_init 58 = .ok (.putfield 28, 3) := by decide +kernel
theorem dX0_init_61 : decode cX0_init 61 = .ok (.iconst 0, 1) := by decide +kernel
theorem dX0_init_62 : decode cX0_init 62 = .ok (.istore_n 1, 1) := by decide +kernel
theorem dX0_init_63 : decode cX0_init 63 = .ok (.iload_n 1, 1) := by decide +kernel
theorem dX0_init_64 : decode cX0_init 64 = .ok (.bipush 7, 2) := by decide +kernel
theorem dX0_init_66 : decode cX0_init 66 = .ok (.if_icmp .ge 16, 3) := by decide +kernel
theorem dX0_init_69 : decode cX0_init 69 = .ok (.aload_n 0, 1) := by decide +kernel
theorem dX0_init_70 : decode cX0_init 70 = .ok (.getfield 19, 3) := by decide +kernel
theorem dX0_init_73 : decode cX0_init 73 = .ok (.iload_n 1, 1) := by decide +kernel
theorem dX0_init_74 : decode cX0_init 74 = .ok (.iconst (-1), 1) := by decide +kernel
theorem dX0_init_75 : decode cX0_init 75 = .ok (.iastore, 1) := by decide +kernel
theorem dX0_init_76 : decode cX0_init 76 = .ok (.iinc 1 1, 3) := by decide +kernel
theorem dX0_init_79 : decode cX0_init 79 = .ok (.goto (-16), 3) := by decide +kernel
theorem dX0_init_82 : decode cX0_init 82 = .ok (.return_, 1) := by decide +kernel
theorem dX0_factor_0 : decode cX0_factor 0 = .ok (.iload_n 1, 1) := by decide +kernel
theorem dX0_factor_1 : decode cX0_factor 1 = .ok (.invokestatic 32, 3) := by decide +kernel
theorem dX0_factor_4 : decode cX0_factor 4 = .ok (.ifCond .ne 19, 3) := by decide +kernel
theorem dX0_factor_7 : decode cX0_factor 7 = .ok (.iload_n 2, 1) := by decide +kernel
theorem dX0_factor_8 : decode cX0_factor 8 = .ok (.iconst (-1), 1) := by decide +kernel
theorem dX0_factor_9 : decode cX0_factor 9 = .ok (.if_icmp .lt 14, 3) := by decide +kernel
theorem dX0_factor_12 : decode cX0_factor 12 = .ok (.iload_n 2, 1) := by decide +kernel
theorem dX0_factor_13 : decode cX0_factor 13 = .ok (.bipush 7, 2) := by decide +kernel
theorem dX0_factor_15 : decode cX0_factor 15 = .ok (.if_icmp .ge 8, 3) := by decide +kernel
theorem dX0_factor_18 : decode cX0_factor 18 = .ok (.iload_n 2, 1) := by decide +kernel
theorem dX0_factor_19 : decode cX0_factor 19 = .ok (.iload_n 1, 1) := by decide +kernel
theorem dX0_factor_20 : decode cX0_factor 20 = .ok (.if_icmp .ne 5, 3) := by decide +kernel
theorem dX0_factor_23 : decode cX0_factor 23 = .ok (.iconst (-1), 1) := by decide +kernel
theorem dX0_factor_24 : decode cX0_factor 24 = .ok (.ireturn, 1) := by decide +kernel
theorem dX0_factor_25 : decode cX0_factor 25 = .ok (.iload_n 2, 1) := by decide +kernel
theorem dX0_factor_26 : decode cX0_factor 26 = .ok (.ifCond .ge 7, 3) := by decide +kernel
theorem dX0_factor_29 : decode cX0_factor 29 = .ok (.iconst (-1), 1) := by decide +kernel
theorem dX0_factor_30 : decode cX0_factor 30 = .ok (.goto 4, 3) := by decide +kernel
theorem dX0_factor_33 : decode cX0_factor 33 = .ok (.iload_n 3, 1) := by decide +kernel
theorem dX0_factor_34 : decode cX0_factor 34 = .ok (.istore 4, 2) := by decide +kernel
theorem dX0_factor_36 : decode cX0_factor 36 = .ok (.iload 4, 2) := by decide +kernel
theorem dX0_factor_38 : decode cX0_factor 38 = .ok (.iconst (-1), 1) := by decide +kernel
theorem dX0_factor_39 : decode cX0_factor 39 = .ok (.if_icmp .lt 10, 3) := by decide +kernel
theorem dX0_factor_42 : decode cX0_factor 42 = .ok (.iload 4, 2) := by decide +kernel
theorem dX0_factor_44 : decode cX0_factor 44 = .ok (.bipush 7, 2) := by decide +kernel
theorem dX0_factor_46 : decode cX0_factor 46 = .ok (.if_icmp .lt 5, 3) := by decide +kernel
theorem dX0_factor_49 : decode cX0_factor 49 = .ok (.iconst (-1), 1) := by decide +kernel
theorem dX0_factor_50 : decode cX0_factor 50 = .ok (.ireturn, 1) := by decide +kernel
theorem dX0_factor_51 : decode cX0_factor 51 = .ok (.iload 4, 2) := by decide +kernel
theorem dX0_factor_53 : decode cX0_factor 53 = .ok (.ifCond .lt 17, 3) := by decide +kernel
theorem dX0_factor_56 : decode cX0_factor 56 = .ok (.iload 4, 2) := by decide +kernel
theorem dX0_factor_58 : decode cX0_factor 58 = .ok (.iload_n 1, 1) := by decide +kernel
theorem dX0_factor_59 : decode cX0_factor 59 = .ok (.if_icmp .eq 9, 3) := by decide +kernel
theorem dX0_factor_62 : decode cX0_factor 62 = .ok (.iload 4, 2) := by decide +kernel
theorem dX0_factor_64 : decode cX0_factor 64 = .ok (.iload_n 2, 1) := by decide +kernel
theorem dX0_factor_65 : decode cX0_factor 65 = .ok (.if_icmp .ne 5, 3) := by decide +kernel
theorem dX0_factor_68 : decode cX0_factor 68 = .ok (.iconst (-1), 1) := by decide +kernel
theorem dX0_factor_69 : decode cX0_factor 69 = .ok (.ireturn, 1) := by decide +kernel
theorem dX0_factor_70 : decode cX0_factor 70 = .ok (.aload_n 0, 1) := by decide +kernel
theorem dX0_factor_71 : decode cX0_factor 71 = .ok (.getfield 36, 3) := by decide +kernel
theorem dX0_factor_74 : decode cX0_factor 74 = .ok (.bipush 7, 2) := by decide +kernel
theorem dX0_factor_76 : decode cX0_factor 76 = .ok (.if_icmp .lt 6, 3) := by decide +kernel
theorem dX0_factor_79 : decode cX0_factor 79 = .ok (.bipush (-4), 2) := by decide +kernel
theorem dX0_factor_81 : decode cX0_factor 81 = .ok (.ireturn, 1) := by decide +kernel
theorem dX0_factor_82 : decode cX0_factor 82 = .ok (.aload_n 0, 1) := by decide +kernel
theorem dX0_factor_83 : decode cX0_factor 83 = .ok (.getfield 36, 3) := by decide +kernel
theorem dX0_factor_86 : decode cX0_factor 86 = .ok (.istore 5, 2) := by decide +kernel
theorem dX0_factor_88 : decode cX0_factor 88 = .ok (.aload_n 0, 1) := by decide +kernel
theorem dX0_factor_89 : decode cX0_factor 89 = .ok (.getfield 13, 3) := by decide +kernel
theorem dX0_factor_92 : decode cX0_factor 92 = .ok (.iload 5, 2) := by decide +kernel
theorem dX0_factor_94 : decode cX0_factor 94 = .ok (.iconst 3, 1) := by decide +kernel
theorem dX0_factor_95 : decode cX0_factor 95 = .ok (.imul, 1) := by decide +kernel
theorem dX0_factor_96 : decode cX0_factor 96 = .ok (.iload_n 1, 1) := by decide +kernel
theorem dX0_factor_97 : decode cX0_factor 97 = .ok (.iastore, 1) := by decide +kernel
theorem dX0_factor_98 : decode cX0_factor 98 = .ok (.aload_n 0, 1) := by decide +kernel
theorem dX0_factor_99 : decode cX0_factor 99 = .ok (.getfield 13, 3) := by decide +kernel
theorem dX0_factor_102 : decode cX0_factor 102 = .ok (.iload 5, 2) := by decide +kernel
theorem dX0_factor_104 : decode cX0_factor 104 = .ok (.iconst 3, 1) := by decide +kernel
theorem dX0_factor_105 : decode cX0_factor 105 = .ok (.imul, 1) := by decide +kernel
theorem dX0_factor_106 : decode cX0_factor 106 = .ok (.iconst 1, 1) := by decide +kernel
theorem dX0_factor_107 : decode cX0_factor 107 = .ok (.iadd, 1) := by decide +kernel
theorem dX0_factor_108 : decode cX0_factor 108 = .ok (.iload_n 2, 1) := by decide +kernel
theorem dX0_factor_109 : decode cX0_factor 109 = .ok (.iastore, 1) := by decide +kernel
theorem dX0_factor_110 : decode cX0_factor 110 = .ok (.aload_n 0, 1) := by decide +kernel
theorem dX0_factor_111 : decode cX0_factor 111 = .ok (.getfield 13, 3) := by decide +kernel
theorem dX0_factor_114 : decode cX0_factor 114 = .ok (.iload 5, 2) := by decide +kernel
theorem dX0_factor_116 : decode cX0_factor 116 = .ok (.iconst 3, 1) := by decide +kernel
theorem dX0_factor_117 : decode cX0_factor 117 = .ok (.imul, 1) := by decide +kernel
theorem dX0_factor_118 : decode cX0_factor 118 = .ok (.iconst 2, 1) := by decide +kernel
theorem dX0_factor_119 : decode cX0_factor 119 = .ok (.iadd, 1) := by decide +kernel
theorem dX0_factor_120 : decode cX0_factor 120 = .ok (.iload 4, 2) := by decide +kernel
theorem dX0_factor_122 : decode cX0_factor 122 = .ok (.iastore, 1) := by decide +kernel
theorem dX0_factor_123 : decode cX0_factor 123 = .ok (.aload_n 0, 1) := by decide +kernel
theorem dX0_factor_124 : decode cX0_factor 124 = .ok (.getfield 7, 3) := by decide +kernel
theorem dX0_factor_127 : decode cX0_factor 127 = .ok (.iload 5, 2) := by decide +kernel
theorem dX0_factor_129 : decode cX0_factor 129 = .ok (.iload_n 2, 1) := by decide +kernel
theorem dX0_factor_130 : decode cX0_factor 130 = .ok (.ifCond .ge 7, 3) := by decide +kernel
theorem dX0_factor_133 : decode cX0_factor 133 = .ok (.iconst 1, 1) := by decide +kernel
theorem dX0_factor_134 : decode cX0_factor 134 = .ok (.goto 13, 3) := by decide +kernel
theorem dX0_factor_137 : decode cX0_factor 137 = .ok (.iload 4, 2) := by decide +kernel
theorem dX0_factor_139 : decode cX0_factor 139 = .ok (.ifCond .ge 7, 3) := by decide +kernel
theorem dX0_factor_142 : decode cX0_factor 142 = .ok (.iconst 2, 1) := by decide +kernel
theorem dX0_factor_143 : decode cX0_factor 143 = .ok (.goto 4, 3) := by decide +kernel
theorem dX0_factor_146 : decode cX0_factor 146 = .ok (.iconst 3, 1) := by decide +kernel
theorem dX0_factor_147 : decode cX0_factor 147 = .ok (.iastore, 1) := by decide +kernel
theorem dX0_factor_148 : decode cX0_factor 148 = .ok (.iconst 0, 1) := by decide +kernel
theorem dX0_factor_149 : decode cX0_factor 149 = .ok (.istore 6, 2) := by decide +kernel
theorem dX0_factor_151 : decode cX0_factor 151 = .ok (.iload 6, 2) := by decide +kernel
theorem dX0_factor_153 : decode cX0_factor 153 = .ok (.bipush 8, 2) := by decide +kernel
theorem dX0_factor_155 : decode cX0_factor 155 = .ok (.if_icmp .ge 23, 3) := by decide +kernel
theorem dX0_factor_158 : decode cX0_factor 158 = .ok (.aload_n 0, 1) := by decide +kernel
theorem dX0_factor_159 : decode cX0_factor 159 = .ok (.getfield 16, 3) := by decide +kernel
theorem dX0_factor_162 : decode cX0_factor 162 = .ok (.iload 5, 2) := by decide +kernel
theorem dX0_factor_164 : decode cX0_factor 164 = .ok (.bipush 8, 2) := by decide +kernel
theorem dX0_factor_166 : decode cX0_factor 166 = .ok (.imul, 1) := by decide +kernel
theorem dX0_factor_167 : decode cX0_factor 167 = .ok (.iload 6, 2) := by decide +kernel
theorem dX0_factor_169 : decode cX0_factor 169 = .ok (.iadd, 1) := by decide +kernel
theorem dX0_factor_170 : decode cX0_factor 170 = .ok (.iconst 1, 1) := by decide +kernel
theorem dX0_factor_171 : decode cX0_factor 171 = .ok (.iastore, 1) := by decide +kernel
theorem dX0_factor_172 : decode cX0_factor 172 = .ok (.iinc 6 1, 3) := by decide +kernel
theorem dX0_factor_175 : decode cX0_factor 175 = .ok (.goto (-24), 3) := by decide +kernel
theorem dX0_factor_178 : decode cX0_factor 178 = .ok (.aload_n 0, 1) := by decide +kernel
theorem dX0_factor_179 : decode cX0_factor 179 = .ok (.dup, 1) := by decide +kernel
theorem dX0_factor_180 : decode cX0_factor 180 = .ok (.getfield 36, 3) := by decide +kernel
theorem dX0_factor_183 : decode cX0_factor 183 = .ok (.iconst 1, 1) := by decide +kernel
theorem dX0_factor_184 : decode cX0_factor 184 = .ok (.iadd, 1) := by decide +kernel
theorem dX0_factor_185 : decode cX0_factor 185 = .ok (.putfield 36, 3) := by decide +kernel
theorem dX0_factor_188 : decode cX0_factor 188 = .ok (.iload 5, 2) := by decide +kernel
theorem dX0_factor_190 : decode cX0_factor 190 = .ok (.ireturn, 1) := by decide +kernel
theorem dX0_bad_0 : decode cX0_bad 0 = .ok (.iload_n 0, 1) := by decide +kernel
theorem dX0_bad_1 : decode cX0_bad 1 = .ok (.ifCond .lt 9, 3) := by decide +kernel
theorem dX0_bad_4 : decode cX0_bad 4 = .ok (.iload_n 0, 1) := by decide +kernel
theorem dX0_bad_5 : decode cX0_bad 5 = .ok (.bipush 7, 2) := by decide +kernel
theorem dX0_bad_7 : decode cX0_bad 7 = .ok (.if_icmp .lt 7, 3) := by decide +kernel
theorem dX0_bad_10 : decode cX0_bad 10 = .ok (.iconst 1, 1) := by decide +kernel
theorem dX0_bad_11 : decode cX0_bad 11 = .ok (.goto 4, 3) := by decide +kernel
theorem dX0_bad_14 : decode cX0_bad 14 = .ok (.iconst 0, 1) := by decide +kernel
theorem dX0_bad_15 : decode cX0_bad 15 = .ok (.ireturn, 1) := by decide +kernel
theorem dX0_weight_0 : decode cX0_weight 0 = .ok (.iload_n 1, 1) := by decide +kernel
theorem dX0_weight_1 : decode cX0_weight 1 = .ok (.ifCond .lt 11, 3) := by decide +kernel
theorem dX0_weight_4 : decode cX0_weight 4 = .ok (.iload_n 1, 1) := by decide +kernel
theorem dX0_weight_5 : decode cX0_weight 5 = .ok (.aload_n 0, 1) := by decide +kernel
theorem dX0_weight_6 : decode cX0_weight 6 = .ok (.getfield 36, 3) := by decide +kernel
theorem dX0_weight_9 : decode cX0_weight 9 = .ok (.if_icmp .lt 6, 3) := by decide +kernel
theorem dX0_weight_12 : decode cX0_weight 12 = .ok (.bipush (-2), 2) := by decide +kernel
theorem dX0_weight_14 : decode cX0_weight 14 = .ok (.ireturn, 1) := by decide +kernel
theorem dX0_weight_15 : decode cX0_weight 15 = .ok (.iload_n 2, 1) := by decide +kernel
theorem dX0_weight_16 : decode cX0_weight 16 = .ok (.ifCond .lt 15, 3) := by decide +kernel
theorem dX0_weight_19 : decode cX0_weight 19 = .ok (.iload_n 2, 1) := by decide +kernel
theorem dX0_weight_20 : decode cX0_weight 20 = .ok (.iconst 1, 1) := by decide +kernel
theorem dX0_weight_21 : decode cX0_weight 21 = .ok (.aload_n 0, 1) := by decide +kernel
theorem dX0_weight_22 : decode cX0_weight 22 = .ok (.getfield 7, 3) := by decide +kernel
theorem dX0_weight_25 : decode cX0_weight 25 = .ok (.iload_n 1, 1) := by decide +kernel
theorem dX0_weight_26 : decode cX0_weight 26 = .ok (.iaload, 1) := by decide +kernel
theorem dX0_weight_27 : decode cX0_weight 27 = .ok (.ishl, 1) := by decide +kernel
theorem dX0_weight_28 : decode cX0_weight 28 = .ok (.if_icmp .lt 6, 3) := by decide +kernel
theorem dX0_weight_31 : decode cX0_weight 31 = .ok (.bipush (-5), 2) := by decide +kernel
theorem dX0_weight_33 : decode cX0_weight 33 = .ok (.ireturn, 1) := by decide +kernel
theorem dX0_weight_34 : decode cX0_weight 34 = .ok (.iload_n 3, 1) := by decide +kernel
theorem dX0_weight_35 : decode cX0_weight 35 = .ok (.ifCond .lt 9, 3) := by decide +kernel
theorem dX0_weight_38 : decode cX0_weight 38 = .ok (.iload_n 3, 1) := by decide +kernel
theorem dX0_weight_39 : decode cX0_weight 39 = .ok (.bipush 9, 2) := by decide +kernel
theorem dX0_weight_41 : decode cX0_weight 41 = .ok (.if_icmp .le 6, 3) := by decide +kernel
theorem dX0_weight_44 : decode cX0_weight 44 = .ok (.bipush (-3), 2) := by decide +kernel
theorem dX0_weight_46 : decode cX0_weight 46 = .ok (.ireturn, 1) := by decide +kernel
theorem dX0_weight_47 : decode cX0_weight 47 = .ok (.aload_n 0, 1) := by decide +kernel
theorem dX0_weight_48 : decode cX0_weight 48 = .ok (.getfield 16, 3) := by decide +kernel
theorem dX0_weight_51 : decode cX0_weight 51 = .ok (.iload_n 1, 1) := by decide +kernel
theorem dX0_weight_52 : decode cX0_weight 52 = .ok (.bipush 8, 2) := by decide +kernel
theorem dX0_weight_54 : decode cX0_weight 54 = .ok (.imul, 1) := by decide +kernel
theorem dX0_weight_55 : decode cX0_weight 55 = .ok (.iload_n 2, 1) := by decide +kernel
theorem dX0_weight_56 : decode cX0_weight 56 = .ok (.iadd, 1) := by decide +kernel
theorem dX0_weight_57 : decode cX0_weight 57 = .ok (.iaload, 1) := by decide +kernel
theorem dX0_weight_58 : decode cX0_weight 58 = .ok (.istore 4, 2) := by decide +kernel
theorem dX0_weight_60 : decode cX0_weight 60 = .ok (.aload_n 0, 1) := by decide +kernel
theorem dX0_weight_61 : decode cX0_weight 61 = .ok (.getfield 16, 3) := by decide +kernel
theorem dX0_weight_64 : decode cX0_weight 64 = .ok (.iload_n 1, 1) := by decide +kernel
theorem dX0_weight_65 : decode cX0_weight 65 = .ok (.bipush 8, 2) := by decide +kernel
theorem dX0_weight_67 : decode cX0_weight 67 = .ok (.imul, 1) := by decide +kernel
theorem dX0_weight_68 : decode cX0_weight 68 = .ok (.iload_n 2, 1) := by decide +kernel
theorem dX0_weight_69 : decode cX0_weight 69 = .ok (.iadd, 1) := by decide +kernel
theorem dX0_weight_70 : decode cX0_weight 70 = .ok (.iload_n 3, 1) := by decide +kernel
theorem dX0_weight_71 : decode cX0_weight 71 = .ok (.iastore, 1) := by decide +kernel
theorem dX0_weight_72 : decode cX0_weight 72 = .ok (.iload 4, 2) := by decide +kernel
theorem dX0_weight_74 : decode cX0_weight 74 = .ok (.ireturn, 1) := by decide +kernel
theorem dX0_evidence_0 : decode cX0_evidence 0 = .ok (.iload_n 1, 1) := by decide +kernel
theorem dX0_evidence_1 : decode cX0_evidence 1 = .ok (.invokestatic 32, 3) := by decide +kernel
theorem dX0_evidence_4 : decode cX0_evidence 4 = .ok (.ifCond .eq 5, 3) := by decide +kernel
theorem dX0_evidence_7 : decode cX0_evidence 7 = .ok (.iconst (-1), 1) := by decide +kernel
theorem dX0_evidence_8 : decode cX0_evidence 8 = .ok (.ireturn, 1) := by decide +kernel
theorem dX0_evidence_9 : decode cX0_evidence 9 = .ok (.iload_n 2, 1) := by decide +kernel
theorem dX0_evidence_10 : decode cX0_evidence 10 = .ok (.iconst (-1), 1) := by decide +kernel
theorem dX0_evidence_11 : decode cX0_evidence 11 = .ok (.if_icmp .lt 8, 3) := by decide +kernel
theorem dX0_evidence_14 : decode cX0_evidence 14 = .ok (.iload_n 2, 1) := by decide +kernel
theorem dX0_evidence_15 : decode cX0_evidence 15 = .ok (.iconst 1, 1) := by decide +kernel
theorem dX0_evidence_16 : decode cX0_evidence 16 = .ok (.if_icmp .le 6, 3) := by decide +kernel
theorem dX0_evidence_19 : decode cX0_evidence 19 = .ok (.bipush (-5), 2) := by decide +kernel
theorem dX0_evidence_21 : decode cX0_evidence 21 = .ok (.ireturn, 1) := by decide +kernel
theorem dX0_evidence_22 : decode cX0_evidence 22 = .ok (.aload_n 0, 1) := by decide +kernel
theorem dX0_evidence_23 : decode cX0_evidence 23 = .ok (.getfield 19, 3) := by decide +kernel
theorem dX0_evidence_26 : decode cX0_evidence 26 = .ok (.iload_n 1, 1) := by decide +kernel
theorem dX0_evidence_27 : decode cX0_evidence 27 = .ok (.iaload, 1) := by decide +kernel
theorem dX0_evidence_28 : decode cX0_evidence 28 = .ok (.istore_n 3, 1) := by decide +kernel
theorem dX0_evidence_29 : decode cX0_evidence 29 = .ok (.aload_n 0, 1) := by decide +kernel
theorem dX0_evidence_30 : decode cX0_evidence 30 = .ok (.getfield 19, 3) := by decide +kernel
theorem dX0_evidence_33 : decode cX0_evidence 33 = .ok (.iload_n 1, 1) := by decide +kernel
theorem dX0_evidence_34 : decode cX0_evidence 34 = .ok (.iload_n 2, 1) := by decide +kernel
theorem dX0_evidence_35 : decode cX0_evidence 35 = .ok (.iastore, 1) := by decide +kernel
theorem dX0_evidence_36 : decode cX0_evidence 36 = .ok (.iload_n 3, 1) := by decide +kernel
theorem dX0_evidence_37 : decode cX0_evidence 37 = .ok (.ireturn, 1) := by decide +kernel
theorem dX0_drop_0 : decode cX0_drop 0 = .ok (.aload_n 0, 1) := by decide +kernel
theorem dX0_drop_1 : decode cX0_drop 1 = .ok (.getfield 36, 3) := by decide +kernel
theorem dX0_drop_4 : decode cX0_drop 4 = .ok (.ifCond .ne 6, 3) := by decide +kernel
theorem dX0_drop_7 : decode cX0_drop 7 = .ok (.bipush (-2), 2) := by decide +kernel
theorem dX0_drop_9 : decode cX0_drop 9 = .ok (.ireturn, 1) := by decide +kernel
theorem dX0_drop_10 : decode cX0_drop 10 = .ok (.aload_n 0, 1) := by decide +kernel
theorem dX0_drop_11 : decode cX0_drop 11 = .ok (.dup, 1) := by decide +kernel
theorem dX0_drop_12 : decode cX0_drop 12 = .ok (.getfield 36, 3) := by decide +kernel
theorem dX0_drop_15 : decode cX0_drop 15 = .ok (.iconst 1, 1) := by decide +kernel
theorem dX0_drop_16 : decode cX0_drop 16 = .ok (.isub, 1) := by decide +kernel
theorem dX0_drop_17 : decode cX0_drop 17 = .ok (.putfield 36, 3) := by decide +kernel
theorem dX0_drop_20 : decode cX0_drop 20 = .ok (.aload_n 0, 1) := by decide +kernel
theorem dX0_drop_21 : decode cX0_drop 21 = .ok (.getfield 36, 3) := by decide +kernel
theorem dX0_drop_24 : decode cX0_drop 24 = .ok (.ireturn, 1) := by decide +kernel
theorem dX0_total_0 : decode cX0_total 0 = .ok (.aload_n 0, 1) := by decide +kernel
theorem dX0_total_1 : decode cX0_total 1 = .ok (.invokevirtual 79, 3) := by decide +kernel
theorem dX0_total_4 : decode cX0_total 4 = .ok (.aload_n 0, 1) := by decide +kernel
theorem dX0_total_5 : decode cX0_total 5 = .ok (.iconst 0, 1) := by decide +kernel
theorem dX0_total_6 : decode cX0_total 6 = .ok (.invokevirtual 72, 3) := by decide +kernel
theorem dX0_total_9 : decode cX0_total 9 = .ok (.lreturn, 1) := by decide +kernel
theorem dX0_fixAsGiven_0 : decode cX0_fixAsGiven 0 = .ok (.iconst 0, 1) := by decide +kernel
theorem dX0_fixAsGiven_1 : decode cX0_fixAsGiven 1 = .ok (.istore_n 1, 1) := by decide +kernel
theorem dX0_fixAsGiven_2 : decode cX0_fixAsGiven 2 = .ok (.iload_n 1, 1) := by decide +kernel
theorem dX0_fixAsGiven_3 : decode cX0_fixAsGiven 3 = .ok (.bipush 7, 2) := by decide +kernel
theorem dX0_fixAsGiven_5 : decode cX0_fixAsGiven 5 = .ok (.if_icmp .ge 21, 3) := by decide +kernel
theorem dX0_fixAsGiven_8 : decode cX0_fixAsGiven 8 = .ok (.aload_n 0, 1) := by decide +kernel
theorem dX0_fixAsGiven_9 : decode cX0_fixAsGiven 9 = .ok (.getfield 22, 3) := by decide +kernel
theorem dX0_fixAsGiven_12 : decode cX0_fixAsGiven 12 = .ok (.iload_n 1, 1) := by decide +kernel
theorem dX0_fixAsGiven_13 : decode cX0_fixAsGiven 13 = .ok (.aload_n 0, 1) := by decide +kernel
theorem dX0_fixAsGiven_14 : decode cX0_fixAsGiven 14 = .ok (.getfield 19, 3) := by decide +kernel
theorem dX0_fixAsGiven_17 : decode cX0_fixAsGiven 17 = .ok (.iload_n 1, 1) := by decide +kernel
theorem dX0_fixAsGiven_18 : decode cX0_fixAsGiven 18 = .ok (.iaload, 1) := by decide +kernel
theorem dX0_fixAsGiven_19 : decode cX0_fixAsGiven 19 = .ok (.iastore, 1) := by decide +kernel
theorem dX0_fixAsGiven_20 : decode cX0_fixAsGiven 20 = .ok (.iinc 1 1, 3) := by decide +kernel
theorem dX0_fixAsGiven_23 : decode cX0_fixAsGiven 23 = .ok (.goto (-21), 3) := by decide +kernel
theorem dX0_fixAsGiven_26 : decode cX0_fixAsGiven 26 = .ok (.return_, 1) := by decide +kernel
theorem dX0_solve_0 : decode cX0_solve 0 = .ok (.aload_n 0, 1) := by decide +kernel
theorem dX0_solve_1 : decode cX0_solve 1 = .ok (.iload_n 1, 1) := by decide +kernel
theorem dX0_solve_2 : decode cX0_solve 2 = .ok (.invokevirtual 61, 3) := by decide +kernel
theorem dX0_solve_5 : decode cX0_solve 5 = .ok (.iconst 0, 1) := by decide +kernel
theorem dX0_solve_6 : decode cX0_solve 6 = .ok (.istore_n 2, 1) := by decide +kernel
theorem dX0_solve_7 : decode cX0_solve 7 = .ok (.iconst 0, 1) := by decide +kernel
theorem dX0_solve_8 : decode cX0_solve 8 = .ok (.istore_n 3, 1) := by decide +kernel
theorem dX0_solve_9 : decode cX0_solve 9 = .ok (.iload_n 3, 1) := by decide +kernel
theorem dX0_solve_10 : decode cX0_solve 10 = .ok (.bipush 7, 2) := by decide +kernel
theorem dX0_solve_12 : decode cX0_solve 12 = .ok (.if_icmp .ge 24, 3) := by decide +kernel
theorem dX0_solve_15 : decode cX0_solve 15 = .ok (.aload_n 0, 1) := by decide +kernel
theorem dX0_solve_16 : decode cX0_solve 16 = .ok (.getfield 22, 3) := by decide +kernel
theorem dX0_solve_19 : decode cX0_solve 19 = .ok (.iload_n 3, 1) := by decide +kernel
theorem dX0_solve_20 : decode cX0_solve 20 = .ok (.iaload, 1) := by decide +kernel
theorem dX0_solve_21 : decode cX0_solve 21 = .ok (.ifCond .ge 9, 3) := by decide +kernel
theorem dX0_solve_24 : decode cX0_solve 24 = .ok (.iload_n 2, 1) := by decide +kernel
theorem dX0_solve_25 : decode cX0_solve 25 = .ok (.iconst 1, 1) := by decide +kernel
theorem dX0_solve_26 : decode cX0_solve 26 = .ok (.iload_n 3, 1) := by decide +kernel
theorem dX0_solve_27 : decode cX0_solve 27 = .ok (.ishl, 1) := by decide +kernel
theorem dX0_solve_28 : decode cX0_solve 28 = .ok (.ior, 1) := by decide +kernel
theorem dX0_solve_29 : decode cX0_solve 29 = .ok (.istore_n 2, 1) := by decide +kernel
theorem dX0_solve_30 : decode cX0_solve 30 = .ok (.iinc 3 1, 3) := by decide +kernel
theorem dX0_solve_33 : decode cX0_solve 33 = .ok (.goto (-24), 3) := by decide +kernel
theorem dX0_solve_36 : decode cX0_solve 36 = .ok (.iconst 0, 1) := by decide +kernel
theorem dX0_solve_37 : decode cX0_solve 37 = .ok (.istore_n 3, 1) := by decide +kernel
theorem dX0_solve_38 : decode cX0_solve 38 = .ok (.iload_n 3, 1) := by decide +kernel
theorem dX0_solve_39 : decode cX0_solve 39 = .ok (.bipush 7, 2) := by decide +kernel
theorem dX0_solve_41 : decode cX0_solve 41 = .ok (.if_icmp .ge 36, 3) := by decide +kernel
theorem dX0_solve_44 : decode cX0_solve 44 = .ok (.iload_n 2, 1) := by decide +kernel
theorem dX0_solve_45 : decode cX0_solve 45 = .ok (.ifCond .eq 32, 3) := by decide +kernel
theorem dX0_solve_48 : decode cX0_solve 48 = .ok (.aload_n 0, 1) := by decide +kernel
end
section
set_option maxRecDepth 100000
theorem dX0_solve_49 : decode cX0_solve 49 = .ok (.iload_n 2, 1) := by decide +kernel
theorem dX0_solve_50 : decode cX0_solve 50 = .ok (.invokevirtual 65, 3) := by decide +kernel
theorem dX0_solve_53 : decode cX0_solve 53 = .ok (.istore 4, 2) := by decide +kernel
theorem dX0_solve_55 : decode cX0_solve 55 = .ok (.aload_n 0, 1) := by decide +kernel
theorem dX0_solve_56 : decode cX0_solve 56 = .ok (.iload 4, 2) := by decide +kernel
theorem dX0_solve_58 : decode cX0_solve 58 = .ok (.iload_n 1, 1) := by decide +kernel
theorem dX0_solve_59 : decode cX0_solve 59 = .ok (.invokevirtual 68, 3) := by decide +kernel
theorem dX0_solve_62 : decode cX0_solve 62 = .ok (.iload_n 2, 1) := by decide +kernel
theorem dX0_solve_63 : decode cX0_solve 63 = .ok (.iconst 1, 1) := by decide +kernel
theorem dX0_solve_64 : decode cX0_solve 64 = .ok (.iload 4, 2) := by decide +kernel
theorem dX0_solve_66 : decode cX0_solve 66 = .ok (.ishl, 1) := by decide +kernel
theorem dX0_solve_67 : decode cX0_solve 67 = .ok (.iconst (-1), 1) := by decide +kernel
theorem dX0_solve_68 : decode cX0_solve 68 = .ok (.ixor, 1) := by decide +kernel
theorem dX0_solve_69 : decode cX0_solve 69 = .ok (.iand, 1) := by decide +kernel
theorem dX0_solve_70 : decode cX0_solve 70 = .ok (.istore_n 2, 1) := by decide +kernel
theorem dX0_solve_71 : decode cX0_solve 71 = .ok (.iinc 3 1, 3) := by decide +kernel
theorem dX0_solve_74 : decode cX0_solve 74 = .ok (.goto (-36), 3) := by decide +kernel
theorem dX0_solve_77 : decode cX0_solve 77 = .ok (.lconst 1, 1) := by decide +kernel
theorem dX0_solve_78 : decode cX0_solve 78 = .ok (.lstore_n 3, 1) := by decide +kernel
theorem dX0_solve_79 : decode cX0_solve 79 = .ok (.iconst 0, 1) := by decide +kernel
theorem dX0_solve_80 : decode cX0_solve 80 = .ok (.istore 5, 2) := by decide +kernel
theorem dX0_solve_82 : decode cX0_solve 82 = .ok (.iload 5, 2) := by decide +kernel
theorem dX0_solve_84 : decode cX0_solve 84 = .ok (.aload_n 0, 1) := by decide +kernel
theorem dX0_solve_85 : decode cX0_solve 85 = .ok (.getfield 44, 3) := by decide +kernel
theorem dX0_solve_88 : decode cX0_solve 88 = .ok (.if_icmp .ge 33, 3) := by decide +kernel
theorem dX0_solve_91 : decode cX0_solve 91 = .ok (.aload_n 0, 1) := by decide +kernel
theorem dX0_solve_92 : decode cX0_solve 92 = .ok (.getfield 25, 3) := by decide +kernel
theorem dX0_solve_95 : decode cX0_solve 95 = .ok (.iload 5, 2) := by decide +kernel
theorem dX0_solve_97 : decode cX0_solve 97 = .ok (.iaload, 1) := by decide +kernel
theorem dX0_solve_98 : decode cX0_solve 98 = .ok (.ifCond .ne 17, 3) := by decide +kernel
theorem dX0_solve_101 : decode cX0_solve 101 = .ok (.lload_n 3, 1) := by decide +kernel
theorem dX0_solve_102 : decode cX0_solve 102 = .ok (.aload_n 0, 1) := by decide +kernel
theorem dX0_solve_103 : decode cX0_solve 103 = .ok (.getfield 28, 3) := by decide +kernel
theorem dX0_solve_106 : decode cX0_solve 106 = .ok (.iload 5, 2) := by decide +kernel
theorem dX0_solve_108 : decode cX0_solve 108 = .ok (.sipush 128, 3) := by decide +kernel
theorem dX0_solve_111 : decode cX0_solve 111 = .ok (.imul, 1) := by decide +kernel
theorem dX0_solve_112 : decode cX0_solve 112 = .ok (.laload, 1) := by decide +kernel
theorem dX0_solve_113 : decode cX0_solve 113 = .ok (.lmul, 1) := by decide +kernel
theorem dX0_solve_114 : decode cX0_solve 114 = .ok (.lstore_n 3, 1) := by decide +kernel
theorem dX0_solve_115 : decode cX0_solve 115 = .ok (.iinc 5 1, 3) := by decide +kernel
theorem dX0_solve_118 : decode cX0_solve 118 = .ok (.goto (-36), 3) := by decide +kernel
theorem dX0_solve_121 : decode cX0_solve 121 = .ok (.lload_n 3, 1) := by decide +kernel
theorem dX0_solve_122 : decode cX0_solve 122 = .ok (.lreturn, 1) := by decide +kernel
theorem dX0_loadTables_0 : decode cX0_loadTables 0 = .ok (.aload_n 0, 1) := by decide +kernel
theorem dX0_loadTables_1 : decode cX0_loadTables 1 = .ok (.aload_n 0, 1) := by decide +kernel
theorem dX0_loadTables_2 : decode cX0_loadTables 2 = .ok (.getfield 36, 3) := by decide +kernel
theorem dX0_loadTables_5 : decode cX0_loadTables 5 = .ok (.putfield 44, 3) := by decide +kernel
theorem dX0_loadTables_8 : decode cX0_loadTables 8 = .ok (.iconst 0, 1) := by decide +kernel
theorem dX0_loadTables_9 : decode cX0_loadTables 9 = .ok (.istore_n 2, 1) := by decide +kernel
theorem dX0_loadTables_10 : decode cX0_loadTables 10 = .ok (.iload_n 2, 1) := by decide +kernel
theorem dX0_loadTables_11 : decode cX0_loadTables 11 = .ok (.aload_n 0, 1) := by decide +kernel
theorem dX0_loadTables_12 : decode cX0_loadTables 12 = .ok (.getfield 36, 3) := by decide +kernel
theorem dX0_loadTables_15 : decode cX0_loadTables 15 = .ok (.if_icmp .ge 134, 3) := by decide +kernel
theorem dX0_loadTables_18 : decode cX0_loadTables 18 = .ok (.aload_n 0, 1) := by decide +kernel
theorem dX0_loadTables_19 : decode cX0_loadTables 19 = .ok (.getfield 25, 3) := by decide +kernel
theorem dX0_loadTables_22 : decode cX0_loadTables 22 = .ok (.iload_n 2, 1) := by decide +kernel
theorem dX0_loadTables_23 : decode cX0_loadTables 23 = .ok (.iconst 0, 1) := by decide +kernel
theorem dX0_loadTables_24 : decode cX0_loadTables 24 = .ok (.iastore, 1) := by decide +kernel
theorem dX0_loadTables_25 : decode cX0_loadTables 25 = .ok (.iconst 0, 1) := by decide +kernel
theorem dX0_loadTables_26 : decode cX0_loadTables 26 = .ok (.istore_n 3, 1) := by decide +kernel
theorem dX0_loadTables_27 : decode cX0_loadTables 27 = .ok (.iload_n 3, 1) := by decide +kernel
theorem dX0_loadTables_28 : decode cX0_loadTables 28 = .ok (.aload_n 0, 1) := by decide +kernel
theorem dX0_loadTables_29 : decode cX0_loadTables 29 = .ok (.getfield 7, 3) := by decide +kernel
theorem dX0_loadTables_32 : decode cX0_loadTables 32 = .ok (.iload_n 2, 1) := by decide +kernel
theorem dX0_loadTables_33 : decode cX0_loadTables 33 = .ok (.iaload, 1) := by decide +kernel
theorem dX0_loadTables_34 : decode cX0_loadTables 34 = .ok (.if_icmp .ge 44, 3) := by decide +kernel
theorem dX0_loadTables_37 : decode cX0_loadTables 37 = .ok (.aload_n 0, 1) := by decide +kernel
theorem dX0_loadTables_38 : decode cX0_loadTables 38 = .ok (.getfield 13, 3) := by decide +kernel
theorem dX0_loadTables_41 : decode cX0_loadTables 41 = .ok (.iload_n 2, 1) := by decide +kernel
theorem dX0_loadTables_42 : decode cX0_loadTables 42 = .ok (.iconst 3, 1) := by decide +kernel
theorem dX0_loadTables_43 : decode cX0_loadTables 43 = .ok (.imul, 1) := by decide +kernel
theorem dX0_loadTables_44 : decode cX0_loadTables 44 = .ok (.iload_n 3, 1) := by decide +kernel
theorem dX0_loadTables_45 : decode cX0_loadTables 45 = .ok (.iadd, 1) := by decide +kernel
theorem dX0_loadTables_46 : decode cX0_loadTables 46 = .ok (.iaload, 1) := by decide +kernel
theorem dX0_loadTables_47 : decode cX0_loadTables 47 = .ok (.istore 4, 2) := by decide +kernel
theorem dX0_loadTables_49 : decode cX0_loadTables 49 = .ok (.aload_n 0, 1) := by decide +kernel
theorem dX0_loadTables_50 : decode cX0_loadTables 50 = .ok (.getfield 22, 3) := by decide +kernel
theorem dX0_loadTables_53 : decode cX0_loadTables 53 = .ok (.iload 4, 2) := by decide +kernel
theorem dX0_loadTables_55 : decode cX0_loadTables 55 = .ok (.iaload, 1) := by decide +kernel
theorem dX0_loadTables_56 : decode cX0_loadTables 56 = .ok (.ifCond .ge 16, 3) := by decide +kernel
theorem dX0_loadTables_59 : decode cX0_loadTables 59 = .ok (.aload_n 0, 1) := by decide +kernel
theorem dX0_loadTables_60 : decode cX0_loadTables 60 = .ok (.getfield 25, 3) := by decide +kernel
theorem dX0_loadTables_63 : decode cX0_loadTables 63 = .ok (.iload_n 2, 1) := by decide +kernel
theorem dX0_loadTables_64 : decode cX0_loadTables 64 = .ok (.dup2, 1) := by decide +kernel
theorem dX0_loadTables_65 : decode cX0_loadTables 65 = .ok (.iaload, 1) := by decide +kernel
theorem dX0_loadTables_66 : decode cX0_loadTables 66 = .ok (.iconst 1, 1) := by decide +kernel
theorem dX0_loadTables_67 : decode cX0_loadTables 67 = .ok (.iload 4, 2) := by decide +kernel
theorem dX0_loadTables_69 : decode cX0_loadTables 69 = .ok (.ishl, 1) := by decide +kernel
theorem dX0_loadTables_70 : decode cX0_loadTables 70 = .ok (.ior, 1) := by decide +kernel
theorem dX0_loadTables_71 : decode cX0_loadTables 71 = .ok (.iastore, 1) := by decide +kernel
theorem dX0_loadTables_72 : decode cX0_loadTables 72 = .ok (.iinc 3 1, 3) := by decide +kernel
theorem dX0_loadTables_75 : decode cX0_loadTables 75 = .ok (.goto (-48), 3) := by decide +kernel
theorem dX0_loadTables_78 : decode cX0_loadTables 78 = .ok (.iconst 0, 1) := by decide +kernel
theorem dX0_loadTables_79 : decode cX0_loadTables 79 = .ok (.istore_n 3, 1) := by decide +kernel
theorem dX0_loadTables_80 : decode cX0_loadTables 80 = .ok (.iload_n 3, 1) := by decide +kernel
theorem dX0_loadTables_81 : decode cX0_loadTables 81 = .ok (.sipush 128, 3) := by decide +kernel
theorem dX0_loadTables_84 : decode cX0_loadTables 84 = .ok (.if_icmp .ge 59, 3) := by decide +kernel
theorem dX0_loadTables_87 : decode cX0_loadTables 87 = .ok (.iload_n 3, 1) := by decide +kernel
theorem dX0_loadTables_88 : decode cX0_loadTables 88 = .ok (.aload_n 0, 1) := by decide +kernel
theorem dX0_loadTables_89 : decode cX0_loadTables 89 = .ok (.getfield 25, 3) := by decide +kernel
theorem dX0_loadTables_92 : decode cX0_loadTables 92 = .ok (.iload_n 2, 1) := by decide +kernel
theorem dX0_loadTables_93 : decode cX0_loadTables 93 = .ok (.iaload, 1) := by decide +kernel
theorem dX0_loadTables_94 : decode cX0_loadTables 94 = .ok (.iconst (-1), 1) := by decide +kernel
theorem dX0_loadTables_95 : decode cX0_loadTables 95 = .ok (.ixor, 1) := by decide +kernel
theorem dX0_loadTables_96 : decode cX0_loadTables 96 = .ok (.iand, 1) := by decide +kernel
theorem dX0_loadTables_97 : decode cX0_loadTables 97 = .ok (.ifCond .ne 40, 3) := by decide +kernel
theorem dX0_loadTables_100 : decode cX0_loadTables 100 = .ok (.aload_n 0, 1) := by decide +kernel
theorem dX0_loadTables_101 : decode cX0_loadTables 101 = .ok (.iload_n 2, 1) := by decide +kernel
theorem dX0_loadTables_102 : decode cX0_loadTables 102 = .ok (.iload_n 3, 1) := by decide +kernel
theorem dX0_loadTables_103 : decode cX0_loadTables 103 = .ok (.invokevirtual 47, 3) := by decide +kernel
theorem dX0_loadTables_106 : decode cX0_loadTables 106 = .ok (.istore 4, 2) := by decide +kernel
theorem dX0_loadTables_108 : decode cX0_loadTables 108 = .ok (.aload_n 0, 1) := by decide +kernel
theorem dX0_loadTables_109 : decode cX0_loadTables 109 = .ok (.getfield 28, 3) := by decide +kernel
theorem dX0_loadTables_112 : decode cX0_loadTables 112 = .ok (.iload_n 2, 1) := by decide +kernel
theorem dX0_loadTables_113 : decode cX0_loadTables 113 = .ok (.sipush 128, 3) := by decide +kernel
theorem dX0_loadTables_116 : decode cX0_loadTables 116 = .ok (.imul, 1) := by decide +kernel
theorem dX0_loadTables_117 : decode cX0_loadTables 117 = .ok (.iload_n 3, 1) := by decide +kernel
theorem dX0_loadTables_118 : decode cX0_loadTables 118 = .ok (.iadd, 1) := by decide +kernel
theorem dX0_loadTables_119 : decode cX0_loadTables 119 = .ok (.iload_n 1, 1) := by decide +kernel
theorem dX0_loadTables_120 : decode cX0_loadTables 120 = .ok (.iconst 2, 1) := by decide +kernel
theorem dX0_loadTables_121 : decode cX0_loadTables 121 = .ok (.if_icmp .ne 12, 3) := by decide +kernel
theorem dX0_loadTables_124 : decode cX0_loadTables 124 = .ok (.iload 4, 2) := by decide +kernel
theorem dX0_loadTables_126 : decode cX0_loadTables 126 = .ok (.ifCond .le 7, 3) := by decide +kernel
theorem dX0_loadTables_129 : decode cX0_loadTables 129 = .ok (.lconst 1, 1) := by decide +kernel
theorem dX0_loadTables_130 : decode cX0_loadTables 130 = .ok (.goto 6, 3) := by decide +kernel
theorem dX0_loadTables_133 : decode cX0_loadTables 133 = .ok (.iload 4, 2) := by decide +kernel
theorem dX0_loadTables_135 : decode cX0_loadTables 135 = .ok (.i2l, 1) := by decide +kernel
theorem dX0_loadTables_136 : decode cX0_loadTables 136 = .ok (.lastore, 1) := by decide +kernel
theorem dX0_loadTables_137 : decode cX0_loadTables 137 = .ok (.iinc 3 1, 3) := by decide +kernel
theorem dX0_loadTables_140 : decode cX0_loadTables 140 = .ok (.goto (-60), 3) := by decide +kernel
theorem dX0_loadTables_143 : decode cX0_loadTables 143 = .ok (.iinc 2 1, 3) := by decide +kernel
theorem dX0_loadTables_146 : decode cX0_loadTables 146 = .ok (.goto (-136), 3) := by decide +kernel
theorem dX0_loadTables_149 : decode cX0_loadTables 149 = .ok (.return_, 1) := by decide +kernel
theorem dX0_weightIn_0 : decode cX0_weightIn 0 = .ok (.iconst 0, 1) := by decide +kernel
theorem dX0_weightIn_1 : decode cX0_weightIn 1 = .ok (.istore_n 3, 1) := by decide +kernel
theorem dX0_weightIn_2 : decode cX0_weightIn 2 = .ok (.iconst 0, 1) := by decide +kernel
theorem dX0_weightIn_3 : decode cX0_weightIn 3 = .ok (.istore 4, 2) := by decide +kernel
theorem dX0_weightIn_5 : decode cX0_weightIn 5 = .ok (.iload 4, 2) := by decide +kernel
theorem dX0_weightIn_7 : decode cX0_weightIn 7 = .ok (.aload_n 0, 1) := by decide +kernel
theorem dX0_weightIn_8 : decode cX0_weightIn 8 = .ok (.getfield 7, 3) := by decide +kernel
theorem dX0_weightIn_11 : decode cX0_weightIn 11 = .ok (.iload_n 1, 1) := by decide +kernel
theorem dX0_weightIn_12 : decode cX0_weightIn 12 = .ok (.iaload, 1) := by decide +kernel
theorem dX0_weightIn_13 : decode cX0_weightIn 13 = .ok (.if_icmp .ge 31, 3) := by decide +kernel
theorem dX0_weightIn_16 : decode cX0_weightIn 16 = .ok (.iload_n 3, 1) := by decide +kernel
theorem dX0_weightIn_17 : decode cX0_weightIn 17 = .ok (.aload_n 0, 1) := by decide +kernel
theorem dX0_weightIn_18 : decode cX0_weightIn 18 = .ok (.iload_n 2, 1) := by decide +kernel
theorem dX0_weightIn_19 : decode cX0_weightIn 19 = .ok (.aload_n 0, 1) := by decide +kernel
theorem dX0_weightIn_20 : decode cX0_weightIn 20 = .ok (.getfield 13, 3) := by decide +kernel
theorem dX0_weightIn_23 : decode cX0_weightIn 23 = .ok (.iload_n 1, 1) := by decide +kernel
theorem dX0_weightIn_24 : decode cX0_weightIn 24 = .ok (.iconst 3, 1) := by decide +kernel
theorem dX0_weightIn_25 : decode cX0_weightIn 25 = .ok (.imul, 1) := by decide +kernel
theorem dX0_weightIn_26 : decode cX0_weightIn 26 = .ok (.iload 4, 2) := by decide +kernel
theorem dX0_weightIn_28 : decode cX0_weightIn 28 = .ok (.iadd, 1) := by decide +kernel
theorem dX0_weightIn_29 : decode cX0_weightIn 29 = .ok (.iaload, 1) := by decide +kernel
theorem dX0_weightIn_30 : decode cX0_weightIn 30 = .ok (.invokevirtual 40, 3) := by decide +kernel
theorem dX0_weightIn_33 : decode cX0_weightIn 33 = .ok (.iload 4, 2) := by decide +kernel
theorem dX0_weightIn_35 : decode cX0_weightIn 35 = .ok (.ishl, 1) := by decide +kernel
theorem dX0_weightIn_36 : decode cX0_weightIn 36 = .ok (.ior, 1) := by decide +kernel
theorem dX0_weightIn_37 : decode cX0_weightIn 37 = .ok (.istore_n 3, 1) := by decide +kernel
theorem dX0_weightIn_38 : decode cX0_weightIn 38 = .ok (.iinc 4 1, 3) := by decide +kernel
theorem dX0_weightIn_41 : decode cX0_weightIn 41 = .ok (.goto (-36), 3) := by decide +kernel
theorem dX0_weightIn_44 : decode cX0_weightIn 44 = .ok (.aload_n 0, 1) := by decide +kernel
theorem dX0_weightIn_45 : decode cX0_weightIn 45 = .ok (.getfield 16, 3) := by decide +kernel
theorem dX0_weightIn_48 : decode cX0_weightIn 48 = .ok (.iload_n 1, 1) := by decide +kernel
theorem dX0_weightIn_49 : decode cX0_weightIn 49 = .ok (.bipush 8, 2) := by decide +kernel
theorem dX0_weightIn_51 : decode cX0_weightIn 51 = .ok (.imul, 1) := by decide +kernel
theorem dX0_weightIn_52 : decode cX0_weightIn 52 = .ok (.iload_n 3, 1) := by decide +kernel
theorem dX0_weightIn_53 : decode cX0_weightIn 53 = .ok (.iadd, 1) := by decide +kernel
theorem dX0_weightIn_54 : decode cX0_weightIn 54 = .ok (.iaload, 1) := by decide +kernel
theorem dX0_weightIn_55 : decode cX0_weightIn 55 = .ok (.ireturn, 1) := by decide +kernel
theorem dX0_valueIn_0 : decode cX0_valueIn 0 = .ok (.aload_n 0, 1) := by decide +kernel
theorem dX0_valueIn_1 : decode cX0_valueIn 1 = .ok (.getfield 22, 3) := by decide +kernel
theorem dX0_valueIn_4 : decode cX0_valueIn 4 = .ok (.iload_n 2, 1) := by decide +kernel
theorem dX0_valueIn_5 : decode cX0_valueIn 5 = .ok (.iaload, 1) := by decide +kernel
theorem dX0_valueIn_6 : decode cX0_valueIn 6 = .ok (.ifCond .lt 12, 3) := by decide +kernel
theorem dX0_valueIn_9 : decode cX0_valueIn 9 = .ok (.aload_n 0, 1) := by decide +kernel
theorem dX0_valueIn_10 : decode cX0_valueIn 10 = .ok (.getfield 22, 3) := by decide +kernel
theorem dX0_valueIn_13 : decode cX0_valueIn 13 = .ok (.iload_n 2, 1) := by decide +kernel
theorem dX0_valueIn_14 : decode cX0_valueIn 14 = .ok (.iaload, 1) := by decide +kernel
theorem dX0_valueIn_15 : decode cX0_valueIn 15 = .ok (.goto 8, 3) := by decide +kernel
theorem dX0_valueIn_18 : decode cX0_valueIn 18 = .ok (.iload_n 1, 1) := by decide +kernel
theorem dX0_valueIn_19 : decode cX0_valueIn 19 = .ok (.iload_n 2, 1) := by decide +kernel
theorem dX0_valueIn_20 : decode cX0_valueIn 20 = .ok (.ishr, 1) := by decide +kernel
theorem dX0_valueIn_21 : decode cX0_valueIn 21 = .ok (.iconst 1, 1) := by decide +kernel
theorem dX0_valueIn_22 : decode cX0_valueIn 22 = .ok (.iand, 1) := by decide +kernel
theorem dX0_valueIn_23 : decode cX0_valueIn 23 = .ok (.ireturn, 1) := by decide +kernel
theorem dX0_cheapest_0 : decode cX0_cheapest 0 = .ok (.iconst (-1), 1) := by decide +kernel
theorem dX0_cheapest_1 : decode cX0_cheapest 1 = .ok (.istore_n 2, 1) := by decide +kernel
theorem dX0_cheapest_2 : decode cX0_cheapest 2 = .ok (.bipush 8, 2) := by decide +kernel
theorem dX0_cheapest_4 : decode cX0_cheapest 4 = .ok (.istore_n 3, 1) := by decide +kernel
theorem dX0_cheapest_5 : decode cX0_cheapest 5 = .ok (.iconst 0, 1) := by decide +kernel
theorem dX0_cheapest_6 : decode cX0_cheapest 6 = .ok (.istore 4, 2) := by decide +kernel
theorem dX0_cheapest_8 : decode cX0_cheapest 8 = .ok (.iload 4, 2) := by decide +kernel
theorem dX0_cheapest_10 : decode cX0_cheapest 10 = .ok (.bipush 7, 2) := by decide +kernel
theorem dX0_cheapest_12 : decode cX0_cheapest 12 = .ok (.if_icmp .ge 46, 3) := by decide +kernel
theorem dX0_cheapest_15 : decode cX0_cheapest 15 = .ok (.iload_n 1, 1) := by decide +kernel
theorem dX0_cheapest_16 : decode cX0_cheapest 16 = .ok (.iload 4, 2) := by decide +kernel
theorem dX0_cheapest_18 : decode cX0_cheapest 18 = .ok (.ishr, 1) := by decide +kernel
theorem dX0_cheapest_19 : decode cX0_cheapest 19 = .ok (.iconst 1, 1) := by decide +kernel
theorem dX0_cheapest_20 : decode cX0_cheapest 20 = .ok (.iand, 1) := by decide +kernel
theorem dX0_cheapest_21 : decode cX0_cheapest 21 = .ok (.iconst 1, 1) := by decide +kernel
theorem dX0_cheapest_22 : decode cX0_cheapest 22 = .ok (.if_icmp .ne 30, 3) := by decide +kernel
theorem dX0_cheapest_25 : decode cX0_cheapest 25 = .ok (.aload_n 0, 1) := by decide +kernel
theorem dX0_cheapest_26 : decode cX0_cheapest 26 = .ok (.iload 4, 2) := by decide +kernel
theorem dX0_cheapest_28 : decode cX0_cheapest 28 = .ok (.invokevirtual 50, 3) := by decide +kernel
theorem dX0_cheapest_31 : decode cX0_cheapest 31 = .ok (.istore 5, 2) := by decide +kernel
theorem dX0_cheapest_33 : decode cX0_cheapest 33 = .ok (.iload 5, 2) := by decide +kernel
theorem dX0_cheapest_35 : decode cX0_cheapest 35 = .ok (.invokestatic 54, 3) := by decide +kernel
theorem dX0_cheapest_38 : decode cX0_cheapest 38 = .ok (.istore 6, 2) := by decide +kernel
theorem dX0_cheapest_40 : decode cX0_cheapest 40 = .ok (.iload 6, 2) := by decide +kernel
theorem dX0_cheapest_42 : decode cX0_cheapest 42 = .ok (.iload_n 3, 1) := by decide +kernel
theorem dX0_cheapest_43 : decode cX0_cheapest 43 = .ok (.if_icmp .ge 9, 3) := by decide +kernel
theorem dX0_cheapest_46 : decode cX0_cheapest 46 = .ok (.iload 6, 2) := by decide +kernel
theorem dX0_cheapest_48 : decode cX0_cheapest 48 = .ok (.istore_n 3, 1) := by decide +kernel
theorem dX0_cheapest_49 : decode cX0_cheapest 49 = .ok (.iload 4, 2) := by decide +kernel
theorem dX0_cheapest_51 : decode cX0_cheapest 51 = .ok (.istore_n 2, 1) := by decide +kernel
theorem dX0_cheapest_52 : decode cX0_cheapest 52 = .ok (.iinc 4 1, 3) := by decide +kernel
theorem dX0_cheapest_55 : decode cX0_cheapest 55 = .ok (.goto (-47), 3) := by decide +kernel
theorem dX0_cheapest_58 : decode cX0_cheapest 58 = .ok (.iload_n 2, 1) := by decide +kernel
theorem dX0_cheapest_59 : decode cX0_cheapest 59 = .ok (.ireturn, 1) := by decide +kernel
theorem dX0_neighbours_0 : decode cX0_neighbours 0 = .ok (.iconst 1, 1) := by decide +kernel
theorem dX0_neighbours_1 : decode cX0_neighbours 1 = .ok (.iload_n 1, 1) := by decide +kernel
theorem dX0_neighbours_2 : decode cX0_neighbours 2 = .ok (.ishl, 1) := by decide +kernel
theorem dX0_neighbours_3 : decode cX0_neighbours 3 = .ok (.istore_n 2, 1) := by decide +kernel
theorem dX0_neighbours_4 : decode cX0_neighbours 4 = .ok (.iconst 0, 1) := by decide +kernel
theorem dX0_neighbours_5 : decode cX0_neighbours 5 = .ok (.istore_n 3, 1) := by decide +kernel
theorem dX0_neighbours_6 : decode cX0_neighbours 6 = .ok (.iload_n 3, 1) := by decide +kernel
theorem dX0_neighbours_7 : decode cX0_neighbours 7 = .ok (.aload_n 0, 1) := by decide +kernel
theorem dX0_neighbours_8 : decode cX0_neighbours 8 = .ok (.getfield 44, 3) := by decide +kernel
theorem dX0_neighbours_11 : decode cX0_neighbours 11 = .ok (.if_icmp .ge 41, 3) := by decide +kernel
theorem dX0_neighbours_14 : decode cX0_neighbours 14 = .ok (.aload_n 0, 1) := by decide +kernel
theorem dX0_neighbours_15 : decode cX0_neighbours 15 = .ok (.getfield 25, 3) := by decide +kernel
theorem dX0_neighbours_18 : decode cX0_neighbours 18 = .ok (.iload_n 3, 1) := by decide +kernel
theorem dX0_neighbours_19 : decode cX0_neighbours 19 = .ok (.iaload, 1) := by decide +kernel
theorem dX0_neighbours_20 : decode cX0_neighbours 20 = .ok (.ifCond .lt 26, 3) := by decide +kernel
theorem dX0_neighbours_23 : decode cX0_neighbours 23 = .ok (.aload_n 0, 1) := by decide +kernel
theorem dX0_neighbours_24 : decode cX0_neighbours 24 = .ok (.getfield 25, 3) := by decide +kernel
theorem dX0_neighbours_27 : decode cX0_neighbours 27 = .ok (.iload_n 3, 1) := by decide +kernel
theorem dX0_neighbours_28 : decode cX0_neighbours 28 = .ok (.iaload, 1) := by decide +kernel
theorem dX0_neighbours_29 : decode cX0_neighbours 29 = .ok (.iload_n 1, 1) := by decide +kernel
theorem dX0_neighbours_30 : decode cX0_neighbours 30 = .ok (.ishr, 1) := by decide +kernel
theorem dX0_neighbours_31 : decode cX0_neighbours 31 = .ok (.iconst 1, 1) := by decide +kernel
theorem dX0_neighbours_32 : decode cX0_neighbours 32 = .ok (.iand, 1) := by decide +kernel
theorem dX0_neighbours_33 : decode cX0_neighbours 33 = .ok (.iconst 1, 1) := by decide +kernel
theorem dX0_neighbours_34 : decode cX0_neighbours 34 = .ok (.if_icmp .ne 12, 3) := by decide +kernel
theorem dX0_neighbours_37 : decode cX0_neighbours 37 = .ok (.iload_n 2, 1) := by decide +kernel
theorem dX0_neighbours_38 : decode cX0_neighbours 38 = .ok (.aload_n 0, 1) := by decide +kernel
theorem dX0_neighbours_39 : decode cX0_neighbours 39 = .ok (.getfield 25, 3) := by decide +kernel
theorem dX0_neighbours_42 : decode cX0_neighbours 42 = .ok (.iload_n 3, 1) := by decide +kernel
theorem dX0_neighbours_43 : decode cX0_neighbours 43 = .ok (.iaload, 1) := by decide +kernel
theorem dX0_neighbours_44 : decode cX0_neighbours 44 = .ok (.ior, 1) := by decide +kernel
theorem dX0_neighbours_45 : decode cX0_neighbours 45 = .ok (.istore_n 2, 1) := by decide +kernel
theorem dX0_neighbours_46 : decode cX0_neighbours 46 = .ok (.iinc 3 1, 3) := by decide +kernel
theorem dX0_neighbours_49 : decode cX0_neighbours 49 = .ok (.goto (-43), 3) := by decide +kernel
theorem dX0_neighbours_52 : decode cX0_neighbours 52 = .ok (.iload_n 2, 1) := by decide +kernel
theorem dX0_neighbours_53 : decode cX0_neighbours 53 = .ok (.ireturn, 1) := by decide +kernel
theorem dX0_bits_0 : decode cX0_bits 0 = .ok (.iconst 0, 1) := by decide +kernel
theorem dX0_bits_1 : decode cX0_bits 1 = .ok (.istore_n 1, 1) := by decide +kernel
theorem dX0_bits_2 : decode cX0_bits 2 = .ok (.iconst 0, 1) := by decide +kernel
theorem dX0_bits_3 : decode cX0_bits 3 = .ok (.istore_n 2, 1) := by decide +kernel
theorem dX0_bits_4 : decode cX0_bits 4 = .ok (.iload_n 2, 1) := by decide +kernel
theorem dX0_bits_5 : decode cX0_bits 5 = .ok (.bipush 7, 2) := by decide +kernel
theorem dX0_bits_7 : decode cX0_bits 7 = .ok (.if_icmp .ge 17, 3) := by decide +kernel
theorem dX0_bits_10 : decode cX0_bits 10 = .ok (.iload_n 1, 1) := by decide +kernel
theorem dX0_bits_11 : decode cX0_bits 11 = .ok (.iload_n 0, 1) := by decide +kernel
theorem dX0_bits_12 : decode cX0_bits 12 = .ok (.iload_n 2, 1) := by decide +kernel
theorem dX0_bits_13 : decode cX0_bits 13 = .ok (.ishr, 1) := by decide +kernel
theorem dX0_bits_14 : decode cX0_bits 14 = .ok (.iconst 1, 1) := by decide +kernel
theorem dX0_bits_15 : decode cX0_bits 15 = .ok (.iand, 1) := by decide +kernel
theorem dX0_bits_16 : decode cX0_bits 16 = .ok (.iadd, 1) := by decide +kernel
theorem dX0_bits_17 : decode cX0_bits 17 = .ok (.istore_n 1, 1) := by decide +kernel
theorem dX0_bits_18 : decode cX0_bits 18 = .ok (.iinc 2 1, 3) := by decide +kernel
theorem dX0_bits_21 : decode cX0_bits 21 = .ok (.goto (-17), 3) := by decide +kernel
theorem dX0_bits_24 : decode cX0_bits 24 = .ok (.iload_n 1, 1) := by decide +kernel
theorem dX0_bits_25 : decode cX0_bits 25 = .ok (.ireturn, 1) := by decide +kernel
theorem dX0_takeOut_0 : decode cX0_takeOut 0 = .ok (.aload_n 0, 1) := by decide +kernel
theorem dX0_takeOut_1 : decode cX0_takeOut 1 = .ok (.iload_n 1, 1) := by decide +kernel
theorem dX0_takeOut_2 : decode cX0_takeOut 2 = .ok (.invokevirtual 50, 3) := by decide +kernel
theorem dX0_takeOut_5 : decode cX0_takeOut 5 = .ok (.iconst 1, 1) := by decide +kernel
theorem dX0_takeOut_6 : decode cX0_takeOut 6 = .ok (.iload_n 1, 1) := by decide +kernel
theorem dX0_takeOut_7 : decode cX0_takeOut 7 = .ok (.ishl, 1) := by decide +kernel
theorem dX0_takeOut_8 : decode cX0_takeOut 8 = .ok (.iconst (-1), 1) := by decide +kernel
theorem dX0_takeOut_9 : decode cX0_takeOut 9 = .ok (.ixor, 1) := by decide +kernel
theorem dX0_takeOut_10 : decode cX0_takeOut 10 = .ok (.iand, 1) := by decide +kernel
theorem dX0_takeOut_11 : decode cX0_takeOut 11 = .ok (.istore_n 3, 1) := by decide +kernel
theorem dX0_takeOut_12 : decode cX0_takeOut 12 = .ok (.aload_n 0, 1) := by decide +kernel
theorem dX0_takeOut_13 : decode cX0_takeOut 13 = .ok (.getfield 44, 3) := by decide +kernel
theorem dX0_takeOut_16 : decode cX0_takeOut 16 = .ok (.istore 4, 2) := by decide +kernel
theorem dX0_takeOut_18 : decode cX0_takeOut 18 = .ok (.iconst 0, 1) := by decide +kernel
theorem dX0_takeOut_19 : decode cX0_takeOut 19 = .ok (.istore 5, 2) := by decide +kernel
theorem dX0_takeOut_21 : decode cX0_takeOut 21 = .ok (.iload 5, 2) := by decide +kernel
theorem dX0_takeOut_23 : decode cX0_takeOut 23 = .ok (.sipush 128, 3) := by decide +kernel
theorem dX0_takeOut_26 : decode cX0_takeOut 26 = .ok (.if_icmp .ge 85, 3) := by decide +kernel
theorem dX0_takeOut_29 : decode cX0_takeOut 29 = .ok (.iload 5, 2) := by decide +kernel
theorem dX0_takeOut_31 : decode cX0_takeOut 31 = .ok (.iload_n 3, 1) := by decide +kernel
theorem dX0_takeOut_32 : decode cX0_takeOut 32 = .ok (.iconst (-1), 1) := by decide +kernel
theorem dX0_takeOut_33 : decode cX0_takeOut 33 = .ok (.ixor, 1) := by decide +kernel
theorem dX0_takeOut_34 : decode cX0_takeOut 34 = .ok (.iand, 1) := by decide +kernel
theorem dX0_takeOut_35 : decode cX0_takeOut 35 = .ok (.ifCond .ne 70, 3) := by decide +kernel
theorem dX0_takeOut_38 : decode cX0_takeOut 38 = .ok (.aload_n 0, 1) := by decide +kernel
end
section
set_option maxRecDepth 100000
theorem dX0_takeOut_39 : decode cX0_takeOut 39 = .ok (.iload_n 1, 1) := by decide +kernel
theorem dX0_takeOut_40 : decode cX0_takeOut 40 = .ok (.iload 5, 2) := by decide +kernel
theorem dX0_takeOut_42 : decode cX0_takeOut 42 = .ok (.invokevirtual 57, 3) := by decide +kernel
theorem dX0_takeOut_45 : decode cX0_takeOut 45 = .ok (.lstore 6, 2) := by decide +kernel
theorem dX0_takeOut_47 : decode cX0_takeOut 47 = .ok (.aload_n 0, 1) := by decide +kernel
theorem dX0_takeOut_48 : decode cX0_takeOut 48 = .ok (.iload_n 1, 1) := by decide +kernel
theorem dX0_takeOut_49 : decode cX0_takeOut 49 = .ok (.iload 5, 2) := by decide +kernel
theorem dX0_takeOut_51 : decode cX0_takeOut 51 = .ok (.iconst 1, 1) := by decide +kernel
theorem dX0_takeOut_52 : decode cX0_takeOut 52 = .ok (.iload_n 1, 1) := by decide +kernel
theorem dX0_takeOut_53 : decode cX0_takeOut 53 = .ok (.ishl, 1) := by decide +kernel
theorem dX0_takeOut_54 : decode cX0_takeOut 54 = .ok (.ior, 1) := by decide +kernel
theorem dX0_takeOut_55 : decode cX0_takeOut 55 = .ok (.invokevirtual 57, 3) := by decide +kernel
theorem dX0_takeOut_58 : decode cX0_takeOut 58 = .ok (.lstore 8, 2) := by decide +kernel
theorem dX0_takeOut_60 : decode cX0_takeOut 60 = .ok (.lload 6, 2) := by decide +kernel
theorem dX0_takeOut_62 : decode cX0_takeOut 62 = .ok (.lload 8, 2) := by decide +kernel
theorem dX0_takeOut_64 : decode cX0_takeOut 64 = .ok (.ladd, 1) := by decide +kernel
theorem dX0_takeOut_65 : decode cX0_takeOut 65 = .ok (.lstore 10, 2) := by decide +kernel
theorem dX0_takeOut_67 : decode cX0_takeOut 67 = .ok (.iload_n 2, 1) := by decide +kernel
theorem dX0_takeOut_68 : decode cX0_takeOut 68 = .ok (.iconst 1, 1) := by decide +kernel
theorem dX0_takeOut_69 : decode cX0_takeOut 69 = .ok (.if_icmp .ne 20, 3) := by decide +kernel
theorem dX0_takeOut_72 : decode cX0_takeOut 72 = .ok (.lload 6, 2) := by decide +kernel
theorem dX0_takeOut_74 : decode cX0_takeOut 74 = .ok (.lload 8, 2) := by decide +kernel
theorem dX0_takeOut_76 : decode cX0_takeOut 76 = .ok (.lcmp, 1) := by decide +kernel
theorem dX0_takeOut_77 : decode cX0_takeOut 77 = .ok (.ifCond .le 8, 3) := by decide +kernel
theorem dX0_takeOut_80 : decode cX0_takeOut 80 = .ok (.lload 6, 2) := by decide +kernel
theorem dX0_takeOut_82 : decode cX0_takeOut 82 = .ok (.goto 5, 3) := by decide +kernel
theorem dX0_takeOut_85 : decode cX0_takeOut 85 = .ok (.lload 8, 2) := by decide +kernel
theorem dX0_takeOut_87 : decode cX0_takeOut 87 = .ok (.lstore 10, 2) := by decide +kernel
theorem dX0_takeOut_89 : decode cX0_takeOut 89 = .ok (.aload_n 0, 1) := by decide +kernel
theorem dX0_takeOut_90 : decode cX0_takeOut 90 = .ok (.getfield 28, 3) := by decide +kernel
theorem dX0_takeOut_93 : decode cX0_takeOut 93 = .ok (.iload 4, 2) := by decide +kernel
theorem dX0_takeOut_95 : decode cX0_takeOut 95 = .ok (.sipush 128, 3) := by decide +kernel
theorem dX0_takeOut_98 : decode cX0_takeOut 98 = .ok (.imul, 1) := by decide +kernel
theorem dX0_takeOut_99 : decode cX0_takeOut 99 = .ok (.iload 5, 2) := by decide +kernel
theorem dX0_takeOut_101 : decode cX0_takeOut 101 = .ok (.iadd, 1) := by decide +kernel
theorem dX0_takeOut_102 : decode cX0_takeOut 102 = .ok (.lload 10, 2) := by decide +kernel
theorem dX0_takeOut_104 : decode cX0_takeOut 104 = .ok (.lastore, 1) := by decide +kernel
theorem dX0_takeOut_105 : decode cX0_takeOut 105 = .ok (.iinc 5 1, 3) := by decide +kernel
theorem dX0_takeOut_108 : decode cX0_takeOut 108 = .ok (.goto (-87), 3) := by decide +kernel
theorem dX0_takeOut_111 : decode cX0_takeOut 111 = .ok (.iconst 0, 1) := by decide +kernel
theorem dX0_takeOut_112 : decode cX0_takeOut 112 = .ok (.istore 5, 2) := by decide +kernel
theorem dX0_takeOut_114 : decode cX0_takeOut 114 = .ok (.iload 5, 2) := by decide +kernel
theorem dX0_takeOut_116 : decode cX0_takeOut 116 = .ok (.aload_n 0, 1) := by decide +kernel
theorem dX0_takeOut_117 : decode cX0_takeOut 117 = .ok (.getfield 44, 3) := by decide +kernel
theorem dX0_takeOut_120 : decode cX0_takeOut 120 = .ok (.if_icmp .ge 42, 3) := by decide +kernel
theorem dX0_takeOut_123 : decode cX0_takeOut 123 = .ok (.aload_n 0, 1) := by decide +kernel
theorem dX0_takeOut_124 : decode cX0_takeOut 124 = .ok (.getfield 25, 3) := by decide +kernel
theorem dX0_takeOut_127 : decode cX0_takeOut 127 = .ok (.iload 5, 2) := by decide +kernel
theorem dX0_takeOut_129 : decode cX0_takeOut 129 = .ok (.iaload, 1) := by decide +kernel
theorem dX0_takeOut_130 : decode cX0_takeOut 130 = .ok (.ifCond .lt 26, 3) := by decide +kernel
theorem dX0_takeOut_133 : decode cX0_takeOut 133 = .ok (.aload_n 0, 1) := by decide +kernel
theorem dX0_takeOut_134 : decode cX0_takeOut 134 = .ok (.getfield 25, 3) := by decide +kernel
theorem dX0_takeOut_137 : decode cX0_takeOut 137 = .ok (.iload 5, 2) := by decide +kernel
theorem dX0_takeOut_139 : decode cX0_takeOut 139 = .ok (.iaload, 1) := by decide +kernel
theorem dX0_takeOut_140 : decode cX0_takeOut 140 = .ok (.iload_n 1, 1) := by decide +kernel
theorem dX0_takeOut_141 : decode cX0_takeOut 141 = .ok (.ishr, 1) := by decide +kernel
theorem dX0_takeOut_142 : decode cX0_takeOut 142 = .ok (.iconst 1, 1) := by decide +kernel
theorem dX0_takeOut_143 : decode cX0_takeOut 143 = .ok (.iand, 1) := by decide +kernel
theorem dX0_takeOut_144 : decode cX0_takeOut 144 = .ok (.iconst 1, 1) := by decide +kernel
theorem dX0_takeOut_145 : decode cX0_takeOut 145 = .ok (.if_icmp .ne 11, 3) := by decide +kernel
theorem dX0_takeOut_148 : decode cX0_takeOut 148 = .ok (.aload_n 0, 1) := by decide +kernel
theorem dX0_takeOut_149 : decode cX0_takeOut 149 = .ok (.getfield 25, 3) := by decide +kernel
theorem dX0_takeOut_152 : decode cX0_takeOut 152 = .ok (.iload 5, 2) := by decide +kernel
theorem dX0_takeOut_154 : decode cX0_takeOut 154 = .ok (.iconst (-1), 1) := by decide +kernel
theorem dX0_takeOut_155 : decode cX0_takeOut 155 = .ok (.iastore, 1) := by decide +kernel
theorem dX0_takeOut_156 : decode cX0_takeOut 156 = .ok (.iinc 5 1, 3) := by decide +kernel
theorem dX0_takeOut_159 : decode cX0_takeOut 159 = .ok (.goto (-45), 3) := by decide +kernel
theorem dX0_takeOut_162 : decode cX0_takeOut 162 = .ok (.aload_n 0, 1) := by decide +kernel
theorem dX0_takeOut_163 : decode cX0_takeOut 163 = .ok (.getfield 25, 3) := by decide +kernel
theorem dX0_takeOut_166 : decode cX0_takeOut 166 = .ok (.iload 4, 2) := by decide +kernel
theorem dX0_takeOut_168 : decode cX0_takeOut 168 = .ok (.iload_n 3, 1) := by decide +kernel
theorem dX0_takeOut_169 : decode cX0_takeOut 169 = .ok (.iastore, 1) := by decide +kernel
theorem dX0_takeOut_170 : decode cX0_takeOut 170 = .ok (.aload_n 0, 1) := by decide +kernel
theorem dX0_takeOut_171 : decode cX0_takeOut 171 = .ok (.dup, 1) := by decide +kernel
theorem dX0_takeOut_172 : decode cX0_takeOut 172 = .ok (.getfield 44, 3) := by decide +kernel
theorem dX0_takeOut_175 : decode cX0_takeOut 175 = .ok (.iconst 1, 1) := by decide +kernel
theorem dX0_takeOut_176 : decode cX0_takeOut 176 = .ok (.iadd, 1) := by decide +kernel
theorem dX0_takeOut_177 : decode cX0_takeOut 177 = .ok (.putfield 44, 3) := by decide +kernel
theorem dX0_takeOut_180 : decode cX0_takeOut 180 = .ok (.return_, 1) := by decide +kernel
theorem dX0_product_0 : decode cX0_product 0 = .ok (.lconst 1, 1) := by decide +kernel
theorem dX0_product_1 : decode cX0_product 1 = .ok (.lstore_n 3, 1) := by decide +kernel
theorem dX0_product_2 : decode cX0_product 2 = .ok (.iconst 0, 1) := by decide +kernel
theorem dX0_product_3 : decode cX0_product 3 = .ok (.istore 5, 2) := by decide +kernel
theorem dX0_product_5 : decode cX0_product 5 = .ok (.iload 5, 2) := by decide +kernel
theorem dX0_product_7 : decode cX0_product 7 = .ok (.aload_n 0, 1) := by decide +kernel
theorem dX0_product_8 : decode cX0_product 8 = .ok (.getfield 44, 3) := by decide +kernel
theorem dX0_product_11 : decode cX0_product 11 = .ok (.if_icmp .ge 58, 3) := by decide +kernel
theorem dX0_product_14 : decode cX0_product 14 = .ok (.aload_n 0, 1) := by decide +kernel
theorem dX0_product_15 : decode cX0_product 15 = .ok (.getfield 25, 3) := by decide +kernel
theorem dX0_product_18 : decode cX0_product 18 = .ok (.iload 5, 2) := by decide +kernel
theorem dX0_product_20 : decode cX0_product 20 = .ok (.iaload, 1) := by decide +kernel
theorem dX0_product_21 : decode cX0_product 21 = .ok (.ifCond .lt 42, 3) := by decide +kernel
theorem dX0_product_24 : decode cX0_product 24 = .ok (.aload_n 0, 1) := by decide +kernel
theorem dX0_product_25 : decode cX0_product 25 = .ok (.getfield 25, 3) := by decide +kernel
theorem dX0_product_28 : decode cX0_product 28 = .ok (.iload 5, 2) := by decide +kernel
theorem dX0_product_30 : decode cX0_product 30 = .ok (.iaload, 1) := by decide +kernel
theorem dX0_product_31 : decode cX0_product 31 = .ok (.iload_n 1, 1) := by decide +kernel
theorem dX0_product_32 : decode cX0_product 32 = .ok (.ishr, 1) := by decide +kernel
theorem dX0_product_33 : decode cX0_product 33 = .ok (.iconst 1, 1) := by decide +kernel
theorem dX0_product_34 : decode cX0_product 34 = .ok (.iand, 1) := by decide +kernel
theorem dX0_product_35 : decode cX0_product 35 = .ok (.iconst 1, 1) := by decide +kernel
theorem dX0_product_36 : decode cX0_product 36 = .ok (.if_icmp .ne 27, 3) := by decide +kernel
theorem dX0_product_39 : decode cX0_product 39 = .ok (.lload_n 3, 1) := by decide +kernel
theorem dX0_product_40 : decode cX0_product 40 = .ok (.aload_n 0, 1) := by decide +kernel
theorem dX0_product_41 : decode cX0_product 41 = .ok (.getfield 28, 3) := by decide +kernel
theorem dX0_product_44 : decode cX0_product 44 = .ok (.iload 5, 2) := by decide +kernel
theorem dX0_product_46 : decode cX0_product 46 = .ok (.sipush 128, 3) := by decide +kernel
theorem dX0_product_49 : decode cX0_product 49 = .ok (.imul, 1) := by decide +kernel
theorem dX0_product_50 : decode cX0_product 50 = .ok (.iload_n 2, 1) := by decide +kernel
theorem dX0_product_51 : decode cX0_product 51 = .ok (.aload_n 0, 1) := by decide +kernel
theorem dX0_product_52 : decode cX0_product 52 = .ok (.getfield 25, 3) := by decide +kernel
theorem dX0_product_55 : decode cX0_product 55 = .ok (.iload 5, 2) := by decide +kernel
theorem dX0_product_57 : decode cX0_product 57 = .ok (.iaload, 1) := by decide +kernel
theorem dX0_product_58 : decode cX0_product 58 = .ok (.iand, 1) := by decide +kernel
theorem dX0_product_59 : decode cX0_product 59 = .ok (.iadd, 1) := by decide +kernel
theorem dX0_product_60 : decode cX0_product 60 = .ok (.laload, 1) := by decide +kernel
theorem dX0_product_61 : decode cX0_product 61 = .ok (.lmul, 1) := by decide +kernel
theorem dX0_product_62 : decode cX0_product 62 = .ok (.lstore_n 3, 1) := by decide +kernel
theorem dX0_product_63 : decode cX0_product 63 = .ok (.iinc 5 1, 3) := by decide +kernel
theorem dX0_product_66 : decode cX0_product 66 = .ok (.goto (-61), 3) := by decide +kernel
theorem dX0_product_69 : decode cX0_product 69 = .ok (.lload_n 3, 1) := by decide +kernel
theorem dX0_product_70 : decode cX0_product 70 = .ok (.lreturn, 1) := by decide +kernel
theorem dX0_share_0 : decode cX0_share 0 = .ok (.iload_n 1, 1) := by decide +kernel
theorem dX0_share_1 : decode cX0_share 1 = .ok (.invokestatic 32, 3) := by decide +kernel
theorem dX0_share_4 : decode cX0_share 4 = .ok (.ifCond .eq 5, 3) := by decide +kernel
theorem dX0_share_7 : decode cX0_share 7 = .ok (.lconst 0, 1) := by decide +kernel
theorem dX0_share_8 : decode cX0_share 8 = .ok (.lreturn, 1) := by decide +kernel
theorem dX0_share_9 : decode cX0_share 9 = .ok (.aload_n 0, 1) := by decide +kernel
theorem dX0_share_10 : decode cX0_share 10 = .ok (.invokevirtual 79, 3) := by decide +kernel
theorem dX0_share_13 : decode cX0_share 13 = .ok (.aload_n 0, 1) := by decide +kernel
theorem dX0_share_14 : decode cX0_share 14 = .ok (.iload_n 1, 1) := by decide +kernel
theorem dX0_share_15 : decode cX0_share 15 = .ok (.iconst 1, 1) := by decide +kernel
theorem dX0_share_16 : decode cX0_share 16 = .ok (.invokevirtual 76, 3) := by decide +kernel
theorem dX0_share_19 : decode cX0_share 19 = .ok (.lreturn, 1) := by decide +kernel
theorem dX0_sumWith_0 : decode cX0_sumWith 0 = .ok (.aload_n 0, 1) := by decide +kernel
theorem dX0_sumWith_1 : decode cX0_sumWith 1 = .ok (.getfield 22, 3) := by decide +kernel
theorem dX0_sumWith_4 : decode cX0_sumWith 4 = .ok (.iload_n 1, 1) := by decide +kernel
theorem dX0_sumWith_5 : decode cX0_sumWith 5 = .ok (.iaload, 1) := by decide +kernel
theorem dX0_sumWith_6 : decode cX0_sumWith 6 = .ok (.ifCond .lt 15, 3) := by decide +kernel
theorem dX0_sumWith_9 : decode cX0_sumWith 9 = .ok (.aload_n 0, 1) := by decide +kernel
theorem dX0_sumWith_10 : decode cX0_sumWith 10 = .ok (.getfield 22, 3) := by decide +kernel
theorem dX0_sumWith_13 : decode cX0_sumWith 13 = .ok (.iload_n 1, 1) := by decide +kernel
theorem dX0_sumWith_14 : decode cX0_sumWith 14 = .ok (.iaload, 1) := by decide +kernel
theorem dX0_sumWith_15 : decode cX0_sumWith 15 = .ok (.iload_n 2, 1) := by decide +kernel
theorem dX0_sumWith_16 : decode cX0_sumWith 16 = .ok (.if_icmp .eq 5, 3) := by decide +kernel
theorem dX0_sumWith_19 : decode cX0_sumWith 19 = .ok (.lconst 0, 1) := by decide +kernel
theorem dX0_sumWith_20 : decode cX0_sumWith 20 = .ok (.lreturn, 1) := by decide +kernel
theorem dX0_sumWith_21 : decode cX0_sumWith 21 = .ok (.aload_n 0, 1) := by decide +kernel
theorem dX0_sumWith_22 : decode cX0_sumWith 22 = .ok (.getfield 22, 3) := by decide +kernel
theorem dX0_sumWith_25 : decode cX0_sumWith 25 = .ok (.iload_n 1, 1) := by decide +kernel
theorem dX0_sumWith_26 : decode cX0_sumWith 26 = .ok (.iaload, 1) := by decide +kernel
theorem dX0_sumWith_27 : decode cX0_sumWith 27 = .ok (.istore_n 3, 1) := by decide +kernel
theorem dX0_sumWith_28 : decode cX0_sumWith 28 = .ok (.aload_n 0, 1) := by decide +kernel
theorem dX0_sumWith_29 : decode cX0_sumWith 29 = .ok (.getfield 22, 3) := by decide +kernel
theorem dX0_sumWith_32 : decode cX0_sumWith 32 = .ok (.iload_n 1, 1) := by decide +kernel
theorem dX0_sumWith_33 : decode cX0_sumWith 33 = .ok (.iload_n 2, 1) := by decide +kernel
theorem dX0_sumWith_34 : decode cX0_sumWith 34 = .ok (.iastore, 1) := by decide +kernel
theorem dX0_sumWith_35 : decode cX0_sumWith 35 = .ok (.aload_n 0, 1) := by decide +kernel
theorem dX0_sumWith_36 : decode cX0_sumWith 36 = .ok (.iconst 0, 1) := by decide +kernel
theorem dX0_sumWith_37 : decode cX0_sumWith 37 = .ok (.invokevirtual 72, 3) := by decide +kernel
theorem dX0_sumWith_40 : decode cX0_sumWith 40 = .ok (.lstore 4, 2) := by decide +kernel
theorem dX0_sumWith_42 : decode cX0_sumWith 42 = .ok (.aload_n 0, 1) := by decide +kernel
theorem dX0_sumWith_43 : decode cX0_sumWith 43 = .ok (.getfield 22, 3) := by decide +kernel
theorem dX0_sumWith_46 : decode cX0_sumWith 46 = .ok (.iload_n 1, 1) := by decide +kernel
theorem dX0_sumWith_47 : decode cX0_sumWith 47 = .ok (.iload_n 3, 1) := by decide +kernel
theorem dX0_sumWith_48 : decode cX0_sumWith 48 = .ok (.iastore, 1) := by decide +kernel
theorem dX0_sumWith_49 : decode cX0_sumWith 49 = .ok (.lload 4, 2) := by decide +kernel
theorem dX0_sumWith_51 : decode cX0_sumWith 51 = .ok (.lreturn, 1) := by decide +kernel
theorem dX0_alike_0 : decode cX0_alike 0 = .ok (.iload_n 1, 1) := by decide +kernel
theorem dX0_alike_1 : decode cX0_alike 1 = .ok (.invokestatic 32, 3) := by decide +kernel
theorem dX0_alike_4 : decode cX0_alike 4 = .ok (.ifCond .ne 10, 3) := by decide +kernel
theorem dX0_alike_7 : decode cX0_alike 7 = .ok (.iload_n 2, 1) := by decide +kernel
theorem dX0_alike_8 : decode cX0_alike 8 = .ok (.invokestatic 32, 3) := by decide +kernel
theorem dX0_alike_11 : decode cX0_alike 11 = .ok (.ifCond .eq 5, 3) := by decide +kernel
theorem dX0_alike_14 : decode cX0_alike 14 = .ok (.lconst 0, 1) := by decide +kernel
theorem dX0_alike_15 : decode cX0_alike 15 = .ok (.lreturn, 1) := by decide +kernel
theorem dX0_alike_16 : decode cX0_alike 16 = .ok (.aload_n 0, 1) := by decide +kernel
theorem dX0_alike_17 : decode cX0_alike 17 = .ok (.invokevirtual 79, 3) := by decide +kernel
theorem dX0_alike_20 : decode cX0_alike 20 = .ok (.aload_n 0, 1) := by decide +kernel
theorem dX0_alike_21 : decode cX0_alike 21 = .ok (.iload_n 1, 1) := by decide +kernel
theorem dX0_alike_22 : decode cX0_alike 22 = .ok (.iconst 0, 1) := by decide +kernel
theorem dX0_alike_23 : decode cX0_alike 23 = .ok (.iload_n 2, 1) := by decide +kernel
theorem dX0_alike_24 : decode cX0_alike 24 = .ok (.iconst 0, 1) := by decide +kernel
theorem dX0_alike_25 : decode cX0_alike 25 = .ok (.invokevirtual 82, 3) := by decide +kernel
theorem dX0_alike_28 : decode cX0_alike 28 = .ok (.lstore_n 3, 1) := by decide +kernel
theorem dX0_alike_29 : decode cX0_alike 29 = .ok (.aload_n 0, 1) := by decide +kernel
theorem dX0_alike_30 : decode cX0_alike 30 = .ok (.iload_n 1, 1) := by decide +kernel
theorem dX0_alike_31 : decode cX0_alike 31 = .ok (.iconst 1, 1) := by decide +kernel
theorem dX0_alike_32 : decode cX0_alike 32 = .ok (.iload_n 2, 1) := by decide +kernel
theorem dX0_alike_33 : decode cX0_alike 33 = .ok (.iconst 1, 1) := by decide +kernel
theorem dX0_alike_34 : decode cX0_alike 34 = .ok (.invokevirtual 82, 3) := by decide +kernel
theorem dX0_alike_37 : decode cX0_alike 37 = .ok (.lstore 5, 2) := by decide +kernel
theorem dX0_alike_39 : decode cX0_alike 39 = .ok (.lload_n 3, 1) := by decide +kernel
theorem dX0_alike_40 : decode cX0_alike 40 = .ok (.lload 5, 2) := by decide +kernel
theorem dX0_alike_42 : decode cX0_alike 42 = .ok (.ladd, 1) := by decide +kernel
theorem dX0_alike_43 : decode cX0_alike 43 = .ok (.lreturn, 1) := by decide +kernel
theorem dX0_sumWithBoth_0 : decode cX0_sumWithBoth 0 = .ok (.aload_n 0, 1) := by decide +kernel
theorem dX0_sumWithBoth_1 : decode cX0_sumWithBoth 1 = .ok (.getfield 22, 3) := by decide +kernel
theorem dX0_sumWithBoth_4 : decode cX0_sumWithBoth 4 = .ok (.iload_n 1, 1) := by decide +kernel
theorem dX0_sumWithBoth_5 : decode cX0_sumWithBoth 5 = .ok (.iaload, 1) := by decide +kernel
theorem dX0_sumWithBoth_6 : decode cX0_sumWithBoth 6 = .ok (.ifCond .lt 15, 3) := by decide +kernel
theorem dX0_sumWithBoth_9 : decode cX0_sumWithBoth 9 = .ok (.aload_n 0, 1) := by decide +kernel
theorem dX0_sumWithBoth_10 : decode cX0_sumWithBoth 10 = .ok (.getfield 22, 3) := by decide +kernel
theorem dX0_sumWithBoth_13 : decode cX0_sumWithBoth 13 = .ok (.iload_n 1, 1) := by decide +kernel
theorem dX0_sumWithBoth_14 : decode cX0_sumWithBoth 14 = .ok (.iaload, 1) := by decide +kernel
theorem dX0_sumWithBoth_15 : decode cX0_sumWithBoth 15 = .ok (.iload_n 2, 1) := by decide +kernel
theorem dX0_sumWithBoth_16 : decode cX0_sumWithBoth 16 = .ok (.if_icmp .eq 5, 3) := by decide +kernel
theorem dX0_sumWithBoth_19 : decode cX0_sumWithBoth 19 = .ok (.lconst 0, 1) := by decide +kernel
theorem dX0_sumWithBoth_20 : decode cX0_sumWithBoth 20 = .ok (.lreturn, 1) := by decide +kernel
theorem dX0_sumWithBoth_21 : decode cX0_sumWithBoth 21 = .ok (.aload_n 0, 1) := by decide +kernel
theorem dX0_sumWithBoth_22 : decode cX0_sumWithBoth 22 = .ok (.getfield 22, 3) := by decide +kernel
theorem dX0_sumWithBoth_25 : decode cX0_sumWithBoth 25 = .ok (.iload_n 1, 1) := by decide +kernel
theorem dX0_sumWithBoth_26 : decode cX0_sumWithBoth 26 = .ok (.iaload, 1) := by decide +kernel
theorem dX0_sumWithBoth_27 : decode cX0_sumWithBoth 27 = .ok (.istore 5, 2) := by decide +kernel
theorem dX0_sumWithBoth_29 : decode cX0_sumWithBoth 29 = .ok (.aload_n 0, 1) := by decide +kernel
theorem dX0_sumWithBoth_30 : decode cX0_sumWithBoth 30 = .ok (.getfield 22, 3) := by decide +kernel
theorem dX0_sumWithBoth_33 : decode cX0_sumWithBoth 33 = .ok (.iload_n 1, 1) := by decide +kernel
theorem dX0_sumWithBoth_34 : decode cX0_sumWithBoth 34 = .ok (.iload_n 2, 1) := by decide +kernel
theorem dX0_sumWithBoth_35 : decode cX0_sumWithBoth 35 = .ok (.iastore, 1) := by decide +kernel
theorem dX0_sumWithBoth_36 : decode cX0_sumWithBoth 36 = .ok (.aload_n 0, 1) := by decide +kernel
theorem dX0_sumWithBoth_37 : decode cX0_sumWithBoth 37 = .ok (.iload_n 3, 1) := by decide +kernel
theorem dX0_sumWithBoth_38 : decode cX0_sumWithBoth 38 = .ok (.iload 4, 2) := by decide +kernel
theorem dX0_sumWithBoth_40 : decode cX0_sumWithBoth 40 = .ok (.invokevirtual 76, 3) := by decide +kernel
theorem dX0_sumWithBoth_43 : decode cX0_sumWithBoth 43 = .ok (.lstore 6, 2) := by decide +kernel
theorem dX0_sumWithBoth_45 : decode cX0_sumWithBoth 45 = .ok (.aload_n 0, 1) := by decide +kernel
theorem dX0_sumWithBoth_46 : decode cX0_sumWithBoth 46 = .ok (.getfield 22, 3) := by decide +kernel
theorem dX0_sumWithBoth_49 : decode cX0_sumWithBoth 49 = .ok (.iload_n 1, 1) := by decide +kernel
theorem dX0_sumWithBoth_50 : decode cX0_sumWithBoth 50 = .ok (.iload 5, 2) := by decide +kernel
theorem dX0_sumWithBoth_52 : decode cX0_sumWithBoth 52 = .ok (.iastore, 1) := by decide +kernel
theorem dX0_sumWithBoth_53 : decode cX0_sumWithBoth 53 = .ok (.lload 6, 2) := by decide +kernel
theorem dX0_sumWithBoth_55 : decode cX0_sumWithBoth 55 = .ok (.lreturn, 1) := by decide +kernel
theorem dX0_best_0 : decode cX0_best 0 = .ok (.aload_n 0, 1) := by decide +kernel
theorem dX0_best_1 : decode cX0_best 1 = .ok (.invokevirtual 79, 3) := by decide +kernel
theorem dX0_best_4 : decode cX0_best 4 = .ok (.aload_n 0, 1) := by decide +kernel
theorem dX0_best_5 : decode cX0_best 5 = .ok (.iconst 1, 1) := by decide +kernel
theorem dX0_best_6 : decode cX0_best 6 = .ok (.invokevirtual 72, 3) := by decide +kernel
theorem dX0_best_9 : decode cX0_best 9 = .ok (.lreturn, 1) := by decide +kernel
theorem dX0_bestAssignment_0 : decode cX0_bestAssignment 0 = .ok (.aload_n 0, 1) := by decide +kernel
theorem dX0_bestAssignment_1 : decode cX0_bestAssignment 1 = .ok (.invokevirtual 79, 3) := by decide +kernel
theorem dX0_bestAssignment_4 : decode cX0_bestAssignment 4 = .ok (.aload_n 0, 1) := by decide +kernel
theorem dX0_bestAssignment_5 : decode cX0_bestAssignment 5 = .ok (.iconst 1, 1) := by decide +kernel
theorem dX0_bestAssignment_6 : decode cX0_bestAssignment 6 = .ok (.invokevirtual 72, 3) := by decide +kernel
theorem dX0_bestAssignment_9 : decode cX0_bestAssignment 9 = .ok (.lstore_n 1, 1) := by decide +kernel
theorem dX0_bestAssignment_10 : decode cX0_bestAssignment 10 = .ok (.iconst 0, 1) := by decide +kernel
theorem dX0_bestAssignment_11 : decode cX0_bestAssignment 11 = .ok (.istore_n 3, 1) := by decide +kernel
theorem dX0_bestAssignment_12 : decode cX0_bestAssignment 12 = .ok (.bipush 6, 2) := by decide +kernel
theorem dX0_bestAssignment_14 : decode cX0_bestAssignment 14 = .ok (.istore 4, 2) := by decide +kernel
theorem dX0_bestAssignment_16 : decode cX0_bestAssignment 16 = .ok (.iload 4, 2) := by decide +kernel
theorem dX0_bestAssignment_18 : decode cX0_bestAssignment 18 = .ok (.ifCond .lt 62, 3) := by decide +kernel
theorem dX0_bestAssignment_21 : decode cX0_bestAssignment 21 = .ok (.aload_n 0, 1) := by decide +kernel
theorem dX0_bestAssignment_22 : decode cX0_bestAssignment 22 = .ok (.getfield 22, 3) := by decide +kernel
theorem dX0_bestAssignment_25 : decode cX0_bestAssignment 25 = .ok (.iload 4, 2) := by decide +kernel
theorem dX0_bestAssignment_27 : decode cX0_bestAssignment 27 = .ok (.iaload, 1) := by decide +kernel
theorem dX0_bestAssignment_28 : decode cX0_bestAssignment 28 = .ok (.ifCond .ge 33, 3) := by decide +kernel
theorem dX0_bestAssignment_31 : decode cX0_bestAssignment 31 = .ok (.aload_n 0, 1) := by decide +kernel
theorem dX0_bestAssignment_32 : decode cX0_bestAssignment 32 = .ok (.getfield 22, 3) := by decide +kernel
theorem dX0_bestAssignment_35 : decode cX0_bestAssignment 35 = .ok (.iload 4, 2) := by decide +kernel
theorem dX0_bestAssignment_37 : decode cX0_bestAssignment 37 = .ok (.iconst 0, 1) := by decide +kernel
theorem dX0_bestAssignment_38 : decode cX0_bestAssignment 38 = .ok (.iastore, 1) := by decide +kernel
theorem dX0_bestAssignment_39 : decode cX0_bestAssignment 39 = .ok (.aload_n 0, 1) := by decide +kernel
theorem dX0_bestAssignment_40 : decode cX0_bestAssignment 40 = .ok (.iconst 1, 1) := by decide +kernel
theorem dX0_bestAssignment_41 : decode cX0_bestAssignment 41 = .ok (.invokevirtual 72, 3) := by decide +kernel
theorem dX0_bestAssignment_44 : decode cX0_bestAssignment 44 = .ok (.lstore 5, 2) := by decide +kernel
theorem dX0_bestAssignment_46 : decode cX0_bestAssignment 46 = .ok (.lload 5, 2) := by decide +kernel
theorem dX0_bestAssignment_48 : decode cX0_bestAssignment 48 = .ok (.lload_n 1, 1) := by decide +kernel
theorem dX0_bestAssignment_49 : decode cX0_bestAssignment 49 = .ok (.lcmp, 1) := by decide +kernel
theorem dX0_bestAssignment_50 : decode cX0_bestAssignment 50 = .ok (.ifCond .eq 11, 3) := by decide +kernel
theorem dX0_bestAssignment_53 : decode cX0_bestAssignment 53 = .ok (.aload_n 0, 1) := by decide +kernel
theorem dX0_bestAssignment_54 : decode cX0_bestAssignment 54 = .ok (.getfield 22, 3) := by decide +kernel
theorem dX0_bestAssignment_57 : decode cX0_bestAssignment 57 = .ok (.iload 4, 2) := by decide +kernel
theorem dX0_bestAssignment_59 : decode cX0_bestAssignment 59 = .ok (.iconst 1, 1) := by decide +kernel
theorem dX0_bestAssignment_60 : decode cX0_bestAssignment 60 = .ok (.iastore, 1) := by decide +kernel
theorem dX0_bestAssignment_61 : decode cX0_bestAssignment 61 = .ok (.iload_n 3, 1) := by decide +kernel
theorem dX0_bestAssignment_62 : decode cX0_bestAssignment 62 = .ok (.aload_n 0, 1) := by decide +kernel
theorem dX0_bestAssignment_63 : decode cX0_bestAssignment 63 = .ok (.getfield 22, 3) := by decide +kernel
theorem dX0_bestAssignment_66 : decode cX0_bestAssignment 66 = .ok (.iload 4, 2) := by decide +kernel
theorem dX0_bestAssignment_68 : decode cX0_bestAssignment 68 = .ok (.iaload, 1) := by decide +kernel
theorem dX0_bestAssignment_69 : decode cX0_bestAssignment 69 = .ok (.iload 4, 2) := by decide +kernel
theorem dX0_bestAssignment_71 : decode cX0_bestAssignment 71 = .ok (.ishl, 1) := by decide +kernel
theorem dX0_bestAssignment_72 : decode cX0_bestAssignment 72 = .ok (.ior, 1) := by decide +kernel
theorem dX0_bestAssignment_73 : decode cX0_bestAssignment 73 = .ok (.istore_n 3, 1) := by decide +kernel
theorem dX0_bestAssignment_74 : decode cX0_bestAssignment 74 = .ok (.iinc 4 (-1), 3) := by decide +kernel
theorem dX0_bestAssignment_77 : decode cX0_bestAssignment 77 = .ok (.goto (-61), 3) := by decide +kernel
theorem dX0_bestAssignment_80 : decode cX0_bestAssignment 80 = .ok (.iload_n 3, 1) := by decide +kernel
theorem dX0_bestAssignment_81 : decode cX0_bestAssignment 81 = .ok (.ireturn, 1) := by decide +kernel
theorem dX0_possible_0 : decode cX0_possible 0 = .ok (.aload_n 0, 1) := by decide +kernel
theorem dX0_possible_1 : decode cX0_possible 1 = .ok (.invokevirtual 79, 3) := by decide +kernel
theorem dX0_possible_4 : decode cX0_possible 4 = .ok (.aload_n 0, 1) := by decide +kernel
theorem dX0_possible_5 : decode cX0_possible 5 = .ok (.iconst 2, 1) := by decide +kernel
theorem dX0_possible_6 : decode cX0_possible 6 = .ok (.invokevirtual 72, 3) := by decide +kernel
theorem dX0_possible_9 : decode cX0_possible 9 = .ok (.l2i, 1) := by decide +kernel
theorem dX0_possible_10 : decode cX0_possible 10 = .ok (.ireturn, 1) := by decide +kernel
theorem dX0_independent_0 : decode cX0_independent 0 = .ok (.iload_n 1, 1) := by decide +kernel
theorem dX0_independent_1 : decode cX0_independent 1 = .ok (.invokestatic 32, 3) := by decide +kernel
theorem dX0_independent_4 : decode cX0_independent 4 = .ok (.ifCond .ne 10, 3) := by decide +kernel
theorem dX0_independent_7 : decode cX0_independent 7 = .ok (.iload_n 2, 1) := by decide +kernel
theorem dX0_independent_8 : decode cX0_independent 8 = .ok (.invokestatic 32, 3) := by decide +kernel
theorem dX0_independent_11 : decode cX0_independent 11 = .ok (.ifCond .eq 5, 3) := by decide +kernel
theorem dX0_independent_14 : decode cX0_independent 14 = .ok (.iconst 1, 1) := by decide +kernel
theorem dX0_independent_15 : decode cX0_independent 15 = .ok (.ireturn, 1) := by decide +kernel
end
section
set_option maxRecDepth 100000
theorem dX0_independent_16 : decode cX0_independent 16 = .ok (.aload_n 0, 1) := by decide +kernel
theorem dX0_independent_17 : decode cX0_independent 17 = .ok (.invokevirtual 79, 3) := by decide +kernel
theorem dX0_independent_20 : decode cX0_independent 20 = .ok (.aload_n 0, 1) := by decide +kernel
theorem dX0_independent_21 : decode cX0_independent 21 = .ok (.iconst 0, 1) := by decide +kernel
theorem dX0_independent_22 : decode cX0_independent 22 = .ok (.invokevirtual 72, 3) := by decide +kernel
theorem dX0_independent_25 : decode cX0_independent 25 = .ok (.lstore_n 3, 1) := by decide +kernel
theorem dX0_independent_26 : decode cX0_independent 26 = .ok (.aload_n 0, 1) := by decide +kernel
theorem dX0_independent_27 : decode cX0_independent 27 = .ok (.iload_n 1, 1) := by decide +kernel
theorem dX0_independent_28 : decode cX0_independent 28 = .ok (.iconst 1, 1) := by decide +kernel
theorem dX0_independent_29 : decode cX0_independent 29 = .ok (.iload_n 2, 1) := by decide +kernel
theorem dX0_independent_30 : decode cX0_independent 30 = .ok (.iconst 1, 1) := by decide +kernel
theorem dX0_independent_31 : decode cX0_independent 31 = .ok (.invokevirtual 82, 3) := by decide +kernel
theorem dX0_independent_34 : decode cX0_independent 34 = .ok (.lstore 5, 2) := by decide +kernel
theorem dX0_independent_36 : decode cX0_independent 36 = .ok (.aload_n 0, 1) := by decide +kernel
theorem dX0_independent_37 : decode cX0_independent 37 = .ok (.iload_n 1, 1) := by decide +kernel
theorem dX0_independent_38 : decode cX0_independent 38 = .ok (.iconst 1, 1) := by decide +kernel
theorem dX0_independent_39 : decode cX0_independent 39 = .ok (.invokevirtual 76, 3) := by decide +kernel
theorem dX0_independent_42 : decode cX0_independent 42 = .ok (.lstore 7, 2) := by decide +kernel
theorem dX0_independent_44 : decode cX0_independent 44 = .ok (.aload_n 0, 1) := by decide +kernel
theorem dX0_independent_45 : decode cX0_independent 45 = .ok (.iload_n 2, 1) := by decide +kernel
theorem dX0_independent_46 : decode cX0_independent 46 = .ok (.iconst 1, 1) := by decide +kernel
theorem dX0_independent_47 : decode cX0_independent 47 = .ok (.invokevirtual 76, 3) := by decide +kernel
theorem dX0_independent_50 : decode cX0_independent 50 = .ok (.lstore 9, 2) := by decide +kernel
theorem dX0_independent_52 : decode cX0_independent 52 = .ok (.lload_n 3, 1) := by decide +kernel
theorem dX0_independent_53 : decode cX0_independent 53 = .ok (.lload 5, 2) := by decide +kernel
theorem dX0_independent_55 : decode cX0_independent 55 = .ok (.lmul, 1) := by decide +kernel
theorem dX0_independent_56 : decode cX0_independent 56 = .ok (.lload 7, 2) := by decide +kernel
theorem dX0_independent_58 : decode cX0_independent 58 = .ok (.lload 9, 2) := by decide +kernel
theorem dX0_independent_60 : decode cX0_independent 60 = .ok (.lmul, 1) := by decide +kernel
theorem dX0_independent_61 : decode cX0_independent 61 = .ok (.lcmp, 1) := by decide +kernel
theorem dX0_independent_62 : decode cX0_independent 62 = .ok (.ifCond .ne 7, 3) := by decide +kernel
theorem dX0_independent_65 : decode cX0_independent 65 = .ok (.iconst 1, 1) := by decide +kernel
theorem dX0_independent_66 : decode cX0_independent 66 = .ok (.goto 4, 3) := by decide +kernel
theorem dX0_independent_69 : decode cX0_independent 69 = .ok (.iconst 0, 1) := by decide +kernel
theorem dX0_independent_70 : decode cX0_independent 70 = .ok (.ireturn, 1) := by decide +kernel
theorem dX1_init_0 : decode cX1_init 0 = .ok (.aload_n 0, 1) := by decide +kernel
theorem dX1_init_1 : decode cX1_init 1 = .ok (.invokespecial 1, 3) := by decide +kernel
theorem dX1_init_4 : decode cX1_init 4 = .ok (.aload_n 0, 1) := by decide +kernel
theorem dX1_init_5 : decode cX1_init 5 = .ok (.bipush 21, 2) := by decide +kernel
theorem dX1_init_7 : decode cX1_init 7 = .ok (.newarray .int, 2) := by decide +kernel
theorem dX1_init_9 : decode cX1_init 9 = .ok (.putfield 7, 3) := by decide +kernel
theorem dX1_init_12 : decode cX1_init 12 = .ok (.aload_n 0, 1) := by decide +kernel
theorem dX1_init_13 : decode cX1_init 13 = .ok (.bipush 56, 2) := by decide +kernel
theorem dX1_init_15 : decode cX1_init 15 = .ok (.newarray .int, 2) := by decide +kernel
theorem dX1_init_17 : decode cX1_init 17 = .ok (.putfield 13, 3) := by decide +kernel
theorem dX1_init_20 : decode cX1_init 20 = .ok (.aload_n 0, 1) := by decide +kernel
theorem dX1_init_21 : decode cX1_init 21 = .ok (.bipush 7, 2) := by decide +kernel
theorem dX1_init_23 : decode cX1_init 23 = .ok (.newarray .int, 2) := by decide +kernel
theorem dX1_init_25 : decode cX1_init 25 = .ok (.putfield 16, 3) := by decide +kernel
theorem dX1_init_28 : decode cX1_init 28 = .ok (.iconst 0, 1) := by decide +kernel
theorem dX1_init_29 : decode cX1_init 29 = .ok (.istore_n 1, 1) := by decide +kernel
theorem dX1_init_30 : decode cX1_init 30 = .ok (.iload_n 1, 1) := by decide +kernel
theorem dX1_init_31 : decode cX1_init 31 = .ok (.bipush 7, 2) := by decide +kernel
theorem dX1_init_33 : decode cX1_init 33 = .ok (.if_icmp .ge 16, 3) := by decide +kernel
theorem dX1_init_36 : decode cX1_init 36 = .ok (.aload_n 0, 1) := by decide +kernel
theorem dX1_init_37 : decode cX1_init 37 = .ok (.getfield 16, 3) := by decide +kernel
theorem dX1_init_40 : decode cX1_init 40 = .ok (.iload_n 1, 1) := by decide +kernel
theorem dX1_init_41 : decode cX1_init 41 = .ok (.iconst (-1), 1) := by decide +kernel
theorem dX1_init_42 : decode cX1_init 42 = .ok (.iastore, 1) := by decide +kernel
theorem dX1_init_43 : decode cX1_init 43 = .ok (.iinc 1 1, 3) := by decide +kernel
theorem dX1_init_46 : decode cX1_init 46 = .ok (.goto (-16), 3) := by decide +kernel
theorem dX1_init_49 : decode cX1_init 49 = .ok (.return_, 1) := by decide +kernel
theorem dX1_factor_0 : decode cX1_factor 0 = .ok (.iload_n 2, 1) := by decide +kernel
theorem dX1_factor_1 : decode cX1_factor 1 = .ok (.iconst (-1), 1) := by decide +kernel
theorem dX1_factor_2 : decode cX1_factor 2 = .ok (.if_icmp .ne 7, 3) := by decide +kernel
theorem dX1_factor_5 : decode cX1_factor 5 = .ok (.iconst (-1), 1) := by decide +kernel
theorem dX1_factor_6 : decode cX1_factor 6 = .ok (.goto 4, 3) := by decide +kernel
theorem dX1_factor_9 : decode cX1_factor 9 = .ok (.iload_n 3, 1) := by decide +kernel
theorem dX1_factor_10 : decode cX1_factor 10 = .ok (.istore 4, 2) := by decide +kernel
theorem dX1_factor_12 : decode cX1_factor 12 = .ok (.aload_n 0, 1) := by decide +kernel
theorem dX1_factor_13 : decode cX1_factor 13 = .ok (.iload_n 1, 1) := by decide +kernel
theorem dX1_factor_14 : decode cX1_factor 14 = .ok (.invokevirtual 19, 3) := by decide +kernel
theorem dX1_factor_17 : decode cX1_factor 17 = .ok (.ifCond .ne 38, 3) := by decide +kernel
theorem dX1_factor_20 : decode cX1_factor 20 = .ok (.iload_n 2, 1) := by decide +kernel
theorem dX1_factor_21 : decode cX1_factor 21 = .ok (.iconst (-1), 1) := by decide +kernel
theorem dX1_factor_22 : decode cX1_factor 22 = .ok (.if_icmp .lt 33, 3) := by decide +kernel
theorem dX1_factor_25 : decode cX1_factor 25 = .ok (.iload_n 2, 1) := by decide +kernel
theorem dX1_factor_26 : decode cX1_factor 26 = .ok (.bipush 6, 2) := by decide +kernel
theorem dX1_factor_28 : decode cX1_factor 28 = .ok (.if_icmp .gt 27, 3) := by decide +kernel
theorem dX1_factor_31 : decode cX1_factor 31 = .ok (.iload 4, 2) := by decide +kernel
theorem dX1_factor_33 : decode cX1_factor 33 = .ok (.iconst (-1), 1) := by decide +kernel
theorem dX1_factor_34 : decode cX1_factor 34 = .ok (.if_icmp .lt 21, 3) := by decide +kernel
theorem dX1_factor_37 : decode cX1_factor 37 = .ok (.iload 4, 2) := by decide +kernel
theorem dX1_factor_39 : decode cX1_factor 39 = .ok (.bipush 6, 2) := by decide +kernel
theorem dX1_factor_41 : decode cX1_factor 41 = .ok (.if_icmp .gt 14, 3) := by decide +kernel
theorem dX1_factor_44 : decode cX1_factor 44 = .ok (.iload_n 1, 1) := by decide +kernel
theorem dX1_factor_45 : decode cX1_factor 45 = .ok (.iload_n 2, 1) := by decide +kernel
theorem dX1_factor_46 : decode cX1_factor 46 = .ok (.if_icmp .eq 9, 3) := by decide +kernel
theorem dX1_factor_49 : decode cX1_factor 49 = .ok (.iload_n 1, 1) := by decide +kernel
theorem dX1_factor_50 : decode cX1_factor 50 = .ok (.iload 4, 2) := by decide +kernel
theorem dX1_factor_52 : decode cX1_factor 52 = .ok (.if_icmp .ne 5, 3) := by decide +kernel
theorem dX1_factor_55 : decode cX1_factor 55 = .ok (.iconst (-1), 1) := by decide +kernel
theorem dX1_factor_56 : decode cX1_factor 56 = .ok (.ireturn, 1) := by decide +kernel
theorem dX1_factor_57 : decode cX1_factor 57 = .ok (.iload_n 2, 1) := by decide +kernel
theorem dX1_factor_58 : decode cX1_factor 58 = .ok (.iconst (-1), 1) := by decide +kernel
theorem dX1_factor_59 : decode cX1_factor 59 = .ok (.if_icmp .eq 11, 3) := by decide +kernel
theorem dX1_factor_62 : decode cX1_factor 62 = .ok (.iload_n 2, 1) := by decide +kernel
theorem dX1_factor_63 : decode cX1_factor 63 = .ok (.iload 4, 2) := by decide +kernel
theorem dX1_factor_65 : decode cX1_factor 65 = .ok (.if_icmp .ne 5, 3) := by decide +kernel
theorem dX1_factor_68 : decode cX1_factor 68 = .ok (.iconst (-1), 1) := by decide +kernel
theorem dX1_factor_69 : decode cX1_factor 69 = .ok (.ireturn, 1) := by decide +kernel
theorem dX1_factor_70 : decode cX1_factor 70 = .ok (.aload_n 0, 1) := by decide +kernel
theorem dX1_factor_71 : decode cX1_factor 71 = .ok (.getfield 23, 3) := by decide +kernel
theorem dX1_factor_74 : decode cX1_factor 74 = .ok (.bipush 7, 2) := by decide +kernel
theorem dX1_factor_76 : decode cX1_factor 76 = .ok (.if_icmp .ne 6, 3) := by decide +kernel
theorem dX1_factor_79 : decode cX1_factor 79 = .ok (.bipush (-4), 2) := by decide +kernel
theorem dX1_factor_81 : decode cX1_factor 81 = .ok (.ireturn, 1) := by decide +kernel
theorem dX1_factor_82 : decode cX1_factor 82 = .ok (.aload_n 0, 1) := by decide +kernel
theorem dX1_factor_83 : decode cX1_factor 83 = .ok (.getfield 7, 3) := by decide +kernel
theorem dX1_factor_86 : decode cX1_factor 86 = .ok (.aload_n 0, 1) := by decide +kernel
theorem dX1_factor_87 : decode cX1_factor 87 = .ok (.getfield 23, 3) := by decide +kernel
theorem dX1_factor_90 : decode cX1_factor 90 = .ok (.iconst 3, 1) := by decide +kernel
theorem dX1_factor_91 : decode cX1_factor 91 = .ok (.imul, 1) := by decide +kernel
theorem dX1_factor_92 : decode cX1_factor 92 = .ok (.iload_n 1, 1) := by decide +kernel
theorem dX1_factor_93 : decode cX1_factor 93 = .ok (.iastore, 1) := by decide +kernel
theorem dX1_factor_94 : decode cX1_factor 94 = .ok (.aload_n 0, 1) := by decide +kernel
theorem dX1_factor_95 : decode cX1_factor 95 = .ok (.getfield 7, 3) := by decide +kernel
theorem dX1_factor_98 : decode cX1_factor 98 = .ok (.aload_n 0, 1) := by decide +kernel
theorem dX1_factor_99 : decode cX1_factor 99 = .ok (.getfield 23, 3) := by decide +kernel
theorem dX1_factor_102 : decode cX1_factor 102 = .ok (.iconst 3, 1) := by decide +kernel
theorem dX1_factor_103 : decode cX1_factor 103 = .ok (.imul, 1) := by decide +kernel
theorem dX1_factor_104 : decode cX1_factor 104 = .ok (.iconst 1, 1) := by decide +kernel
theorem dX1_factor_105 : decode cX1_factor 105 = .ok (.iadd, 1) := by decide +kernel
theorem dX1_factor_106 : decode cX1_factor 106 = .ok (.iload_n 2, 1) := by decide +kernel
theorem dX1_factor_107 : decode cX1_factor 107 = .ok (.iastore, 1) := by decide +kernel
theorem dX1_factor_108 : decode cX1_factor 108 = .ok (.aload_n 0, 1) := by decide +kernel
theorem dX1_factor_109 : decode cX1_factor 109 = .ok (.getfield 7, 3) := by decide +kernel
theorem dX1_factor_112 : decode cX1_factor 112 = .ok (.aload_n 0, 1) := by decide +kernel
theorem dX1_factor_113 : decode cX1_factor 113 = .ok (.getfield 23, 3) := by decide +kernel
theorem dX1_factor_116 : decode cX1_factor 116 = .ok (.iconst 3, 1) := by decide +kernel
theorem dX1_factor_117 : decode cX1_factor 117 = .ok (.imul, 1) := by decide +kernel
theorem dX1_factor_118 : decode cX1_factor 118 = .ok (.iconst 2, 1) := by decide +kernel
theorem dX1_factor_119 : decode cX1_factor 119 = .ok (.iadd, 1) := by decide +kernel
theorem dX1_factor_120 : decode cX1_factor 120 = .ok (.iload 4, 2) := by decide +kernel
theorem dX1_factor_122 : decode cX1_factor 122 = .ok (.iastore, 1) := by decide +kernel
theorem dX1_factor_123 : decode cX1_factor 123 = .ok (.iconst 0, 1) := by decide +kernel
theorem dX1_factor_124 : decode cX1_factor 124 = .ok (.istore 5, 2) := by decide +kernel
theorem dX1_factor_126 : decode cX1_factor 126 = .ok (.iload 5, 2) := by decide +kernel
theorem dX1_factor_128 : decode cX1_factor 128 = .ok (.bipush 8, 2) := by decide +kernel
theorem dX1_factor_130 : decode cX1_factor 130 = .ok (.if_icmp .ge 25, 3) := by decide +kernel
theorem dX1_factor_133 : decode cX1_factor 133 = .ok (.aload_n 0, 1) := by decide +kernel
theorem dX1_factor_134 : decode cX1_factor 134 = .ok (.getfield 13, 3) := by decide +kernel
theorem dX1_factor_137 : decode cX1_factor 137 = .ok (.aload_n 0, 1) := by decide +kernel
theorem dX1_factor_138 : decode cX1_factor 138 = .ok (.getfield 23, 3) := by decide +kernel
theorem dX1_factor_141 : decode cX1_factor 141 = .ok (.bipush 8, 2) := by decide +kernel
theorem dX1_factor_143 : decode cX1_factor 143 = .ok (.imul, 1) := by decide +kernel
theorem dX1_factor_144 : decode cX1_factor 144 = .ok (.iload 5, 2) := by decide +kernel
theorem dX1_factor_146 : decode cX1_factor 146 = .ok (.iadd, 1) := by decide +kernel
theorem dX1_factor_147 : decode cX1_factor 147 = .ok (.iconst 1, 1) := by decide +kernel
theorem dX1_factor_148 : decode cX1_factor 148 = .ok (.iastore, 1) := by decide +kernel
theorem dX1_factor_149 : decode cX1_factor 149 = .ok (.iinc 5 1, 3) := by decide +kernel
theorem dX1_factor_152 : decode cX1_factor 152 = .ok (.goto (-26), 3) := by decide +kernel
theorem dX1_factor_155 : decode cX1_factor 155 = .ok (.aload_n 0, 1) := by decide +kernel
theorem dX1_factor_156 : decode cX1_factor 156 = .ok (.aload_n 0, 1) := by decide +kernel
theorem dX1_factor_157 : decode cX1_factor 157 = .ok (.getfield 23, 3) := by decide +kernel
theorem dX1_factor_160 : decode cX1_factor 160 = .ok (.iconst 1, 1) := by decide +kernel
theorem dX1_factor_161 : decode cX1_factor 161 = .ok (.iadd, 1) := by decide +kernel
theorem dX1_factor_162 : decode cX1_factor 162 = .ok (.putfield 23, 3) := by decide +kernel
theorem dX1_factor_165 : decode cX1_factor 165 = .ok (.aload_n 0, 1) := by decide +kernel
theorem dX1_factor_166 : decode cX1_factor 166 = .ok (.getfield 23, 3) := by decide +kernel
theorem dX1_factor_169 : decode cX1_factor 169 = .ok (.iconst 1, 1) := by decide +kernel
theorem dX1_factor_170 : decode cX1_factor 170 = .ok (.isub, 1) := by decide +kernel
theorem dX1_factor_171 : decode cX1_factor 171 = .ok (.ireturn, 1) := by decide +kernel
theorem dX1_bad_0 : decode cX1_bad 0 = .ok (.iload_n 1, 1) := by decide +kernel
theorem dX1_bad_1 : decode cX1_bad 1 = .ok (.ifCond .lt 9, 3) := by decide +kernel
theorem dX1_bad_4 : decode cX1_bad 4 = .ok (.iload_n 1, 1) := by decide +kernel
theorem dX1_bad_5 : decode cX1_bad 5 = .ok (.bipush 6, 2) := by decide +kernel
theorem dX1_bad_7 : decode cX1_bad 7 = .ok (.if_icmp .le 7, 3) := by decide +kernel
theorem dX1_bad_10 : decode cX1_bad 10 = .ok (.iconst 1, 1) := by decide +kernel
theorem dX1_bad_11 : decode cX1_bad 11 = .ok (.goto 4, 3) := by decide +kernel
theorem dX1_bad_14 : decode cX1_bad 14 = .ok (.iconst 0, 1) := by decide +kernel
theorem dX1_bad_15 : decode cX1_bad 15 = .ok (.ireturn, 1) := by decide +kernel
theorem dX1_weight_0 : decode cX1_weight 0 = .ok (.iload_n 1, 1) := by decide +kernel
theorem dX1_weight_1 : decode cX1_weight 1 = .ok (.ifCond .lt 11, 3) := by decide +kernel
theorem dX1_weight_4 : decode cX1_weight 4 = .ok (.iload_n 1, 1) := by decide +kernel
theorem dX1_weight_5 : decode cX1_weight 5 = .ok (.aload_n 0, 1) := by decide +kernel
theorem dX1_weight_6 : decode cX1_weight 6 = .ok (.getfield 23, 3) := by decide +kernel
theorem dX1_weight_9 : decode cX1_weight 9 = .ok (.if_icmp .lt 6, 3) := by decide +kernel
theorem dX1_weight_12 : decode cX1_weight 12 = .ok (.bipush (-2), 2) := by decide +kernel
theorem dX1_weight_14 : decode cX1_weight 14 = .ok (.ireturn, 1) := by decide +kernel
theorem dX1_weight_15 : decode cX1_weight 15 = .ok (.aload_n 0, 1) := by decide +kernel
theorem dX1_weight_16 : decode cX1_weight 16 = .ok (.getfield 7, 3) := by decide +kernel
theorem dX1_weight_19 : decode cX1_weight 19 = .ok (.iload_n 1, 1) := by decide +kernel
theorem dX1_weight_20 : decode cX1_weight 20 = .ok (.iconst 3, 1) := by decide +kernel
theorem dX1_weight_21 : decode cX1_weight 21 = .ok (.imul, 1) := by decide +kernel
theorem dX1_weight_22 : decode cX1_weight 22 = .ok (.iconst 1, 1) := by decide +kernel
theorem dX1_weight_23 : decode cX1_weight 23 = .ok (.iadd, 1) := by decide +kernel
theorem dX1_weight_24 : decode cX1_weight 24 = .ok (.iaload, 1) := by decide +kernel
theorem dX1_weight_25 : decode cX1_weight 25 = .ok (.ifCond .ge 7, 3) := by decide +kernel
theorem dX1_weight_28 : decode cX1_weight 28 = .ok (.iconst 2, 1) := by decide +kernel
theorem dX1_weight_29 : decode cX1_weight 29 = .ok (.goto 22, 3) := by decide +kernel
theorem dX1_weight_32 : decode cX1_weight 32 = .ok (.aload_n 0, 1) := by decide +kernel
theorem dX1_weight_33 : decode cX1_weight 33 = .ok (.getfield 7, 3) := by decide +kernel
theorem dX1_weight_36 : decode cX1_weight 36 = .ok (.iload_n 1, 1) := by decide +kernel
theorem dX1_weight_37 : decode cX1_weight 37 = .ok (.iconst 3, 1) := by decide +kernel
theorem dX1_weight_38 : decode cX1_weight 38 = .ok (.imul, 1) := by decide +kernel
theorem dX1_weight_39 : decode cX1_weight 39 = .ok (.iconst 2, 1) := by decide +kernel
theorem dX1_weight_40 : decode cX1_weight 40 = .ok (.iadd, 1) := by decide +kernel
theorem dX1_weight_41 : decode cX1_weight 41 = .ok (.iaload, 1) := by decide +kernel
theorem dX1_weight_42 : decode cX1_weight 42 = .ok (.ifCond .ge 7, 3) := by decide +kernel
theorem dX1_weight_45 : decode cX1_weight 45 = .ok (.iconst 4, 1) := by decide +kernel
theorem dX1_weight_46 : decode cX1_weight 46 = .ok (.goto 5, 3) := by decide +kernel
theorem dX1_weight_49 : decode cX1_weight 49 = .ok (.bipush 8, 2) := by decide +kernel
theorem dX1_weight_51 : decode cX1_weight 51 = .ok (.istore 4, 2) := by decide +kernel
theorem dX1_weight_53 : decode cX1_weight 53 = .ok (.iload_n 2, 1) := by decide +kernel
theorem dX1_weight_54 : decode cX1_weight 54 = .ok (.ifCond .lt 9, 3) := by decide +kernel
theorem dX1_weight_57 : decode cX1_weight 57 = .ok (.iload_n 2, 1) := by decide +kernel
theorem dX1_weight_58 : decode cX1_weight 58 = .ok (.iload 4, 2) := by decide +kernel
theorem dX1_weight_60 : decode cX1_weight 60 = .ok (.if_icmp .lt 6, 3) := by decide +kernel
theorem dX1_weight_63 : decode cX1_weight 63 = .ok (.bipush (-5), 2) := by decide +kernel
theorem dX1_weight_65 : decode cX1_weight 65 = .ok (.ireturn, 1) := by decide +kernel
theorem dX1_weight_66 : decode cX1_weight 66 = .ok (.iload_n 3, 1) := by decide +kernel
theorem dX1_weight_67 : decode cX1_weight 67 = .ok (.ifCond .lt 9, 3) := by decide +kernel
theorem dX1_weight_70 : decode cX1_weight 70 = .ok (.iload_n 3, 1) := by decide +kernel
theorem dX1_weight_71 : decode cX1_weight 71 = .ok (.bipush 9, 2) := by decide +kernel
theorem dX1_weight_73 : decode cX1_weight 73 = .ok (.if_icmp .le 6, 3) := by decide +kernel
theorem dX1_weight_76 : decode cX1_weight 76 = .ok (.bipush (-3), 2) := by decide +kernel
theorem dX1_weight_78 : decode cX1_weight 78 = .ok (.ireturn, 1) := by decide +kernel
theorem dX1_weight_79 : decode cX1_weight 79 = .ok (.aload_n 0, 1) := by decide +kernel
theorem dX1_weight_80 : decode cX1_weight 80 = .ok (.getfield 13, 3) := by decide +kernel
theorem dX1_weight_83 : decode cX1_weight 83 = .ok (.iload_n 1, 1) := by decide +kernel
theorem dX1_weight_84 : decode cX1_weight 84 = .ok (.bipush 8, 2) := by decide +kernel
theorem dX1_weight_86 : decode cX1_weight 86 = .ok (.imul, 1) := by decide +kernel
theorem dX1_weight_87 : decode cX1_weight 87 = .ok (.iload_n 2, 1) := by decide +kernel
theorem dX1_weight_88 : decode cX1_weight 88 = .ok (.iadd, 1) := by decide +kernel
theorem dX1_weight_89 : decode cX1_weight 89 = .ok (.iaload, 1) := by decide +kernel
theorem dX1_weight_90 : decode cX1_weight 90 = .ok (.istore 5, 2) := by decide +kernel
theorem dX1_weight_92 : decode cX1_weight 92 = .ok (.aload_n 0, 1) := by decide +kernel
theorem dX1_weight_93 : decode cX1_weight 93 = .ok (.getfield 13, 3) := by decide +kernel
theorem dX1_weight_96 : decode cX1_weight 96 = .ok (.iload_n 1, 1) := by decide +kernel
theorem dX1_weight_97 : decode cX1_weight 97 = .ok (.bipush 8, 2) := by decide +kernel
theorem dX1_weight_99 : decode cX1_weight 99 = .ok (.imul, 1) := by decide +kernel
theorem dX1_weight_100 : decode cX1_weight 100 = .ok (.iload_n 2, 1) := by decide +kernel
theorem dX1_weight_101 : decode cX1_weight 101 = .ok (.iadd, 1) := by decide +kernel
theorem dX1_weight_102 : decode cX1_weight 102 = .ok (.iload_n 3, 1) := by decide +kernel
theorem dX1_weight_103 : decode cX1_weight 103 = .ok (.iastore, 1) := by decide +kernel
theorem dX1_weight_104 : decode cX1_weight 104 = .ok (.iload 5, 2) := by decide +kernel
theorem dX1_weight_106 : decode cX1_weight 106 = .ok (.ireturn, 1) := by decide +kernel
theorem dX1_evidence_0 : decode cX1_evidence 0 = .ok (.aload_n 0, 1) := by decide +kernel
theorem dX1_evidence_1 : decode cX1_evidence 1 = .ok (.iload_n 1, 1) := by decide +kernel
theorem dX1_evidence_2 : decode cX1_evidence 2 = .ok (.invokevirtual 19, 3) := by decide +kernel
theorem dX1_evidence_5 : decode cX1_evidence 5 = .ok (.ifCond .eq 5, 3) := by decide +kernel
theorem dX1_evidence_8 : decode cX1_evidence 8 = .ok (.iconst (-1), 1) := by decide +kernel
theorem dX1_evidence_9 : decode cX1_evidence 9 = .ok (.ireturn, 1) := by decide +kernel
theorem dX1_evidence_10 : decode cX1_evidence 10 = .ok (.iload_n 2, 1) := by decide +kernel
theorem dX1_evidence_11 : decode cX1_evidence 11 = .ok (.iconst (-1), 1) := by decide +kernel
theorem dX1_evidence_12 : decode cX1_evidence 12 = .ok (.if_icmp .lt 8, 3) := by decide +kernel
theorem dX1_evidence_15 : decode cX1_evidence 15 = .ok (.iload_n 2, 1) := by decide +kernel
theorem dX1_evidence_16 : decode cX1_evidence 16 = .ok (.iconst 1, 1) := by decide +kernel
theorem dX1_evidence_17 : decode cX1_evidence 17 = .ok (.if_icmp .le 6, 3) := by decide +kernel
theorem dX1_evidence_20 : decode cX1_evidence 20 = .ok (.bipush (-5), 2) := by decide +kernel
theorem dX1_evidence_22 : decode cX1_evidence 22 = .ok (.ireturn, 1) := by decide +kernel
theorem dX1_evidence_23 : decode cX1_evidence 23 = .ok (.aload_n 0, 1) := by decide +kernel
theorem dX1_evidence_24 : decode cX1_evidence 24 = .ok (.getfield 16, 3) := by decide +kernel
theorem dX1_evidence_27 : decode cX1_evidence 27 = .ok (.iload_n 1, 1) := by decide +kernel
theorem dX1_evidence_28 : decode cX1_evidence 28 = .ok (.iaload, 1) := by decide +kernel
theorem dX1_evidence_29 : decode cX1_evidence 29 = .ok (.istore_n 3, 1) := by decide +kernel
theorem dX1_evidence_30 : decode cX1_evidence 30 = .ok (.aload_n 0, 1) := by decide +kernel
theorem dX1_evidence_31 : decode cX1_evidence 31 = .ok (.getfield 16, 3) := by decide +kernel
theorem dX1_evidence_34 : decode cX1_evidence 34 = .ok (.iload_n 1, 1) := by decide +kernel
theorem dX1_evidence_35 : decode cX1_evidence 35 = .ok (.iload_n 2, 1) := by decide +kernel
theorem dX1_evidence_36 : decode cX1_evidence 36 = .ok (.iastore, 1) := by decide +kernel
theorem dX1_evidence_37 : decode cX1_evidence 37 = .ok (.iload_n 3, 1) := by decide +kernel
theorem dX1_evidence_38 : decode cX1_evidence 38 = .ok (.ireturn, 1) := by decide +kernel
theorem dX1_drop_0 : decode cX1_drop 0 = .ok (.aload_n 0, 1) := by decide +kernel
theorem dX1_drop_1 : decode cX1_drop 1 = .ok (.getfield 23, 3) := by decide +kernel
theorem dX1_drop_4 : decode cX1_drop 4 = .ok (.ifCond .ne 6, 3) := by decide +kernel
theorem dX1_drop_7 : decode cX1_drop 7 = .ok (.bipush (-2), 2) := by decide +kernel
theorem dX1_drop_9 : decode cX1_drop 9 = .ok (.ireturn, 1) := by decide +kernel
theorem dX1_drop_10 : decode cX1_drop 10 = .ok (.aload_n 0, 1) := by decide +kernel
theorem dX1_drop_11 : decode cX1_drop 11 = .ok (.aload_n 0, 1) := by decide +kernel
theorem dX1_drop_12 : decode cX1_drop 12 = .ok (.getfield 23, 3) := by decide +kernel
theorem dX1_drop_15 : decode cX1_drop 15 = .ok (.iconst 1, 1) := by decide +kernel
theorem dX1_drop_16 : decode cX1_drop 16 = .ok (.isub, 1) := by decide +kernel
theorem dX1_drop_17 : decode cX1_drop 17 = .ok (.putfield 23, 3) := by decide +kernel
theorem dX1_drop_20 : decode cX1_drop 20 = .ok (.aload_n 0, 1) := by decide +kernel
theorem dX1_drop_21 : decode cX1_drop 21 = .ok (.getfield 23, 3) := by decide +kernel
theorem dX1_drop_24 : decode cX1_drop 24 = .ok (.ireturn, 1) := by decide +kernel
theorem dX1_total_0 : decode cX1_total 0 = .ok (.lconst 0, 1) := by decide +kernel
theorem dX1_total_1 : decode cX1_total 1 = .ok (.lstore_n 1, 1) := by decide +kernel
theorem dX1_total_2 : decode cX1_total 2 = .ok (.iconst 0, 1) := by decide +kernel
theorem dX1_total_3 : decode cX1_total 3 = .ok (.istore_n 3, 1) := by decide +kernel
theorem dX1_total_4 : decode cX1_total 4 = .ok (.iload_n 3, 1) := by decide +kernel
theorem dX1_total_5 : decode cX1_total 5 = .ok (.sipush 128, 3) := by decide +kernel
theorem dX1_total_8 : decode cX1_total 8 = .ok (.if_icmp .ge 21, 3) := by decide +kernel
theorem dX1_total_11 : decode cX1_total 11 = .ok (.aload_n 0, 1) := by decide +kernel
theorem dX1_total_12 : decode cX1_total 12 = .ok (.iload_n 3, 1) := by decide +kernel
theorem dX1_total_13 : decode cX1_total 13 = .ok (.invokevirtual 34, 3) := by decide +kernel
theorem dX1_total_16 : decode cX1_total 16 = .ok (.lstore 4, 2) := by decide +kernel
theorem dX1_total_18 : decode cX1_total 18 = .ok (.lload_n 1, 1) := by decide +kernel
theorem dX1_total_19 : decode cX1_total 19 = .ok (.lload 4, 2) := by decide +kernel
theorem dX1_total_21 : decode cX1_total 21 = .ok (.ladd, 1) := by decide +kernel
theorem dX1_total_22 : decode cX1_total 22 = .ok (.lstore_n 1, 1) := by decide +kernel
theorem dX1_total_23 : decode cX1_total 23 = .ok (.iinc 3 1, 3) := by decide +kernel
theorem dX1_total_26 : decode cX1_total 26 = .ok (.goto (-22), 3) := by decide +kernel
theorem dX1_total_29 : decode cX1_total 29 = .ok (.lload_n 1, 1) := by decide +kernel
theorem dX1_total_30 : decode cX1_total 30 = .ok (.lreturn, 1) := by decide +kernel
theorem dX1_worth_0 : decode cX1_worth 0 = .ok (.aload_n 0, 1) := by decide +kernel
theorem dX1_worth_1 : decode cX1_worth 1 = .ok (.iload_n 1, 1) := by decide +kernel
theorem dX1_worth_2 : decode cX1_worth 2 = .ok (.invokevirtual 27, 3) := by decide +kernel
end
section
set_option maxRecDepth 100000
theorem dX1_worth_5 : decode cX1_worth 5 = .ok (.ifCond .ne 5, 3) := by decide +kernel
theorem dX1_worth_8 : decode cX1_worth 8 = .ok (.lconst 0, 1) := by decide +kernel
theorem dX1_worth_9 : decode cX1_worth 9 = .ok (.lreturn, 1) := by decide +kernel
theorem dX1_worth_10 : decode cX1_worth 10 = .ok (.lconst 1, 1) := by decide +kernel
theorem dX1_worth_11 : decode cX1_worth 11 = .ok (.lstore_n 2, 1) := by decide +kernel
theorem dX1_worth_12 : decode cX1_worth 12 = .ok (.iconst 0, 1) := by decide +kernel
theorem dX1_worth_13 : decode cX1_worth 13 = .ok (.istore 4, 2) := by decide +kernel
theorem dX1_worth_15 : decode cX1_worth 15 = .ok (.iload 4, 2) := by decide +kernel
theorem dX1_worth_17 : decode cX1_worth 17 = .ok (.aload_n 0, 1) := by decide +kernel
theorem dX1_worth_18 : decode cX1_worth 18 = .ok (.getfield 23, 3) := by decide +kernel
theorem dX1_worth_21 : decode cX1_worth 21 = .ok (.if_icmp .ge 88, 3) := by decide +kernel
theorem dX1_worth_24 : decode cX1_worth 24 = .ok (.aload_n 0, 1) := by decide +kernel
theorem dX1_worth_25 : decode cX1_worth 25 = .ok (.iload_n 1, 1) := by decide +kernel
theorem dX1_worth_26 : decode cX1_worth 26 = .ok (.aload_n 0, 1) := by decide +kernel
theorem dX1_worth_27 : decode cX1_worth 27 = .ok (.getfield 7, 3) := by decide +kernel
theorem dX1_worth_30 : decode cX1_worth 30 = .ok (.iload 4, 2) := by decide +kernel
theorem dX1_worth_32 : decode cX1_worth 32 = .ok (.iconst 3, 1) := by decide +kernel
theorem dX1_worth_33 : decode cX1_worth 33 = .ok (.imul, 1) := by decide +kernel
theorem dX1_worth_34 : decode cX1_worth 34 = .ok (.iaload, 1) := by decide +kernel
theorem dX1_worth_35 : decode cX1_worth 35 = .ok (.invokevirtual 30, 3) := by decide +kernel
theorem dX1_worth_38 : decode cX1_worth 38 = .ok (.istore 5, 2) := by decide +kernel
theorem dX1_worth_40 : decode cX1_worth 40 = .ok (.aload_n 0, 1) := by decide +kernel
theorem dX1_worth_41 : decode cX1_worth 41 = .ok (.iload_n 1, 1) := by decide +kernel
theorem dX1_worth_42 : decode cX1_worth 42 = .ok (.aload_n 0, 1) := by decide +kernel
theorem dX1_worth_43 : decode cX1_worth 43 = .ok (.getfield 7, 3) := by decide +kernel
theorem dX1_worth_46 : decode cX1_worth 46 = .ok (.iload 4, 2) := by decide +kernel
theorem dX1_worth_48 : decode cX1_worth 48 = .ok (.iconst 3, 1) := by decide +kernel
theorem dX1_worth_49 : decode cX1_worth 49 = .ok (.imul, 1) := by decide +kernel
theorem dX1_worth_50 : decode cX1_worth 50 = .ok (.iconst 1, 1) := by decide +kernel
theorem dX1_worth_51 : decode cX1_worth 51 = .ok (.iadd, 1) := by decide +kernel
theorem dX1_worth_52 : decode cX1_worth 52 = .ok (.iaload, 1) := by decide +kernel
theorem dX1_worth_53 : decode cX1_worth 53 = .ok (.invokevirtual 30, 3) := by decide +kernel
theorem dX1_worth_56 : decode cX1_worth 56 = .ok (.istore 6, 2) := by decide +kernel
theorem dX1_worth_58 : decode cX1_worth 58 = .ok (.aload_n 0, 1) := by decide +kernel
theorem dX1_worth_59 : decode cX1_worth 59 = .ok (.iload_n 1, 1) := by decide +kernel
theorem dX1_worth_60 : decode cX1_worth 60 = .ok (.aload_n 0, 1) := by decide +kernel
theorem dX1_worth_61 : decode cX1_worth 61 = .ok (.getfield 7, 3) := by decide +kernel
theorem dX1_worth_64 : decode cX1_worth 64 = .ok (.iload 4, 2) := by decide +kernel
theorem dX1_worth_66 : decode cX1_worth 66 = .ok (.iconst 3, 1) := by decide +kernel
theorem dX1_worth_67 : decode cX1_worth 67 = .ok (.imul, 1) := by decide +kernel
theorem dX1_worth_68 : decode cX1_worth 68 = .ok (.iconst 2, 1) := by decide +kernel
theorem dX1_worth_69 : decode cX1_worth 69 = .ok (.iadd, 1) := by decide +kernel
theorem dX1_worth_70 : decode cX1_worth 70 = .ok (.iaload, 1) := by decide +kernel
theorem dX1_worth_71 : decode cX1_worth 71 = .ok (.invokevirtual 30, 3) := by decide +kernel
theorem dX1_worth_74 : decode cX1_worth 74 = .ok (.istore 7, 2) := by decide +kernel
theorem dX1_worth_76 : decode cX1_worth 76 = .ok (.lload_n 2, 1) := by decide +kernel
theorem dX1_worth_77 : decode cX1_worth 77 = .ok (.aload_n 0, 1) := by decide +kernel
theorem dX1_worth_78 : decode cX1_worth 78 = .ok (.getfield 13, 3) := by decide +kernel
theorem dX1_worth_81 : decode cX1_worth 81 = .ok (.iload 4, 2) := by decide +kernel
theorem dX1_worth_83 : decode cX1_worth 83 = .ok (.bipush 8, 2) := by decide +kernel
theorem dX1_worth_85 : decode cX1_worth 85 = .ok (.imul, 1) := by decide +kernel
theorem dX1_worth_86 : decode cX1_worth 86 = .ok (.iload 5, 2) := by decide +kernel
theorem dX1_worth_88 : decode cX1_worth 88 = .ok (.iadd, 1) := by decide +kernel
theorem dX1_worth_89 : decode cX1_worth 89 = .ok (.iconst 2, 1) := by decide +kernel
theorem dX1_worth_90 : decode cX1_worth 90 = .ok (.iload 6, 2) := by decide +kernel
theorem dX1_worth_92 : decode cX1_worth 92 = .ok (.imul, 1) := by decide +kernel
theorem dX1_worth_93 : decode cX1_worth 93 = .ok (.iadd, 1) := by decide +kernel
theorem dX1_worth_94 : decode cX1_worth 94 = .ok (.iconst 4, 1) := by decide +kernel
theorem dX1_worth_95 : decode cX1_worth 95 = .ok (.iload 7, 2) := by decide +kernel
theorem dX1_worth_97 : decode cX1_worth 97 = .ok (.imul, 1) := by decide +kernel
theorem dX1_worth_98 : decode cX1_worth 98 = .ok (.iadd, 1) := by decide +kernel
theorem dX1_worth_99 : decode cX1_worth 99 = .ok (.iaload, 1) := by decide +kernel
theorem dX1_worth_100 : decode cX1_worth 100 = .ok (.i2l, 1) := by decide +kernel
theorem dX1_worth_101 : decode cX1_worth 101 = .ok (.lmul, 1) := by decide +kernel
theorem dX1_worth_102 : decode cX1_worth 102 = .ok (.lstore_n 2, 1) := by decide +kernel
theorem dX1_worth_103 : decode cX1_worth 103 = .ok (.iinc 4 1, 3) := by decide +kernel
theorem dX1_worth_106 : decode cX1_worth 106 = .ok (.goto (-91), 3) := by decide +kernel
theorem dX1_worth_109 : decode cX1_worth 109 = .ok (.lload_n 2, 1) := by decide +kernel
theorem dX1_worth_110 : decode cX1_worth 110 = .ok (.lreturn, 1) := by decide +kernel
theorem dX1_allowed_0 : decode cX1_allowed 0 = .ok (.iconst 0, 1) := by decide +kernel
theorem dX1_allowed_1 : decode cX1_allowed 1 = .ok (.istore_n 2, 1) := by decide +kernel
theorem dX1_allowed_2 : decode cX1_allowed 2 = .ok (.iload_n 2, 1) := by decide +kernel
theorem dX1_allowed_3 : decode cX1_allowed 3 = .ok (.bipush 7, 2) := by decide +kernel
theorem dX1_allowed_5 : decode cX1_allowed 5 = .ok (.if_icmp .ge 34, 3) := by decide +kernel
theorem dX1_allowed_8 : decode cX1_allowed 8 = .ok (.aload_n 0, 1) := by decide +kernel
theorem dX1_allowed_9 : decode cX1_allowed 9 = .ok (.getfield 16, 3) := by decide +kernel
theorem dX1_allowed_12 : decode cX1_allowed 12 = .ok (.iload_n 2, 1) := by decide +kernel
theorem dX1_allowed_13 : decode cX1_allowed 13 = .ok (.iaload, 1) := by decide +kernel
theorem dX1_allowed_14 : decode cX1_allowed 14 = .ok (.ifCond .lt 19, 3) := by decide +kernel
theorem dX1_allowed_17 : decode cX1_allowed 17 = .ok (.aload_n 0, 1) := by decide +kernel
theorem dX1_allowed_18 : decode cX1_allowed 18 = .ok (.getfield 16, 3) := by decide +kernel
theorem dX1_allowed_21 : decode cX1_allowed 21 = .ok (.iload_n 2, 1) := by decide +kernel
theorem dX1_allowed_22 : decode cX1_allowed 22 = .ok (.iaload, 1) := by decide +kernel
theorem dX1_allowed_23 : decode cX1_allowed 23 = .ok (.iload_n 1, 1) := by decide +kernel
theorem dX1_allowed_24 : decode cX1_allowed 24 = .ok (.iload_n 2, 1) := by decide +kernel
theorem dX1_allowed_25 : decode cX1_allowed 25 = .ok (.ishr, 1) := by decide +kernel
theorem dX1_allowed_26 : decode cX1_allowed 26 = .ok (.iconst 1, 1) := by decide +kernel
theorem dX1_allowed_27 : decode cX1_allowed 27 = .ok (.iand, 1) := by decide +kernel
theorem dX1_allowed_28 : decode cX1_allowed 28 = .ok (.if_icmp .eq 5, 3) := by decide +kernel
theorem dX1_allowed_31 : decode cX1_allowed 31 = .ok (.iconst 0, 1) := by decide +kernel
theorem dX1_allowed_32 : decode cX1_allowed 32 = .ok (.ireturn, 1) := by decide +kernel
theorem dX1_allowed_33 : decode cX1_allowed 33 = .ok (.iinc 2 1, 3) := by decide +kernel
theorem dX1_allowed_36 : decode cX1_allowed 36 = .ok (.goto (-34), 3) := by decide +kernel
theorem dX1_allowed_39 : decode cX1_allowed 39 = .ok (.iconst 1, 1) := by decide +kernel
theorem dX1_allowed_40 : decode cX1_allowed 40 = .ok (.ireturn, 1) := by decide +kernel
theorem dX1_value_0 : decode cX1_value 0 = .ok (.iload_n 2, 1) := by decide +kernel
theorem dX1_value_1 : decode cX1_value 1 = .ok (.ifCond .ge 7, 3) := by decide +kernel
theorem dX1_value_4 : decode cX1_value 4 = .ok (.iconst 0, 1) := by decide +kernel
theorem dX1_value_5 : decode cX1_value 5 = .ok (.goto 8, 3) := by decide +kernel
theorem dX1_value_8 : decode cX1_value 8 = .ok (.iload_n 1, 1) := by decide +kernel
theorem dX1_value_9 : decode cX1_value 9 = .ok (.iload_n 2, 1) := by decide +kernel
theorem dX1_value_10 : decode cX1_value 10 = .ok (.ishr, 1) := by decide +kernel
theorem dX1_value_11 : decode cX1_value 11 = .ok (.iconst 1, 1) := by decide +kernel
theorem dX1_value_12 : decode cX1_value 12 = .ok (.iand, 1) := by decide +kernel
theorem dX1_value_13 : decode cX1_value 13 = .ok (.ireturn, 1) := by decide +kernel
theorem dX1_share_0 : decode cX1_share 0 = .ok (.aload_n 0, 1) := by decide +kernel
theorem dX1_share_1 : decode cX1_share 1 = .ok (.iload_n 1, 1) := by decide +kernel
theorem dX1_share_2 : decode cX1_share 2 = .ok (.invokevirtual 19, 3) := by decide +kernel
theorem dX1_share_5 : decode cX1_share 5 = .ok (.ifCond .eq 7, 3) := by decide +kernel
theorem dX1_share_8 : decode cX1_share 8 = .ok (.lconst 0, 1) := by decide +kernel
theorem dX1_share_9 : decode cX1_share 9 = .ok (.goto 9, 3) := by decide +kernel
theorem dX1_share_12 : decode cX1_share 12 = .ok (.aload_n 0, 1) := by decide +kernel
theorem dX1_share_13 : decode cX1_share 13 = .ok (.iload_n 1, 1) := by decide +kernel
theorem dX1_share_14 : decode cX1_share 14 = .ok (.iload_n 1, 1) := by decide +kernel
theorem dX1_share_15 : decode cX1_share 15 = .ok (.invokevirtual 38, 3) := by decide +kernel
theorem dX1_share_18 : decode cX1_share 18 = .ok (.lreturn, 1) := by decide +kernel
theorem dX1_both_0 : decode cX1_both 0 = .ok (.lconst 0, 1) := by decide +kernel
theorem dX1_both_1 : decode cX1_both 1 = .ok (.lstore_n 3, 1) := by decide +kernel
theorem dX1_both_2 : decode cX1_both 2 = .ok (.iconst 0, 1) := by decide +kernel
theorem dX1_both_3 : decode cX1_both 3 = .ok (.istore 5, 2) := by decide +kernel
theorem dX1_both_5 : decode cX1_both 5 = .ok (.iload 5, 2) := by decide +kernel
theorem dX1_both_7 : decode cX1_both 7 = .ok (.sipush 128, 3) := by decide +kernel
theorem dX1_both_10 : decode cX1_both 10 = .ok (.if_icmp .ge 44, 3) := by decide +kernel
theorem dX1_both_13 : decode cX1_both 13 = .ok (.aload_n 0, 1) := by decide +kernel
theorem dX1_both_14 : decode cX1_both 14 = .ok (.iload 5, 2) := by decide +kernel
theorem dX1_both_16 : decode cX1_both 16 = .ok (.iload_n 1, 1) := by decide +kernel
theorem dX1_both_17 : decode cX1_both 17 = .ok (.invokevirtual 30, 3) := by decide +kernel
theorem dX1_both_20 : decode cX1_both 20 = .ok (.iconst 1, 1) := by decide +kernel
theorem dX1_both_21 : decode cX1_both 21 = .ok (.if_icmp .ne 27, 3) := by decide +kernel
theorem dX1_both_24 : decode cX1_both 24 = .ok (.aload_n 0, 1) := by decide +kernel
theorem dX1_both_25 : decode cX1_both 25 = .ok (.iload 5, 2) := by decide +kernel
theorem dX1_both_27 : decode cX1_both 27 = .ok (.iload_n 2, 1) := by decide +kernel
theorem dX1_both_28 : decode cX1_both 28 = .ok (.invokevirtual 30, 3) := by decide +kernel
theorem dX1_both_31 : decode cX1_both 31 = .ok (.iconst 1, 1) := by decide +kernel
theorem dX1_both_32 : decode cX1_both 32 = .ok (.if_icmp .ne 16, 3) := by decide +kernel
theorem dX1_both_35 : decode cX1_both 35 = .ok (.aload_n 0, 1) := by decide +kernel
theorem dX1_both_36 : decode cX1_both 36 = .ok (.iload 5, 2) := by decide +kernel
theorem dX1_both_38 : decode cX1_both 38 = .ok (.invokevirtual 34, 3) := by decide +kernel
theorem dX1_both_41 : decode cX1_both 41 = .ok (.lstore 6, 2) := by decide +kernel
theorem dX1_both_43 : decode cX1_both 43 = .ok (.lload_n 3, 1) := by decide +kernel
theorem dX1_both_44 : decode cX1_both 44 = .ok (.lload 6, 2) := by decide +kernel
theorem dX1_both_46 : decode cX1_both 46 = .ok (.ladd, 1) := by decide +kernel
theorem dX1_both_47 : decode cX1_both 47 = .ok (.lstore_n 3, 1) := by decide +kernel
theorem dX1_both_48 : decode cX1_both 48 = .ok (.iinc 5 1, 3) := by decide +kernel
theorem dX1_both_51 : decode cX1_both 51 = .ok (.goto (-46), 3) := by decide +kernel
theorem dX1_both_54 : decode cX1_both 54 = .ok (.lload_n 3, 1) := by decide +kernel
theorem dX1_both_55 : decode cX1_both 55 = .ok (.lreturn, 1) := by decide +kernel
theorem dX1_alike_0 : decode cX1_alike 0 = .ok (.lconst 0, 1) := by decide +kernel
theorem dX1_alike_1 : decode cX1_alike 1 = .ok (.lstore_n 3, 1) := by decide +kernel
theorem dX1_alike_2 : decode cX1_alike 2 = .ok (.iconst 0, 1) := by decide +kernel
theorem dX1_alike_3 : decode cX1_alike 3 = .ok (.istore 5, 2) := by decide +kernel
theorem dX1_alike_5 : decode cX1_alike 5 = .ok (.iload 5, 2) := by decide +kernel
theorem dX1_alike_7 : decode cX1_alike 7 = .ok (.sipush 128, 3) := by decide +kernel
theorem dX1_alike_10 : decode cX1_alike 10 = .ok (.if_icmp .ge 55, 3) := by decide +kernel
theorem dX1_alike_13 : decode cX1_alike 13 = .ok (.aload_n 0, 1) := by decide +kernel
theorem dX1_alike_14 : decode cX1_alike 14 = .ok (.iload_n 1, 1) := by decide +kernel
theorem dX1_alike_15 : decode cX1_alike 15 = .ok (.invokevirtual 19, 3) := by decide +kernel
theorem dX1_alike_18 : decode cX1_alike 18 = .ok (.ifCond .ne 41, 3) := by decide +kernel
theorem dX1_alike_21 : decode cX1_alike 21 = .ok (.aload_n 0, 1) := by decide +kernel
theorem dX1_alike_22 : decode cX1_alike 22 = .ok (.iload_n 2, 1) := by decide +kernel
theorem dX1_alike_23 : decode cX1_alike 23 = .ok (.invokevirtual 19, 3) := by decide +kernel
theorem dX1_alike_26 : decode cX1_alike 26 = .ok (.ifCond .ne 33, 3) := by decide +kernel
theorem dX1_alike_29 : decode cX1_alike 29 = .ok (.aload_n 0, 1) := by decide +kernel
theorem dX1_alike_30 : decode cX1_alike 30 = .ok (.iload 5, 2) := by decide +kernel
theorem dX1_alike_32 : decode cX1_alike 32 = .ok (.iload_n 1, 1) := by decide +kernel
theorem dX1_alike_33 : decode cX1_alike 33 = .ok (.invokevirtual 30, 3) := by decide +kernel
theorem dX1_alike_36 : decode cX1_alike 36 = .ok (.aload_n 0, 1) := by decide +kernel
theorem dX1_alike_37 : decode cX1_alike 37 = .ok (.iload 5, 2) := by decide +kernel
theorem dX1_alike_39 : decode cX1_alike 39 = .ok (.iload_n 2, 1) := by decide +kernel
theorem dX1_alike_40 : decode cX1_alike 40 = .ok (.invokevirtual 30, 3) := by decide +kernel
theorem dX1_alike_43 : decode cX1_alike 43 = .ok (.if_icmp .ne 16, 3) := by decide +kernel
theorem dX1_alike_46 : decode cX1_alike 46 = .ok (.aload_n 0, 1) := by decide +kernel
theorem dX1_alike_47 : decode cX1_alike 47 = .ok (.iload 5, 2) := by decide +kernel
theorem dX1_alike_49 : decode cX1_alike 49 = .ok (.invokevirtual 34, 3) := by decide +kernel
theorem dX1_alike_52 : decode cX1_alike 52 = .ok (.lstore 6, 2) := by decide +kernel
theorem dX1_alike_54 : decode cX1_alike 54 = .ok (.lload_n 3, 1) := by decide +kernel
theorem dX1_alike_55 : decode cX1_alike 55 = .ok (.lload 6, 2) := by decide +kernel
theorem dX1_alike_57 : decode cX1_alike 57 = .ok (.ladd, 1) := by decide +kernel
theorem dX1_alike_58 : decode cX1_alike 58 = .ok (.lstore_n 3, 1) := by decide +kernel
theorem dX1_alike_59 : decode cX1_alike 59 = .ok (.iinc 5 1, 3) := by decide +kernel
theorem dX1_alike_62 : decode cX1_alike 62 = .ok (.goto (-57), 3) := by decide +kernel
theorem dX1_alike_65 : decode cX1_alike 65 = .ok (.lload_n 3, 1) := by decide +kernel
theorem dX1_alike_66 : decode cX1_alike 66 = .ok (.lreturn, 1) := by decide +kernel
theorem dX1_best_0 : decode cX1_best 0 = .ok (.lconst 0, 1) := by decide +kernel
theorem dX1_best_1 : decode cX1_best 1 = .ok (.lstore_n 1, 1) := by decide +kernel
theorem dX1_best_2 : decode cX1_best 2 = .ok (.iconst 0, 1) := by decide +kernel
theorem dX1_best_3 : decode cX1_best 3 = .ok (.istore_n 3, 1) := by decide +kernel
theorem dX1_best_4 : decode cX1_best 4 = .ok (.iload_n 3, 1) := by decide +kernel
theorem dX1_best_5 : decode cX1_best 5 = .ok (.sipush 128, 3) := by decide +kernel
theorem dX1_best_8 : decode cX1_best 8 = .ok (.if_icmp .ge 26, 3) := by decide +kernel
theorem dX1_best_11 : decode cX1_best 11 = .ok (.aload_n 0, 1) := by decide +kernel
theorem dX1_best_12 : decode cX1_best 12 = .ok (.iload_n 3, 1) := by decide +kernel
theorem dX1_best_13 : decode cX1_best 13 = .ok (.invokevirtual 34, 3) := by decide +kernel
theorem dX1_best_16 : decode cX1_best 16 = .ok (.lstore 4, 2) := by decide +kernel
theorem dX1_best_18 : decode cX1_best 18 = .ok (.lload 4, 2) := by decide +kernel
theorem dX1_best_20 : decode cX1_best 20 = .ok (.lload_n 1, 1) := by decide +kernel
theorem dX1_best_21 : decode cX1_best 21 = .ok (.lcmp, 1) := by decide +kernel
theorem dX1_best_22 : decode cX1_best 22 = .ok (.ifCond .le 6, 3) := by decide +kernel
theorem dX1_best_25 : decode cX1_best 25 = .ok (.lload 4, 2) := by decide +kernel
theorem dX1_best_27 : decode cX1_best 27 = .ok (.lstore_n 1, 1) := by decide +kernel
theorem dX1_best_28 : decode cX1_best 28 = .ok (.iinc 3 1, 3) := by decide +kernel
theorem dX1_best_31 : decode cX1_best 31 = .ok (.goto (-27), 3) := by decide +kernel
theorem dX1_best_34 : decode cX1_best 34 = .ok (.lload_n 1, 1) := by decide +kernel
theorem dX1_best_35 : decode cX1_best 35 = .ok (.lreturn, 1) := by decide +kernel
theorem dX1_bestAssignment_0 : decode cX1_bestAssignment 0 = .ok (.aload_n 0, 1) := by decide +kernel
theorem dX1_bestAssignment_1 : decode cX1_bestAssignment 1 = .ok (.invokevirtual 42, 3) := by decide +kernel
theorem dX1_bestAssignment_4 : decode cX1_bestAssignment 4 = .ok (.lstore_n 1, 1) := by decide +kernel
theorem dX1_bestAssignment_5 : decode cX1_bestAssignment 5 = .ok (.iconst 0, 1) := by decide +kernel
theorem dX1_bestAssignment_6 : decode cX1_bestAssignment 6 = .ok (.istore_n 3, 1) := by decide +kernel
theorem dX1_bestAssignment_7 : decode cX1_bestAssignment 7 = .ok (.iload_n 3, 1) := by decide +kernel
theorem dX1_bestAssignment_8 : decode cX1_bestAssignment 8 = .ok (.sipush 128, 3) := by decide +kernel
theorem dX1_bestAssignment_11 : decode cX1_bestAssignment 11 = .ok (.if_icmp .ge 29, 3) := by decide +kernel
theorem dX1_bestAssignment_14 : decode cX1_bestAssignment 14 = .ok (.aload_n 0, 1) := by decide +kernel
theorem dX1_bestAssignment_15 : decode cX1_bestAssignment 15 = .ok (.iload_n 3, 1) := by decide +kernel
theorem dX1_bestAssignment_16 : decode cX1_bestAssignment 16 = .ok (.invokevirtual 27, 3) := by decide +kernel
theorem dX1_bestAssignment_19 : decode cX1_bestAssignment 19 = .ok (.ifCond .eq 15, 3) := by decide +kernel
theorem dX1_bestAssignment_22 : decode cX1_bestAssignment 22 = .ok (.aload_n 0, 1) := by decide +kernel
theorem dX1_bestAssignment_23 : decode cX1_bestAssignment 23 = .ok (.iload_n 3, 1) := by decide +kernel
theorem dX1_bestAssignment_24 : decode cX1_bestAssignment 24 = .ok (.invokevirtual 34, 3) := by decide +kernel
theorem dX1_bestAssignment_27 : decode cX1_bestAssignment 27 = .ok (.lload_n 1, 1) := by decide +kernel
theorem dX1_bestAssignment_28 : decode cX1_bestAssignment 28 = .ok (.lcmp, 1) := by decide +kernel
theorem dX1_bestAssignment_29 : decode cX1_bestAssignment 29 = .ok (.ifCond .ne 5, 3) := by decide +kernel
theorem dX1_bestAssignment_32 : decode cX1_bestAssignment 32 = .ok (.iload_n 3, 1) := by decide +kernel
theorem dX1_bestAssignment_33 : decode cX1_bestAssignment 33 = .ok (.ireturn, 1) := by decide +kernel
theorem dX1_bestAssignment_34 : decode cX1_bestAssignment 34 = .ok (.iinc 3 1, 3) := by decide +kernel
theorem dX1_bestAssignment_37 : decode cX1_bestAssignment 37 = .ok (.goto (-30), 3) := by decide +kernel
theorem dX1_bestAssignment_40 : decode cX1_bestAssignment 40 = .ok (.iconst 0, 1) := by decide +kernel
theorem dX1_bestAssignment_41 : decode cX1_bestAssignment 41 = .ok (.ireturn, 1) := by decide +kernel
theorem dX1_possible_0 : decode cX1_possible 0 = .ok (.iconst 0, 1) := by decide +kernel
theorem dX1_possible_1 : decode cX1_possible 1 = .ok (.istore_n 1, 1) := by decide +kernel
theorem dX1_possible_2 : decode cX1_possible 2 = .ok (.iconst 0, 1) := by decide +kernel
theorem dX1_possible_3 : decode cX1_possible 3 = .ok (.istore_n 2, 1) := by decide +kernel
theorem dX1_possible_4 : decode cX1_possible 4 = .ok (.iload_n 2, 1) := by decide +kernel
theorem dX1_possible_5 : decode cX1_possible 5 = .ok (.sipush 128, 3) := by decide +kernel
theorem dX1_possible_8 : decode cX1_possible 8 = .ok (.if_icmp .ge 22, 3) := by decide +kernel
theorem dX1_possible_11 : decode cX1_possible 11 = .ok (.aload_n 0, 1) := by decide +kernel
theorem dX1_possible_12 : decode cX1_possible 12 = .ok (.iload_n 2, 1) := by decide +kernel
theorem dX1_possible_13 : decode cX1_possible 13 = .ok (.invokevirtual 34, 3) := by decide +kernel
theorem dX1_possible_16 : decode cX1_possible 16 = .ok (.lconst 0, 1) := by decide +kernel
theorem dX1_possible_17 : decode cX1_possible 17 = .ok (.lcmp, 1) := by decide +kernel
theorem dX1_possible_18 : decode cX1_possible 18 = .ok (.ifCond .le 6, 3) := by decide +kernel
theorem dX1_possible_21 : decode cX1_possible 21 = .ok (.iinc 1 1, 3) := by decide +kernel
theorem dX1_possible_24 : decode cX1_possible 24 = .ok (.iinc 2 1, 3) := by decide +kernel
theorem dX1_possible_27 : decode cX1_possible 27 = .ok (.goto (-23), 3) := by decide +kernel
theorem dX1_possible_30 : decode cX1_possible 30 = .ok (.iload_n 1, 1) := by decide +kernel
theorem dX1_possible_31 : decode cX1_possible 31 = .ok (.ireturn, 1) := by decide +kernel
theorem dX1_independent_0 : decode cX1_independent 0 = .ok (.aload_n 0, 1) := by decide +kernel
theorem dX1_independent_1 : decode cX1_independent 1 = .ok (.iload_n 1, 1) := by decide +kernel
theorem dX1_independent_2 : decode cX1_independent 2 = .ok (.invokevirtual 19, 3) := by decide +kernel
theorem dX1_independent_5 : decode cX1_independent 5 = .ok (.ifCond .ne 11, 3) := by decide +kernel
theorem dX1_independent_8 : decode cX1_independent 8 = .ok (.aload_n 0, 1) := by decide +kernel
theorem dX1_independent_9 : decode cX1_independent 9 = .ok (.iload_n 2, 1) := by decide +kernel
theorem dX1_independent_10 : decode cX1_independent 10 = .ok (.invokevirtual 19, 3) := by decide +kernel
theorem dX1_independent_13 : decode cX1_independent 13 = .ok (.ifCond .eq 5, 3) := by decide +kernel
theorem dX1_independent_16 : decode cX1_independent 16 = .ok (.iconst 1, 1) := by decide +kernel
theorem dX1_independent_17 : decode cX1_independent 17 = .ok (.ireturn, 1) := by decide +kernel
theorem dX1_independent_18 : decode cX1_independent 18 = .ok (.aload_n 0, 1) := by decide +kernel
theorem dX1_independent_19 : decode cX1_independent 19 = .ok (.invokevirtual 46, 3) := by decide +kernel
theorem dX1_independent_22 : decode cX1_independent 22 = .ok (.aload_n 0, 1) := by decide +kernel
theorem dX1_independent_23 : decode cX1_independent 23 = .ok (.iload_n 1, 1) := by decide +kernel
theorem dX1_independent_24 : decode cX1_independent 24 = .ok (.iload_n 2, 1) := by decide +kernel
theorem dX1_independent_25 : decode cX1_independent 25 = .ok (.invokevirtual 38, 3) := by decide +kernel
theorem dX1_independent_28 : decode cX1_independent 28 = .ok (.lmul, 1) := by decide +kernel
theorem dX1_independent_29 : decode cX1_independent 29 = .ok (.aload_n 0, 1) := by decide +kernel
theorem dX1_independent_30 : decode cX1_independent 30 = .ok (.iload_n 1, 1) := by decide +kernel
theorem dX1_independent_31 : decode cX1_independent 31 = .ok (.invokevirtual 49, 3) := by decide +kernel
theorem dX1_independent_34 : decode cX1_independent 34 = .ok (.aload_n 0, 1) := by decide +kernel
theorem dX1_independent_35 : decode cX1_independent 35 = .ok (.iload_n 2, 1) := by decide +kernel
theorem dX1_independent_36 : decode cX1_independent 36 = .ok (.invokevirtual 49, 3) := by decide +kernel
theorem dX1_independent_39 : decode cX1_independent 39 = .ok (.lmul, 1) := by decide +kernel
theorem dX1_independent_40 : decode cX1_independent 40 = .ok (.lcmp, 1) := by decide +kernel
theorem dX1_independent_41 : decode cX1_independent 41 = .ok (.ifCond .ne 7, 3) := by decide +kernel
theorem dX1_independent_44 : decode cX1_independent 44 = .ok (.iconst 1, 1) := by decide +kernel
theorem dX1_independent_45 : decode cX1_independent 45 = .ok (.goto 4, 3) := by decide +kernel
theorem dX1_independent_48 : decode cX1_independent 48 = .ok (.iconst 0, 1) := by decide +kernel
theorem dX1_independent_49 : decode cX1_independent 49 = .ok (.ireturn, 1) := by decide +kernel
theorem dJ0_init_0 : decode cJ0_init 0 = .ok (.return_, 1) := by decide +kernel
theorem dL_law_0 : decode cL_law 0 = .ok (.new 7, 3) := by decide +kernel
theorem dL_law_3 : decode cL_law 3 = .ok (.dup, 1) := by decide +kernel
theorem dL_law_4 : decode cL_law 4 = .ok (.invokespecial 9, 3) := by decide +kernel
theorem dL_law_7 : decode cL_law 7 = .ok (.astore_n 1, 1) := by decide +kernel
theorem dL_law_8 : decode cL_law 8 = .ok (.new 10, 3) := by decide +kernel
theorem dL_law_11 : decode cL_law 11 = .ok (.dup, 1) := by decide +kernel
theorem dL_law_12 : decode cL_law 12 = .ok (.invokespecial 12, 3) := by decide +kernel
theorem dL_law_15 : decode cL_law 15 = .ok (.astore_n 2, 1) := by decide +kernel
theorem dL_law_16 : decode cL_law 16 = .ok (.iconst 0, 1) := by decide +kernel
theorem dL_law_17 : decode cL_law 17 = .ok (.istore_n 3, 1) := by decide +kernel
theorem dL_law_18 : decode cL_law 18 = .ok (.iload_n 3, 1) := by decide +kernel
theorem dL_law_19 : decode cL_law 19 = .ok (.aload_n 0, 1) := by decide +kernel
theorem dL_law_20 : decode cL_law 20 = .ok (.arraylength, 1) := by decide +kernel
theorem dL_law_21 : decode cL_law 21 = .ok (.iconst 4, 1) := by decide +kernel
theorem dL_law_22 : decode cL_law 22 = .ok (.isub, 1) := by decide +kernel
theorem dL_law_23 : decode cL_law 23 = .ok (.if_icmp .gt 352, 3) := by decide +kernel
theorem dL_law_26 : decode cL_law 26 = .ok (.aload_n 0, 1) := by decide +kernel
theorem dL_law_27 : decode cL_law 27 = .ok (.iload_n 3, 1) := by decide +kernel
theorem dL_law_28 : decode cL_law 28 = .ok (.iaload, 1) := by decide +kernel
theorem dL_law_29 : decode cL_law 29 = .ok (.bipush 15, 2) := by decide +kernel
theorem dL_law_31 : decode cL_law 31 = .ok (.iand, 1) := by decide +kernel
theorem dL_law_32 : decode cL_law 32 = .ok (.tableswitch 337 0 10 #[60, 103, 146, 179, 192, 206, 230, 264, 278, 291, 304], 60) := by decide +kernel
theorem dL_law_92 : decode cL_law 92 = .ok (.aload_n 1, 1) := by decide +kernel
end
section
set_option maxRecDepth 100000
theorem dL_law_93 : decode cL_law 93 = .ok (.aload_n 0, 1) := by decide +kernel
theorem dL_law_94 : decode cL_law 94 = .ok (.iload_n 3, 1) := by decide +kernel
theorem dL_law_95 : decode cL_law 95 = .ok (.iconst 1, 1) := by decide +kernel
theorem dL_law_96 : decode cL_law 96 = .ok (.iadd, 1) := by decide +kernel
theorem dL_law_97 : decode cL_law 97 = .ok (.iaload, 1) := by decide +kernel
theorem dL_law_98 : decode cL_law 98 = .ok (.aload_n 0, 1) := by decide +kernel
theorem dL_law_99 : decode cL_law 99 = .ok (.iload_n 3, 1) := by decide +kernel
theorem dL_law_100 : decode cL_law 100 = .ok (.iconst 2, 1) := by decide +kernel
theorem dL_law_101 : decode cL_law 101 = .ok (.iadd, 1) := by decide +kernel
theorem dL_law_102 : decode cL_law 102 = .ok (.iaload, 1) := by decide +kernel
theorem dL_law_103 : decode cL_law 103 = .ok (.aload_n 0, 1) := by decide +kernel
theorem dL_law_104 : decode cL_law 104 = .ok (.iload_n 3, 1) := by decide +kernel
theorem dL_law_105 : decode cL_law 105 = .ok (.iconst 3, 1) := by decide +kernel
theorem dL_law_106 : decode cL_law 106 = .ok (.iadd, 1) := by decide +kernel
theorem dL_law_107 : decode cL_law 107 = .ok (.iaload, 1) := by decide +kernel
theorem dL_law_108 : decode cL_law 108 = .ok (.invokevirtual 13, 3) := by decide +kernel
theorem dL_law_111 : decode cL_law 111 = .ok (.aload_n 2, 1) := by decide +kernel
theorem dL_law_112 : decode cL_law 112 = .ok (.aload_n 0, 1) := by decide +kernel
theorem dL_law_113 : decode cL_law 113 = .ok (.iload_n 3, 1) := by decide +kernel
theorem dL_law_114 : decode cL_law 114 = .ok (.iconst 1, 1) := by decide +kernel
theorem dL_law_115 : decode cL_law 115 = .ok (.iadd, 1) := by decide +kernel
theorem dL_law_116 : decode cL_law 116 = .ok (.iaload, 1) := by decide +kernel
theorem dL_law_117 : decode cL_law 117 = .ok (.aload_n 0, 1) := by decide +kernel
theorem dL_law_118 : decode cL_law 118 = .ok (.iload_n 3, 1) := by decide +kernel
theorem dL_law_119 : decode cL_law 119 = .ok (.iconst 2, 1) := by decide +kernel
theorem dL_law_120 : decode cL_law 120 = .ok (.iadd, 1) := by decide +kernel
theorem dL_law_121 : decode cL_law 121 = .ok (.iaload, 1) := by decide +kernel
theorem dL_law_122 : decode cL_law 122 = .ok (.aload_n 0, 1) := by decide +kernel
theorem dL_law_123 : decode cL_law 123 = .ok (.iload_n 3, 1) := by decide +kernel
theorem dL_law_124 : decode cL_law 124 = .ok (.iconst 3, 1) := by decide +kernel
theorem dL_law_125 : decode cL_law 125 = .ok (.iadd, 1) := by decide +kernel
theorem dL_law_126 : decode cL_law 126 = .ok (.iaload, 1) := by decide +kernel
theorem dL_law_127 : decode cL_law 127 = .ok (.invokevirtual 17, 3) := by decide +kernel
theorem dL_law_130 : decode cL_law 130 = .ok (.if_icmp .eq 239, 3) := by decide +kernel
theorem dL_law_133 : decode cL_law 133 = .ok (.iconst 0, 1) := by decide +kernel
theorem dL_law_134 : decode cL_law 134 = .ok (.ireturn, 1) := by decide +kernel
theorem dL_law_135 : decode cL_law 135 = .ok (.aload_n 1, 1) := by decide +kernel
theorem dL_law_136 : decode cL_law 136 = .ok (.aload_n 0, 1) := by decide +kernel
theorem dL_law_137 : decode cL_law 137 = .ok (.iload_n 3, 1) := by decide +kernel
theorem dL_law_138 : decode cL_law 138 = .ok (.iconst 1, 1) := by decide +kernel
theorem dL_law_139 : decode cL_law 139 = .ok (.iadd, 1) := by decide +kernel
theorem dL_law_140 : decode cL_law 140 = .ok (.iaload, 1) := by decide +kernel
theorem dL_law_141 : decode cL_law 141 = .ok (.aload_n 0, 1) := by decide +kernel
theorem dL_law_142 : decode cL_law 142 = .ok (.iload_n 3, 1) := by decide +kernel
theorem dL_law_143 : decode cL_law 143 = .ok (.iconst 2, 1) := by decide +kernel
theorem dL_law_144 : decode cL_law 144 = .ok (.iadd, 1) := by decide +kernel
theorem dL_law_145 : decode cL_law 145 = .ok (.iaload, 1) := by decide +kernel
theorem dL_law_146 : decode cL_law 146 = .ok (.aload_n 0, 1) := by decide +kernel
theorem dL_law_147 : decode cL_law 147 = .ok (.iload_n 3, 1) := by decide +kernel
theorem dL_law_148 : decode cL_law 148 = .ok (.iconst 3, 1) := by decide +kernel
theorem dL_law_149 : decode cL_law 149 = .ok (.iadd, 1) := by decide +kernel
theorem dL_law_150 : decode cL_law 150 = .ok (.iaload, 1) := by decide +kernel
theorem dL_law_151 : decode cL_law 151 = .ok (.invokevirtual 18, 3) := by decide +kernel
theorem dL_law_154 : decode cL_law 154 = .ok (.aload_n 2, 1) := by decide +kernel
theorem dL_law_155 : decode cL_law 155 = .ok (.aload_n 0, 1) := by decide +kernel
theorem dL_law_156 : decode cL_law 156 = .ok (.iload_n 3, 1) := by decide +kernel
theorem dL_law_157 : decode cL_law 157 = .ok (.iconst 1, 1) := by decide +kernel
theorem dL_law_158 : decode cL_law 158 = .ok (.iadd, 1) := by decide +kernel
theorem dL_law_159 : decode cL_law 159 = .ok (.iaload, 1) := by decide +kernel
theorem dL_law_160 : decode cL_law 160 = .ok (.aload_n 0, 1) := by decide +kernel
theorem dL_law_161 : decode cL_law 161 = .ok (.iload_n 3, 1) := by decide +kernel
theorem dL_law_162 : decode cL_law 162 = .ok (.iconst 2, 1) := by decide +kernel
theorem dL_law_163 : decode cL_law 163 = .ok (.iadd, 1) := by decide +kernel
theorem dL_law_164 : decode cL_law 164 = .ok (.iaload, 1) := by decide +kernel
theorem dL_law_165 : decode cL_law 165 = .ok (.aload_n 0, 1) := by decide +kernel
theorem dL_law_166 : decode cL_law 166 = .ok (.iload_n 3, 1) := by decide +kernel
theorem dL_law_167 : decode cL_law 167 = .ok (.iconst 3, 1) := by decide +kernel
theorem dL_law_168 : decode cL_law 168 = .ok (.iadd, 1) := by decide +kernel
theorem dL_law_169 : decode cL_law 169 = .ok (.iaload, 1) := by decide +kernel
theorem dL_law_170 : decode cL_law 170 = .ok (.invokevirtual 21, 3) := by decide +kernel
theorem dL_law_173 : decode cL_law 173 = .ok (.if_icmp .eq 196, 3) := by decide +kernel
theorem dL_law_176 : decode cL_law 176 = .ok (.iconst 0, 1) := by decide +kernel
theorem dL_law_177 : decode cL_law 177 = .ok (.ireturn, 1) := by decide +kernel
theorem dL_law_178 : decode cL_law 178 = .ok (.aload_n 1, 1) := by decide +kernel
theorem dL_law_179 : decode cL_law 179 = .ok (.aload_n 0, 1) := by decide +kernel
theorem dL_law_180 : decode cL_law 180 = .ok (.iload_n 3, 1) := by decide +kernel
theorem dL_law_181 : decode cL_law 181 = .ok (.iconst 1, 1) := by decide +kernel
theorem dL_law_182 : decode cL_law 182 = .ok (.iadd, 1) := by decide +kernel
theorem dL_law_183 : decode cL_law 183 = .ok (.iaload, 1) := by decide +kernel
theorem dL_law_184 : decode cL_law 184 = .ok (.aload_n 0, 1) := by decide +kernel
theorem dL_law_185 : decode cL_law 185 = .ok (.iload_n 3, 1) := by decide +kernel
theorem dL_law_186 : decode cL_law 186 = .ok (.iconst 2, 1) := by decide +kernel
theorem dL_law_187 : decode cL_law 187 = .ok (.iadd, 1) := by decide +kernel
theorem dL_law_188 : decode cL_law 188 = .ok (.iaload, 1) := by decide +kernel
theorem dL_law_189 : decode cL_law 189 = .ok (.invokevirtual 22, 3) := by decide +kernel
theorem dL_law_192 : decode cL_law 192 = .ok (.aload_n 2, 1) := by decide +kernel
theorem dL_law_193 : decode cL_law 193 = .ok (.aload_n 0, 1) := by decide +kernel
theorem dL_law_194 : decode cL_law 194 = .ok (.iload_n 3, 1) := by decide +kernel
theorem dL_law_195 : decode cL_law 195 = .ok (.iconst 1, 1) := by decide +kernel
theorem dL_law_196 : decode cL_law 196 = .ok (.iadd, 1) := by decide +kernel
theorem dL_law_197 : decode cL_law 197 = .ok (.iaload, 1) := by decide +kernel
theorem dL_law_198 : decode cL_law 198 = .ok (.aload_n 0, 1) := by decide +kernel
theorem dL_law_199 : decode cL_law 199 = .ok (.iload_n 3, 1) := by decide +kernel
theorem dL_law_200 : decode cL_law 200 = .ok (.iconst 2, 1) := by decide +kernel
theorem dL_law_201 : decode cL_law 201 = .ok (.iadd, 1) := by decide +kernel
theorem dL_law_202 : decode cL_law 202 = .ok (.iaload, 1) := by decide +kernel
theorem dL_law_203 : decode cL_law 203 = .ok (.invokevirtual 26, 3) := by decide +kernel
theorem dL_law_206 : decode cL_law 206 = .ok (.if_icmp .eq 163, 3) := by decide +kernel
theorem dL_law_209 : decode cL_law 209 = .ok (.iconst 0, 1) := by decide +kernel
theorem dL_law_210 : decode cL_law 210 = .ok (.ireturn, 1) := by decide +kernel
theorem dL_law_211 : decode cL_law 211 = .ok (.aload_n 1, 1) := by decide +kernel
theorem dL_law_212 : decode cL_law 212 = .ok (.invokevirtual 27, 3) := by decide +kernel
theorem dL_law_215 : decode cL_law 215 = .ok (.aload_n 2, 1) := by decide +kernel
theorem dL_law_216 : decode cL_law 216 = .ok (.invokevirtual 31, 3) := by decide +kernel
theorem dL_law_219 : decode cL_law 219 = .ok (.if_icmp .eq 150, 3) := by decide +kernel
theorem dL_law_222 : decode cL_law 222 = .ok (.iconst 0, 1) := by decide +kernel
theorem dL_law_223 : decode cL_law 223 = .ok (.ireturn, 1) := by decide +kernel
theorem dL_law_224 : decode cL_law 224 = .ok (.aload_n 1, 1) := by decide +kernel
theorem dL_law_225 : decode cL_law 225 = .ok (.invokevirtual 32, 3) := by decide +kernel
theorem dL_law_228 : decode cL_law 228 = .ok (.aload_n 2, 1) := by decide +kernel
theorem dL_law_229 : decode cL_law 229 = .ok (.invokevirtual 36, 3) := by decide +kernel
theorem dL_law_232 : decode cL_law 232 = .ok (.lcmp, 1) := by decide +kernel
theorem dL_law_233 : decode cL_law 233 = .ok (.ifCond .eq 136, 3) := by decide +kernel
theorem dL_law_236 : decode cL_law 236 = .ok (.iconst 0, 1) := by decide +kernel
theorem dL_law_237 : decode cL_law 237 = .ok (.ireturn, 1) := by decide +kernel
theorem dL_law_238 : decode cL_law 238 = .ok (.aload_n 1, 1) := by decide +kernel
theorem dL_law_239 : decode cL_law 239 = .ok (.aload_n 0, 1) := by decide +kernel
theorem dL_law_240 : decode cL_law 240 = .ok (.iload_n 3, 1) := by decide +kernel
theorem dL_law_241 : decode cL_law 241 = .ok (.iconst 1, 1) := by decide +kernel
theorem dL_law_242 : decode cL_law 242 = .ok (.iadd, 1) := by decide +kernel
theorem dL_law_243 : decode cL_law 243 = .ok (.iaload, 1) := by decide +kernel
theorem dL_law_244 : decode cL_law 244 = .ok (.invokevirtual 37, 3) := by decide +kernel
theorem dL_law_247 : decode cL_law 247 = .ok (.aload_n 2, 1) := by decide +kernel
theorem dL_law_248 : decode cL_law 248 = .ok (.aload_n 0, 1) := by decide +kernel
theorem dL_law_249 : decode cL_law 249 = .ok (.iload_n 3, 1) := by decide +kernel
theorem dL_law_250 : decode cL_law 250 = .ok (.iconst 1, 1) := by decide +kernel
theorem dL_law_251 : decode cL_law 251 = .ok (.iadd, 1) := by decide +kernel
theorem dL_law_252 : decode cL_law 252 = .ok (.iaload, 1) := by decide +kernel
theorem dL_law_253 : decode cL_law 253 = .ok (.invokevirtual 41, 3) := by decide +kernel
theorem dL_law_256 : decode cL_law 256 = .ok (.lcmp, 1) := by decide +kernel
theorem dL_law_257 : decode cL_law 257 = .ok (.ifCond .eq 112, 3) := by decide +kernel
theorem dL_law_260 : decode cL_law 260 = .ok (.iconst 0, 1) := by decide +kernel
theorem dL_law_261 : decode cL_law 261 = .ok (.ireturn, 1) := by decide +kernel
theorem dL_law_262 : decode cL_law 262 = .ok (.aload_n 1, 1) := by decide +kernel
theorem dL_law_263 : decode cL_law 263 = .ok (.aload_n 0, 1) := by decide +kernel
theorem dL_law_264 : decode cL_law 264 = .ok (.iload_n 3, 1) := by decide +kernel
theorem dL_law_265 : decode cL_law 265 = .ok (.iconst 1, 1) := by decide +kernel
theorem dL_law_266 : decode cL_law 266 = .ok (.iadd, 1) := by decide +kernel
theorem dL_law_267 : decode cL_law 267 = .ok (.iaload, 1) := by decide +kernel
theorem dL_law_268 : decode cL_law 268 = .ok (.aload_n 0, 1) := by decide +kernel
theorem dL_law_269 : decode cL_law 269 = .ok (.iload_n 3, 1) := by decide +kernel
theorem dL_law_270 : decode cL_law 270 = .ok (.iconst 2, 1) := by decide +kernel
theorem dL_law_271 : decode cL_law 271 = .ok (.iadd, 1) := by decide +kernel
theorem dL_law_272 : decode cL_law 272 = .ok (.iaload, 1) := by decide +kernel
theorem dL_law_273 : decode cL_law 273 = .ok (.invokevirtual 42, 3) := by decide +kernel
theorem dL_law_276 : decode cL_law 276 = .ok (.aload_n 2, 1) := by decide +kernel
theorem dL_law_277 : decode cL_law 277 = .ok (.aload_n 0, 1) := by decide +kernel
theorem dL_law_278 : decode cL_law 278 = .ok (.iload_n 3, 1) := by decide +kernel
theorem dL_law_279 : decode cL_law 279 = .ok (.iconst 1, 1) := by decide +kernel
theorem dL_law_280 : decode cL_law 280 = .ok (.iadd, 1) := by decide +kernel
theorem dL_law_281 : decode cL_law 281 = .ok (.iaload, 1) := by decide +kernel
theorem dL_law_282 : decode cL_law 282 = .ok (.aload_n 0, 1) := by decide +kernel
theorem dL_law_283 : decode cL_law 283 = .ok (.iload_n 3, 1) := by decide +kernel
theorem dL_law_284 : decode cL_law 284 = .ok (.iconst 2, 1) := by decide +kernel
theorem dL_law_285 : decode cL_law 285 = .ok (.iadd, 1) := by decide +kernel
theorem dL_law_286 : decode cL_law 286 = .ok (.iaload, 1) := by decide +kernel
theorem dL_law_287 : decode cL_law 287 = .ok (.invokevirtual 46, 3) := by decide +kernel
theorem dL_law_290 : decode cL_law 290 = .ok (.lcmp, 1) := by decide +kernel
theorem dL_law_291 : decode cL_law 291 = .ok (.ifCond .eq 78, 3) := by decide +kernel
theorem dL_law_294 : decode cL_law 294 = .ok (.iconst 0, 1) := by decide +kernel
theorem dL_law_295 : decode cL_law 295 = .ok (.ireturn, 1) := by decide +kernel
theorem dL_law_296 : decode cL_law 296 = .ok (.aload_n 1, 1) := by decide +kernel
theorem dL_law_297 : decode cL_law 297 = .ok (.invokevirtual 47, 3) := by decide +kernel
theorem dL_law_300 : decode cL_law 300 = .ok (.aload_n 2, 1) := by decide +kernel
theorem dL_law_301 : decode cL_law 301 = .ok (.invokevirtual 50, 3) := by decide +kernel
theorem dL_law_304 : decode cL_law 304 = .ok (.lcmp, 1) := by decide +kernel
theorem dL_law_305 : decode cL_law 305 = .ok (.ifCond .eq 64, 3) := by decide +kernel
theorem dL_law_308 : decode cL_law 308 = .ok (.iconst 0, 1) := by decide +kernel
theorem dL_law_309 : decode cL_law 309 = .ok (.ireturn, 1) := by decide +kernel
theorem dL_law_310 : decode cL_law 310 = .ok (.aload_n 1, 1) := by decide +kernel
theorem dL_law_311 : decode cL_law 311 = .ok (.invokevirtual 51, 3) := by decide +kernel
theorem dL_law_314 : decode cL_law 314 = .ok (.aload_n 2, 1) := by decide +kernel
theorem dL_law_315 : decode cL_law 315 = .ok (.invokevirtual 54, 3) := by decide +kernel
theorem dL_law_318 : decode cL_law 318 = .ok (.if_icmp .eq 51, 3) := by decide +kernel
theorem dL_law_321 : decode cL_law 321 = .ok (.iconst 0, 1) := by decide +kernel
theorem dL_law_322 : decode cL_law 322 = .ok (.ireturn, 1) := by decide +kernel
theorem dL_law_323 : decode cL_law 323 = .ok (.aload_n 1, 1) := by decide +kernel
theorem dL_law_324 : decode cL_law 324 = .ok (.invokevirtual 55, 3) := by decide +kernel
theorem dL_law_327 : decode cL_law 327 = .ok (.aload_n 2, 1) := by decide +kernel
theorem dL_law_328 : decode cL_law 328 = .ok (.invokevirtual 58, 3) := by decide +kernel
theorem dL_law_331 : decode cL_law 331 = .ok (.if_icmp .eq 38, 3) := by decide +kernel
theorem dL_law_334 : decode cL_law 334 = .ok (.iconst 0, 1) := by decide +kernel
theorem dL_law_335 : decode cL_law 335 = .ok (.ireturn, 1) := by decide +kernel
theorem dL_law_336 : decode cL_law 336 = .ok (.aload_n 1, 1) := by decide +kernel
theorem dL_law_337 : decode cL_law 337 = .ok (.aload_n 0, 1) := by decide +kernel
theorem dL_law_338 : decode cL_law 338 = .ok (.iload_n 3, 1) := by decide +kernel
theorem dL_law_339 : decode cL_law 339 = .ok (.iconst 1, 1) := by decide +kernel
theorem dL_law_340 : decode cL_law 340 = .ok (.iadd, 1) := by decide +kernel
theorem dL_law_341 : decode cL_law 341 = .ok (.iaload, 1) := by decide +kernel
theorem dL_law_342 : decode cL_law 342 = .ok (.aload_n 0, 1) := by decide +kernel
theorem dL_law_343 : decode cL_law 343 = .ok (.iload_n 3, 1) := by decide +kernel
theorem dL_law_344 : decode cL_law 344 = .ok (.iconst 2, 1) := by decide +kernel
theorem dL_law_345 : decode cL_law 345 = .ok (.iadd, 1) := by decide +kernel
theorem dL_law_346 : decode cL_law 346 = .ok (.iaload, 1) := by decide +kernel
theorem dL_law_347 : decode cL_law 347 = .ok (.invokevirtual 59, 3) := by decide +kernel
theorem dL_law_350 : decode cL_law 350 = .ok (.aload_n 2, 1) := by decide +kernel
theorem dL_law_351 : decode cL_law 351 = .ok (.aload_n 0, 1) := by decide +kernel
theorem dL_law_352 : decode cL_law 352 = .ok (.iload_n 3, 1) := by decide +kernel
theorem dL_law_353 : decode cL_law 353 = .ok (.iconst 1, 1) := by decide +kernel
theorem dL_law_354 : decode cL_law 354 = .ok (.iadd, 1) := by decide +kernel
theorem dL_law_355 : decode cL_law 355 = .ok (.iaload, 1) := by decide +kernel
theorem dL_law_356 : decode cL_law 356 = .ok (.aload_n 0, 1) := by decide +kernel
theorem dL_law_357 : decode cL_law 357 = .ok (.iload_n 3, 1) := by decide +kernel
theorem dL_law_358 : decode cL_law 358 = .ok (.iconst 2, 1) := by decide +kernel
theorem dL_law_359 : decode cL_law 359 = .ok (.iadd, 1) := by decide +kernel
theorem dL_law_360 : decode cL_law 360 = .ok (.iaload, 1) := by decide +kernel
theorem dL_law_361 : decode cL_law 361 = .ok (.invokevirtual 63, 3) := by decide +kernel
theorem dL_law_364 : decode cL_law 364 = .ok (.if_icmp .eq 5, 3) := by decide +kernel
theorem dL_law_367 : decode cL_law 367 = .ok (.iconst 0, 1) := by decide +kernel
theorem dL_law_368 : decode cL_law 368 = .ok (.ireturn, 1) := by decide +kernel
theorem dL_law_369 : decode cL_law 369 = .ok (.iinc 3 4, 3) := by decide +kernel
theorem dL_law_372 : decode cL_law 372 = .ok (.goto (-354), 3) := by decide +kernel
theorem dL_law_375 : decode cL_law 375 = .ok (.iconst 1, 1) := by decide +kernel
theorem dL_law_376 : decode cL_law 376 = .ok (.ireturn, 1) := by decide +kernel
end
section
/-! COMBINATORS: contracts that read alone (fg_Ro) and that change their world (fg_Mu), their entries, their calls -/
abbrev vwCl : List vw_C := [(RX0, TX0, 9), (RX1, TX1, 4)]
/-- the fixed facts of a body -/
def fg_C (p : Program) (s : State) (m : MethodId) (meth : Method) (c : Code) (args : Array Value) (cc : ByteArray) (rt : Option FieldType) (own : String) (L : Nat) : Prop :=
  p.tables.exec = Jvm.exec ∧ c.code = cc ∧ meth.sig.returnType = rt ∧ (∀ w ∈ lw_all, w.before args s = true) ∧ s.vm.findClass own = some m.cls ∧ meth.locks = false ∧ c.maxLocals = L
def fg_Ro (l : Launch) (y : MethodName) (b : ByteArray) (L : Nat) (rt : Option FieldType) (rm : Room) (D : va_G) (av : List Value) (ws : va_W) (tys : List (ClassId × FieldType)) (Qf : (Nat → Prop) → Array Value → State → Outcome → State → Prop) : Prop :=
  ∀ sz : Nat, Met l y (ws_ y b L rt) rm (va_Pc av (fun U => U.heap.size = sz ∧ va_P D vwCl ws U.heap ∧ va_K D vwCl tys U)) (Qf (va_A [] sz)) 0 0 (va_A [] sz)
/-- a method that changes nothing and answers an int of which post holds -/
def fg_Ri (l : Launch) (y : MethodName) (b : ByteArray) (L : Nat) (rt : FieldType) (rm : Room) (D : va_G) (av : List Value) (ws : va_W) (tys : List (ClassId × FieldType)) (post : Int32 → Prop) : Prop :=
  fg_Ro l y b L (some rt) rm D av ws tys (fun A => va_Qi (fun (r : Int32) (_ : Unit) => post r) (fun _ _ => True) A)
def fg_Rl (l : Launch) (y : MethodName) (b : ByteArray) (L : Nat) (rm : Room) (D : va_G) (av : List Value) (ws : va_W) (tys : List (ClassId × FieldType)) (post : Int64 → Prop) : Prop :=
  fg_Ro l y b L (some .long) rm D av ws tys (fun A => va_Ql (fun (r : Int64) (_ : Unit) => post r) (fun _ _ => True) A)
def fg_Mu (l : Launch) (y : MethodName) (b : ByteArray) (L : Nat) (rt : Option FieldType) (rm : Room) (D : va_G) (av : List Value) (ws : va_W) (tys : List (ClassId × FieldType)) (Qf : (Nat → Prop) → Array Value → State → Outcome → State → Prop) : Prop :=
  ∀ sz : Nat, Met l y (ws_ y b L rt) rm (va_Pc av (fun U => U.heap.size = sz ∧ va_P D vwCl ws U.heap ∧ va_K D vwCl tys U ∧ va_D (fun _ => True) ws)) (Qf (va_A ws sz)) 0 0 (va_A ws sz)
def fg_B {S : Type} (D : va_G) (tys : List (ClassId × FieldType)) (wf : S → va_W) (A : Nat → Prop) (u : S) (t : State) : Prop := va_P D vwCl (wf u) t.heap ∧ va_K D vwCl tys t ∧ va_D A (wf u)
/-- a method that leaves the world wf u, with post of its answer and u -/
def fg_Mi {S : Type} (l : Launch) (y : MethodName) (b : ByteArray) (L : Nat) (rt : FieldType) (rm : Room) (D : va_G) (av : List Value) (ws : va_W) (tys : List (ClassId × FieldType)) (post : Int32 → S → Prop) (wf : S → va_W) : Prop :=
  fg_Mu l y b L (some rt) rm D av ws tys (fun A => va_Qi post (fg_B D tys wf A) A)
def fg_Ml {S : Type} (l : Launch) (y : MethodName) (b : ByteArray) (L : Nat) (rm : Room) (D : va_G) (av : List Value) (ws : va_W) (tys : List (ClassId × FieldType)) (post : Int64 → S → Prop) (wf : S → va_W) : Prop :=
  fg_Mu l y b L (some .long) rm D av ws tys (fun A => va_Ql post (fg_B D tys wf A) A)
def fg_Mv {S : Type} (l : Launch) (y : MethodName) (b : ByteArray) (L : Nat) (rm : Room) (D : va_G) (av : List Value) (ws : va_W) (tys : List (ClassId × FieldType)) (post : S → Prop) (wf : S → va_W) : Prop :=
  fg_Mu l y b L none rm D av ws tys (fun A => va_Qv post (fg_B D tys wf A) A)
section FGE
variable {l : Launch} {y : MethodName} {b : ByteArray} {L : Nat} {rt : FieldType} {rm : Room} {D : va_G} {av : List Value} {ws : va_W} {tys : List (ClassId × FieldType)} {own : String}
theorem fg_Ro_of {rt : Option FieldType} {Qf : (Nat → Prop) → Array Value → State → Outcome → State → Prop} (hy : plainName y.cls = true) (ho : y.cls = own) (hL : (lg_sl av).length ≤ L)
    (body : ∀ (p : Program) (e : Env) (s : State) (m : MethodId) (args : Array Value) (below : List Frame) (meth : Method) (c : Code) (ls : Array Slot) (A : Nat → Prop), fg_C p s m meth c args b rt own L → va_P D vwCl ws s.heap → va_K D vwCl tys s → lv_has ls L (lv_args 0 av) → (∀ q : Nat, s.heap.size ≤ q → A q) →
      W p l e rm s m args below meth c s.heap [] 0 0 (MQ below (Qf A) args s 0 0 A) (F0 m 0 ls [])) : fg_Ro l y b L rt rm D av ws tys Qf := by
  intro sz
  refine Met.ofW (cc := b) (maxL := L) (ret := rt) hy rfl ?_
  intro p e s m args below meth c s₁ B hml hv
  obtain ⟨rfl, hsz, hP, hK⟩ := hv
  have hts := atoms_spec (ws := ws_ y b L rt) B.pre
  have hts : ∀ w ∈ lw_all, w.before _ s = true := fun w h => hts w (List.mem_cons_of_mem _ h)
  have hown : s.vm.findClass y.cls = some m.cls := findClass_of_methodNamed B.named
  have hl := lv_entry av (n := L) hL
  rw [lg_entry_eq]
  generalize (lg_sl av ++ List.replicate (L - (lg_sl av).length) Slot.unset).toArray = ls at hl ⊢
  subst hsz
  subst ho
  exact body p e s m _ below meth c ls (va_A [] s.heap.size) ⟨B.exec, B.bytes, B.returns, hts, hown, B.notSynchronized, hml⟩ hP hK hl (fun q h => Or.inr h)
theorem fg_Mu_of {rt : Option FieldType} {Qf : (Nat → Prop) → Array Value → State → Outcome → State → Prop} (hy : plainName y.cls = true) (ho : y.cls = own) (hL : (lg_sl av).length ≤ L)
    (body : ∀ (p : Program) (e : Env) (s : State) (m : MethodId) (args : Array Value) (below : List Frame) (meth : Method) (c : Code) (ls : Array Slot) (A : Nat → Prop), fg_C p s m meth c args b rt own L → va_P D vwCl ws s.heap → va_K D vwCl tys s → va_D A ws → lv_has ls L (lv_args 0 av) → (∀ q : Nat, s.heap.size ≤ q → A q) →
      W p l e rm s m args below meth c s.heap [] 0 0 (MQ below (Qf A) args s 0 0 A) (F0 m 0 ls [])) : fg_Mu l y b L rt rm D av ws tys Qf := by
  intro sz
  refine Met.ofW (cc := b) (maxL := L) (ret := rt) hy rfl ?_
  intro p e s m args below meth c s₁ B hml hv
  obtain ⟨rfl, hsz, hP, hK, hD0⟩ := hv
  have hts := atoms_spec (ws := ws_ y b L rt) B.pre
  have hts : ∀ w ∈ lw_all, w.before _ s = true := fun w h => hts w (List.mem_cons_of_mem _ h)
  have hown : s.vm.findClass y.cls = some m.cls := findClass_of_methodNamed B.named
  have hl := lv_entry av (n := L) hL
  rw [lg_entry_eq]
  generalize (lg_sl av ++ List.replicate (L - (lg_sl av).length) Slot.unset).toArray = ls at hl ⊢
  subst hsz
  subst ho
  exact body p e s m _ below meth c ls (va_A ws s.heap.size) ⟨B.exec, B.bytes, B.returns, hts, hown, B.notSynchronized, hml⟩ hP hK (hD0.self (sz := s.heap.size)) hl (fun q h => Or.inr h)
/-- a reading method with an int answer: its body for any end Q that takes the answer -/
theorem fg_Ri_of {post : Int32 → Prop} (hy : plainName y.cls = true) (ho : y.cls = own) (hL : (lg_sl av).length ≤ L) (hnar : ∀ v, post v → narrow rt (.int v) = .int v)
    (body : ∀ (p : Program) (e : Env) (s : State) (m : MethodId) (args : Array Value) (below : List Frame) (meth : Method) (c : Code) (ls : Array Slot) (A : Nat → Prop) (Q : State → Prop), fg_C p s m meth c args b (some rt) own L → va_P D vwCl ws s.heap → va_K D vwCl tys s → lv_has ls L (lv_args 0 av) → (∀ q : Nat, s.heap.size ≤ q → A q) → va_S A s.heap s.heap [] →
      (∀ (v : Int32) (H : Heap) (locs : List Loc) (pc : Nat) (ls : Array Slot), decode b pc = .ok (.ireturn, 1) → va_S A s.heap H locs → post v → W p l e rm s m args below meth c H locs 0 0 Q (F0 m pc ls [.int v])) →
      W p l e rm s m args below meth c s.heap [] 0 0 Q (F0 m 0 ls [])) : fg_Ri l y b L rt rm D av ws tys post := by
  refine fg_Ro_of hy ho hL ?_
  intro p e s m args below meth c ls A hC hP hK hl hA
  refine body p e s m args below meth c ls A _ hC hP hK hl hA va_S.rf ?_
  intro v H locs pc ls d hS hv
  obtain ⟨hx, hb, hr, -, -, hlocks, -⟩ := hC
  exact W.zret (v := v) hx hb hr (hnar v hv) (fun t ht hW => ⟨⟨v, (), rfl, hv, trivial⟩, hS.F ht⟩) hS.2.2 d hlocks
theorem fg_Rl_of {post : Int64 → Prop} (hy : plainName y.cls = true) (ho : y.cls = own) (hL : (lg_sl av).length ≤ L)
    (body : ∀ (p : Program) (e : Env) (s : State) (m : MethodId) (args : Array Value) (below : List Frame) (meth : Method) (c : Code) (ls : Array Slot) (A : Nat → Prop) (Q : State → Prop), fg_C p s m meth c args b (some .long) own L → va_P D vwCl ws s.heap → va_K D vwCl tys s → lv_has ls L (lv_args 0 av) → (∀ q : Nat, s.heap.size ≤ q → A q) → va_S A s.heap s.heap [] →
      (∀ (v : Int64) (H : Heap) (locs : List Loc) (pc : Nat) (ls : Array Slot), decode b pc = .ok (.lreturn, 1) → va_S A s.heap H locs → post v → W p l e rm s m args below meth c H locs 0 0 Q (F0 m pc ls [.long v])) →
      W p l e rm s m args below meth c s.heap [] 0 0 Q (F0 m 0 ls [])) : fg_Rl l y b L rm D av ws tys post := by
  refine fg_Ro_of hy ho hL ?_
  intro p e s m args below meth c ls A hC hP hK hl hA
  refine body p e s m args below meth c ls A _ hC hP hK hl hA va_S.rf ?_
  intro v H locs pc ls d hS hv
  obtain ⟨hx, hb, hr, -, -, hlocks, -⟩ := hC
  exact W.lret (v := v) hx hb hr (fun t ht hW => ⟨⟨v, (), rfl, hv, trivial⟩, hS.F ht⟩) hS.2.2 d hlocks
theorem fg_Mi_of {S : Type} {post : Int32 → S → Prop} {wf : S → va_W} (hy : plainName y.cls = true) (ho : y.cls = own) (hL : (lg_sl av).length ≤ L) (hnar : ∀ v u, post v u → narrow rt (.int v) = .int v)
    (body : ∀ (p : Program) (e : Env) (s : State) (m : MethodId) (args : Array Value) (below : List Frame) (meth : Method) (c : Code) (ls : Array Slot) (A : Nat → Prop) (Q : State → Prop), fg_C p s m meth c args b (some rt) own L → va_P D vwCl ws s.heap → va_K D vwCl tys s → va_D A ws → lv_has ls L (lv_args 0 av) → (∀ q : Nat, s.heap.size ≤ q → A q) → va_S A s.heap s.heap [] →
      (∀ (v : Int32) (u : S) (H : Heap) (locs : List Loc) (pc : Nat) (ls : Array Slot), decode b pc = .ok (.ireturn, 1) → va_S A s.heap H locs → post v u → va_P D vwCl (wf u) H → va_D A (wf u) → W p l e rm s m args below meth c H locs 0 0 Q (F0 m pc ls [.int v])) →
      W p l e rm s m args below meth c s.heap [] 0 0 Q (F0 m 0 ls [])) : fg_Mi l y b L rt rm D av ws tys post wf := by
  refine fg_Mu_of hy ho hL ?_
  intro p e s m args below meth c ls A hC hP hK hD hl hA
  refine body p e s m args below meth c ls A _ hC hP hK hD hl hA va_S.rf ?_
  intro v u H locs pc ls d hS hv hP9 hD9
  obtain ⟨hx, hb, hr, -, -, hlocks, -⟩ := hC
  exact W.zret (v := v) hx hb hr (hnar v u hv) (fun t ht hW => ⟨⟨v, u, rfl, hv, by rw [ht]; exact hP9, va_K.moved hW.alike hK, hD9⟩, hS.F ht⟩) hS.2.2 d hlocks
theorem fg_Ml_of {S : Type} {post : Int64 → S → Prop} {wf : S → va_W} (hy : plainName y.cls = true) (ho : y.cls = own) (hL : (lg_sl av).length ≤ L)
    (body : ∀ (p : Program) (e : Env) (s : State) (m : MethodId) (args : Array Value) (below : List Frame) (meth : Method) (c : Code) (ls : Array Slot) (A : Nat → Prop) (Q : State → Prop), fg_C p s m meth c args b (some .long) own L → va_P D vwCl ws s.heap → va_K D vwCl tys s → va_D A ws → lv_has ls L (lv_args 0 av) → (∀ q : Nat, s.heap.size ≤ q → A q) → va_S A s.heap s.heap [] →
      (∀ (v : Int64) (u : S) (H : Heap) (locs : List Loc) (pc : Nat) (ls : Array Slot), decode b pc = .ok (.lreturn, 1) → va_S A s.heap H locs → post v u → va_P D vwCl (wf u) H → va_D A (wf u) → W p l e rm s m args below meth c H locs 0 0 Q (F0 m pc ls [.long v])) →
      W p l e rm s m args below meth c s.heap [] 0 0 Q (F0 m 0 ls [])) : fg_Ml l y b L rm D av ws tys post wf := by
  refine fg_Mu_of hy ho hL ?_
  intro p e s m args below meth c ls A hC hP hK hD hl hA
  refine body p e s m args below meth c ls A _ hC hP hK hD hl hA va_S.rf ?_
  intro v u H locs pc ls d hS hv hP9 hD9
  obtain ⟨hx, hb, hr, -, -, hlocks, -⟩ := hC
  exact W.lret (v := v) hx hb hr (fun t ht hW => ⟨⟨v, u, rfl, hv, by rw [ht]; exact hP9, va_K.moved hW.alike hK, hD9⟩, hS.F ht⟩) hS.2.2 d hlocks
theorem fg_Mv_of {S : Type} {post : S → Prop} {wf : S → va_W} (hy : plainName y.cls = true) (ho : y.cls = own) (hL : (lg_sl av).length ≤ L)
    (body : ∀ (p : Program) (e : Env) (s : State) (m : MethodId) (args : Array Value) (below : List Frame) (meth : Method) (c : Code) (ls : Array Slot) (A : Nat → Prop) (Q : State → Prop), fg_C p s m meth c args b none own L → va_P D vwCl ws s.heap → va_K D vwCl tys s → va_D A ws → lv_has ls L (lv_args 0 av) → (∀ q : Nat, s.heap.size ≤ q → A q) → va_S A s.heap s.heap [] →
      (∀ (u : S) (H : Heap) (locs : List Loc) (pc : Nat) (ls : Array Slot), decode b pc = .ok (.return_, 1) → va_S A s.heap H locs → post u → va_P D vwCl (wf u) H → va_D A (wf u) → W p l e rm s m args below meth c H locs 0 0 Q (F0 m pc ls [])) →
      W p l e rm s m args below meth c s.heap [] 0 0 Q (F0 m 0 ls [])) : fg_Mv l y b L rm D av ws tys post wf := by
  refine fg_Mu_of hy ho hL ?_
  intro p e s m args below meth c ls A hC hP hK hD hl hA
  refine body p e s m args below meth c ls A _ hC hP hK hD hl hA va_S.rf ?_
  intro u H locs pc ls d hS hv hP9 hD9
  obtain ⟨hx, hb, hr, -, -, hlocks, -⟩ := hC
  exact W.vret hx hb hr (fun t ht hW => ⟨⟨u, rfl, hv, by rw [ht]; exact hP9, va_K.moved hW.alike hK, hD9⟩, hS.F ht⟩) hS.2.2 d hlocks
end FGE
theorem fg_A0 {sz q : Nat} (h : va_A [] sz q) : sz ≤ q := by
  rcases h with ⟨k, e, h⟩ | h
  · simp at h
  · exact h
theorem fg_kept {D : va_G} {ws : va_W} {H H1 : Heap} (hP : va_P D vwCl ws H) (hk : ∀ q : Nat, q < H.size → ¬ va_A [] H.size q → H1[q]? = H[q]?) : va_P D vwCl ws H1 := by
  refine hP.kept (fun k q hq => ?_)
  have hlt := (hP k q hq).lt
  exact hk q.1 hlt (fun h => by have := fg_A0 h; omega)
section FGV
variable {p : Program} {l : Launch} {e : Env} {R : Room} {s : State} {m : MethodId} {args : Array Value} {below : List Frame} {meth : Method} {c : Code} {H H0 : Heap} {locs : List Loc} {cells slots : Nat} {Q : State → Prop}
variable {cc : ByteArray} {pc : Nat} {ls : Array Slot} {rest st : List Value} {A : Nat → Prop}
variable {y : MethodName} {b : ByteArray} {L nL n index ci a : Nat} {rt : FieldType} {rm : Room} {D : va_G} {As : List Value} {wc ws wr : va_W} {tys : List (ClassId × FieldType)} {own : String} {q : vw_C} {fs : List Value}
/-- a call of a reading method through an object, int answer -/
theorem fg_cVi {post : Int32 → Prop} (S : CallFix p m c cc nL s args lw_all own) (hM : fg_Ri l y b L rt rm D (.ref a :: As) wc tys post)
    (cw : CallW R s args own q.1 index y b L (some rt) (ws_ y b L (some rt)) rm 0 0 n) (hc : vwCl[ci]? = some q) (he : wc[0]? = some (a, .inr (ci, fs)))
    (hK : va_K D vwCl tys s) (hPc : va_P D vwCl wc H) (hP : va_P D vwCl ws H) (hS : va_S A H0 H locs) (hA : ∀ q : Nat, H0.size ≤ q → A q)
    (hn : As.length = n) (hsize : ls.size = nL) (hst : st = As.reverse ++ .ref a :: rest) (hW : (rest.map fun v => v.category).sum ≤ 8) (hd : decode cc pc = .ok (.invokevirtual index, 3)) (hf : cells ≤ R.cells ∧ slots ≤ R.slots)
    (kk : ∀ (r : Int32) (H1 : Heap) (locs1 : List Loc), post r → va_P D vwCl ws H1 → va_S A H0 H1 locs1 → W p l e R s m args below meth c H1 locs1 cells slots Q (F0 m (pc + 3) ls (.int r :: rest))) :
    W p l e R s m args below meth c H locs cells slots Q (F0 m pc ls st) := by
  have hlo : H0.size ≤ H.size := hS.1
  refine va_calli (va_runV (As := As) (rest := rest) S (hM H.size) cw ⟨fun a U g mk q => by obtain ⟨q0, q1, qP, qK⟩ := q; exact ⟨q0, q1, qP, va_K.moved (u := U) (U := U.calling g mk a) (Vm.Alike.refl U.vm) qK⟩, va_recv hK hPc hc he, fun U hU hW => ⟨rfl, by rw [hU], by rw [hU]; exact hPc, va_K.moved hW.alike hK⟩⟩ rfl hn hsize hst (lv_room hW) hd hf) hS (fun q h1 h2 => by have := fg_A0 h2; omega) (fun q h => hA q (Nat.le_trans hlo (fg_A0 h))) (fun r u t H1 locs1 ht hvm hw hB hz1 hk1 hS1 => ?_)
  exact kk r H1 locs1 hw (fg_kept hP hk1) hS1
theorem fg_cVl {post : Int64 → Prop} (S : CallFix p m c cc nL s args lw_all own) (hM : fg_Rl l y b L rm D (.ref a :: As) wc tys post)
    (cw : CallW R s args own q.1 index y b L (some .long) (ws_ y b L (some .long)) rm 0 0 n) (hc : vwCl[ci]? = some q) (he : wc[0]? = some (a, .inr (ci, fs)))
    (hK : va_K D vwCl tys s) (hPc : va_P D vwCl wc H) (hP : va_P D vwCl ws H) (hS : va_S A H0 H locs) (hA : ∀ q : Nat, H0.size ≤ q → A q)
    (hn : As.length = n) (hsize : ls.size = nL) (hst : st = As.reverse ++ .ref a :: rest) (hW : (rest.map fun v => v.category).sum ≤ 8) (hd : decode cc pc = .ok (.invokevirtual index, 3)) (hf : cells ≤ R.cells ∧ slots ≤ R.slots)
    (kk : ∀ (r : Int64) (H1 : Heap) (locs1 : List Loc), post r → va_P D vwCl ws H1 → va_S A H0 H1 locs1 → W p l e R s m args below meth c H1 locs1 cells slots Q (F0 m (pc + 3) ls (.long r :: rest))) :
    W p l e R s m args below meth c H locs cells slots Q (F0 m pc ls st) := by
  have hlo : H0.size ≤ H.size := hS.1
  refine va_calll (va_runV (As := As) (rest := rest) S (hM H.size) cw ⟨fun a U g mk q => by obtain ⟨q0, q1, qP, qK⟩ := q; exact ⟨q0, q1, qP, va_K.moved (u := U) (U := U.calling g mk a) (Vm.Alike.refl U.vm) qK⟩, va_recv hK hPc hc he, fun U hU hW => ⟨rfl, by rw [hU], by rw [hU]; exact hPc, va_K.moved hW.alike hK⟩⟩ rfl hn hsize hst (lv_room hW) hd hf) hS (fun q h1 h2 => by have := fg_A0 h2; omega) (fun q h => hA q (Nat.le_trans hlo (fg_A0 h))) (fun r u t H1 locs1 ht hvm hw hB hz1 hk1 hS1 => ?_)
  exact kk r H1 locs1 hw (fg_kept hP hk1) hS1
/-- a static call of a reading method that sees no cell, int answer -/
theorem fg_cSi {post : Int32 → Prop} (S : CallFix p m c cc nL s args lw_all own) (hM : fg_Ri l y b L rt rm D As [] [] post)
    (cw : CallB R s args own index y b L (some rt) (ws_ y b L (some rt)) rm 0 0 n ∧ (Cond.static y).before args s = true)
    (hK : va_K D vwCl tys s) (hP : va_P D vwCl ws H) (hS : va_S A H0 H locs) (hA : ∀ q : Nat, H0.size ≤ q → A q)
    (hn : As.length = n) (hsize : ls.size = nL) (hst : st = As.reverse ++ rest) (hW : (rest.map fun v => v.category).sum ≤ 8) (hd : decode cc pc = .ok (.invokestatic index, 3)) (hf : cells ≤ R.cells ∧ slots ≤ R.slots)
    (kk : ∀ (r : Int32) (H1 : Heap) (locs1 : List Loc), post r → va_P D vwCl ws H1 → va_S A H0 H1 locs1 → W p l e R s m args below meth c H1 locs1 cells slots Q (F0 m (pc + 3) ls (.int r :: rest))) :
    W p l e R s m args below meth c H locs cells slots Q (F0 m pc ls st) := by
  have hlo : H0.size ≤ H.size := hS.1
  have hK0 : va_K D vwCl [] s := hK.sub (tys' := []) [] rfl
  have hP0 : va_P D vwCl [] H := hP.sub (ws' := []) [] rfl
  refine va_calli (va_runS (As := As) (rest := rest) S (hM H.size) cw ⟨fun a U g mk q => by obtain ⟨q0, q1, qP, qK⟩ := q; exact ⟨q0, q1, qP, va_K.moved (u := U) (U := U.calling g mk a) (Vm.Alike.refl U.vm) qK⟩, fun U hU hW => ⟨rfl, by rw [hU], by rw [hU]; exact hP0, va_K.moved hW.alike hK0⟩⟩ rfl hn hsize hst (lv_room hW) hd hf) hS (fun q h1 h2 => by have := fg_A0 h2; omega) (fun q h => hA q (Nat.le_trans hlo (fg_A0 h))) (fun r u t H1 locs1 ht hvm hw hB hz1 hk1 hS1 => ?_)
  exact kk r H1 locs1 hw (fg_kept hP hk1) hS1
theorem fg_whole {w1 : va_W} {H1 : Heap} (hD : va_D A ws) (hS : va_S A H0 H locs) (hA : ∀ q : Nat, H0.size ≤ q → A q) : ∀ q, va_A ws H.size q → A q := by
  intro q h
  rcases h with ⟨k, e, h⟩ | h
  · exact hD.2 k (q, e) h
  · exact hA q (Nat.le_trans hS.1 h)
/-- a call of a changing method on the caller's whole world -/
theorem fg_wVi {S0 : Type} {post : Int32 → S0 → Prop} {wf : S0 → va_W} (S : CallFix p m c cc nL s args lw_all own) (hM : fg_Mi l y b L rt rm D (.ref a :: As) ws tys post wf)
    (cw : CallW R s args own q.1 index y b L (some rt) (ws_ y b L (some rt)) rm 0 0 n) (hc : vwCl[ci]? = some q) (he : ws[0]? = some (a, .inr (ci, fs)))
    (hK : va_K D vwCl tys s) (hP : va_P D vwCl ws H) (hD : va_D A ws) (hS : va_S A H0 H locs) (hA : ∀ q : Nat, H0.size ≤ q → A q)
    (hn : As.length = n) (hsize : ls.size = nL) (hst : st = As.reverse ++ .ref a :: rest) (hW : (rest.map fun v => v.category).sum ≤ 8) (hd : decode cc pc = .ok (.invokevirtual index, 3)) (hf : cells ≤ R.cells ∧ slots ≤ R.slots)
    (kk : ∀ (r : Int32) (u : S0) (H1 : Heap) (locs1 : List Loc), post r u → va_P D vwCl (wf u) H1 → va_D A (wf u) → va_S A H0 H1 locs1 → W p l e R s m args below meth c H1 locs1 cells slots Q (F0 m (pc + 3) ls (.int r :: rest))) :
    W p l e R s m args below meth c H locs cells slots Q (F0 m pc ls st) := by
  have hF := fg_whole (w1 := ws) (H1 := H) hD hS hA
  refine va_calli (va_runV (As := As) (rest := rest) S (hM H.size) cw ⟨fun a U g mk q => by obtain ⟨q0, q1, qP, qK, qD⟩ := q; exact ⟨q0, q1, qP, va_K.moved (u := U) (U := U.calling g mk a) (Vm.Alike.refl U.vm) qK, qD⟩, va_recv hK hP hc he, fun U hU hW => ⟨rfl, by rw [hU], by rw [hU]; exact hP, va_K.moved hW.alike hK, hD.weaken (fun _ _ _ _ => trivial)⟩⟩ rfl hn hsize hst (lv_room hW) hd hf) hS (fun q _ h => hF q h) hF (fun r u t H1 locs1 ht hvm hw hB hz1 hk1 hS1 => ?_)
  obtain ⟨hP1, hK1, hD1⟩ := hB
  rw [ht] at hP1
  exact kk r u H1 locs1 hw hP1 (hD1.weaken (fun k q _ h => hF q.1 h)) hS1
theorem fg_wVl {S0 : Type} {post : Int64 → S0 → Prop} {wf : S0 → va_W} (S : CallFix p m c cc nL s args lw_all own) (hM : fg_Ml l y b L rm D (.ref a :: As) ws tys post wf)
    (cw : CallW R s args own q.1 index y b L (some .long) (ws_ y b L (some .long)) rm 0 0 n) (hc : vwCl[ci]? = some q) (he : ws[0]? = some (a, .inr (ci, fs)))
    (hK : va_K D vwCl tys s) (hP : va_P D vwCl ws H) (hD : va_D A ws) (hS : va_S A H0 H locs) (hA : ∀ q : Nat, H0.size ≤ q → A q)
    (hn : As.length = n) (hsize : ls.size = nL) (hst : st = As.reverse ++ .ref a :: rest) (hW : (rest.map fun v => v.category).sum ≤ 8) (hd : decode cc pc = .ok (.invokevirtual index, 3)) (hf : cells ≤ R.cells ∧ slots ≤ R.slots)
    (kk : ∀ (r : Int64) (u : S0) (H1 : Heap) (locs1 : List Loc), post r u → va_P D vwCl (wf u) H1 → va_D A (wf u) → va_S A H0 H1 locs1 → W p l e R s m args below meth c H1 locs1 cells slots Q (F0 m (pc + 3) ls (.long r :: rest))) :
    W p l e R s m args below meth c H locs cells slots Q (F0 m pc ls st) := by
  have hF := fg_whole (w1 := ws) (H1 := H) hD hS hA
  refine va_calll (va_runV (As := As) (rest := rest) S (hM H.size) cw ⟨fun a U g mk q => by obtain ⟨q0, q1, qP, qK, qD⟩ := q; exact ⟨q0, q1, qP, va_K.moved (u := U) (U := U.calling g mk a) (Vm.Alike.refl U.vm) qK, qD⟩, va_recv hK hP hc he, fun U hU hW => ⟨rfl, by rw [hU], by rw [hU]; exact hP, va_K.moved hW.alike hK, hD.weaken (fun _ _ _ _ => trivial)⟩⟩ rfl hn hsize hst (lv_room hW) hd hf) hS (fun q _ h => hF q h) hF (fun r u t H1 locs1 ht hvm hw hB hz1 hk1 hS1 => ?_)
  obtain ⟨hP1, hK1, hD1⟩ := hB
  rw [ht] at hP1
  exact kk r u H1 locs1 hw hP1 (hD1.weaken (fun k q _ h => hF q.1 h)) hS1
theorem fg_wVv {S0 : Type} {post : S0 → Prop} {wf : S0 → va_W} (S : CallFix p m c cc nL s args lw_all own) (hM : fg_Mv l y b L rm D (.ref a :: As) ws tys post wf)
    (cw : CallW R s args own q.1 index y b L none (ws_ y b L none) rm 0 0 n) (hc : vwCl[ci]? = some q) (he : ws[0]? = some (a, .inr (ci, fs)))
    (hK : va_K D vwCl tys s) (hP : va_P D vwCl ws H) (hD : va_D A ws) (hS : va_S A H0 H locs) (hA : ∀ q : Nat, H0.size ≤ q → A q)
    (hn : As.length = n) (hsize : ls.size = nL) (hst : st = As.reverse ++ .ref a :: rest) (hW : (rest.map fun v => v.category).sum ≤ 8) (hd : decode cc pc = .ok (.invokevirtual index, 3)) (hf : cells ≤ R.cells ∧ slots ≤ R.slots)
    (kk : ∀ (u : S0) (H1 : Heap) (locs1 : List Loc), post u → va_P D vwCl (wf u) H1 → va_D A (wf u) → va_S A H0 H1 locs1 → W p l e R s m args below meth c H1 locs1 cells slots Q (F0 m (pc + 3) ls rest)) :
    W p l e R s m args below meth c H locs cells slots Q (F0 m pc ls st) := by
  have hF := fg_whole (w1 := ws) (H1 := H) hD hS hA
  refine va_callv (va_runV (As := As) (rest := rest) S (hM H.size) cw ⟨fun a U g mk q => by obtain ⟨q0, q1, qP, qK, qD⟩ := q; exact ⟨q0, q1, qP, va_K.moved (u := U) (U := U.calling g mk a) (Vm.Alike.refl U.vm) qK, qD⟩, va_recv hK hP hc he, fun U hU hW => ⟨rfl, by rw [hU], by rw [hU]; exact hP, va_K.moved hW.alike hK, hD.weaken (fun _ _ _ _ => trivial)⟩⟩ rfl hn hsize hst (lv_room hW) hd hf) hS (fun q _ h => hF q h) hF (fun u t H1 locs1 ht hvm hw hB hz1 hk1 hS1 => ?_)
  obtain ⟨hP1, hK1, hD1⟩ := hB
  rw [ht] at hP1
  exact kk u H1 locs1 hw hP1 (hD1.weaken (fun k q _ h => hF q.1 h)) hS1
/-- a call of a changing method on some of the caller's cells (places isC), the rest (isR) unchanged -/
theorem fg_mVi {S0 : Type} {post : Int32 → S0 → Prop} {wf : S0 → va_W} (S : CallFix p m c cc nL s args lw_all own) (hM : fg_Mi l y b L rt rm D (.ref a :: As) wc tys post wf)
    (cw : CallW R s args own q.1 index y b L (some rt) (ws_ y b L (some rt)) rm 0 0 n) (hc : vwCl[ci]? = some q) (he : wc[0]? = some (a, .inr (ci, fs)))
    (hK : va_K D vwCl tys s) (hP : va_P D vwCl ws H) (hD : va_D A ws) (hPc : va_P D vwCl wc H) (hDc : va_D A wc) (hS : va_S A H0 H locs) (hA : ∀ q : Nat, H0.size ≤ q → A q)
    (isC isR : List Nat) (hC : isC.map (fun i => ws[i]?) = wc.map some) (hR : isR.map (fun i => ws[i]?) = wr.map some) (hnd : va_nd isR = true) (hdis : ∀ i ∈ isR, i ∉ isC)
    (hn : As.length = n) (hsize : ls.size = nL) (hst : st = As.reverse ++ .ref a :: rest) (hW : (rest.map fun v => v.category).sum ≤ 8) (hd : decode cc pc = .ok (.invokevirtual index, 3)) (hf : cells ≤ R.cells ∧ slots ≤ R.slots)
    (kk : ∀ (r : Int32) (u : S0) (H1 : Heap) (locs1 : List Loc), post r u → va_P D vwCl (wr ++ wf u) H1 → va_D A (wr ++ wf u) → va_S A H0 H1 locs1 → W p l e R s m args below meth c H1 locs1 cells slots Q (F0 m (pc + 3) ls (.int r :: rest))) :
    W p l e R s m args below meth c H locs cells slots Q (F0 m pc ls st) := by
  have hF := va_free (wc := wc) hD hS hA isC hC
  refine va_calli (va_runV (As := As) (rest := rest) S (hM H.size) cw ⟨fun a U g mk q => by obtain ⟨q0, q1, qP, qK, qD⟩ := q; exact ⟨q0, q1, qP, va_K.moved (u := U) (U := U.calling g mk a) (Vm.Alike.refl U.vm) qK, qD⟩, va_recv hK hPc hc he, fun U hU hW => ⟨rfl, by rw [hU], by rw [hU]; exact hPc, va_K.moved hW.alike hK, hDc.weaken (fun _ _ _ _ => trivial)⟩⟩ rfl hn hsize hst (lv_room hW) hd hf) hS (fun q _ h => hF q h) hF (fun r u t H1 locs1 ht hvm hw hB hz1 hk1 hS1 => ?_)
  obtain ⟨hP1, hK1, hD1⟩ := hB
  rw [ht] at hP1
  obtain ⟨hP2, hD2⟩ := va_join (wr := wr) (w1 := wf u) hP hD isC isR hC hR hnd hdis hk1 hF hP1 hD1
  exact kk r u H1 locs1 hw hP2 hD2 hS1
theorem fg_mVl {S0 : Type} {post : Int64 → S0 → Prop} {wf : S0 → va_W} (S : CallFix p m c cc nL s args lw_all own) (hM : fg_Ml l y b L rm D (.ref a :: As) wc tys post wf)
    (cw : CallW R s args own q.1 index y b L (some .long) (ws_ y b L (some .long)) rm 0 0 n) (hc : vwCl[ci]? = some q) (he : wc[0]? = some (a, .inr (ci, fs)))
    (hK : va_K D vwCl tys s) (hP : va_P D vwCl ws H) (hD : va_D A ws) (hPc : va_P D vwCl wc H) (hDc : va_D A wc) (hS : va_S A H0 H locs) (hA : ∀ q : Nat, H0.size ≤ q → A q)
    (isC isR : List Nat) (hC : isC.map (fun i => ws[i]?) = wc.map some) (hR : isR.map (fun i => ws[i]?) = wr.map some) (hnd : va_nd isR = true) (hdis : ∀ i ∈ isR, i ∉ isC)
    (hn : As.length = n) (hsize : ls.size = nL) (hst : st = As.reverse ++ .ref a :: rest) (hW : (rest.map fun v => v.category).sum ≤ 8) (hd : decode cc pc = .ok (.invokevirtual index, 3)) (hf : cells ≤ R.cells ∧ slots ≤ R.slots)
    (kk : ∀ (r : Int64) (u : S0) (H1 : Heap) (locs1 : List Loc), post r u → va_P D vwCl (wr ++ wf u) H1 → va_D A (wr ++ wf u) → va_S A H0 H1 locs1 → W p l e R s m args below meth c H1 locs1 cells slots Q (F0 m (pc + 3) ls (.long r :: rest))) :
    W p l e R s m args below meth c H locs cells slots Q (F0 m pc ls st) := by
  have hF := va_free (wc := wc) hD hS hA isC hC
  refine va_calll (va_runV (As := As) (rest := rest) S (hM H.size) cw ⟨fun a U g mk q => by obtain ⟨q0, q1, qP, qK, qD⟩ := q; exact ⟨q0, q1, qP, va_K.moved (u := U) (U := U.calling g mk a) (Vm.Alike.refl U.vm) qK, qD⟩, va_recv hK hPc hc he, fun U hU hW => ⟨rfl, by rw [hU], by rw [hU]; exact hPc, va_K.moved hW.alike hK, hDc.weaken (fun _ _ _ _ => trivial)⟩⟩ rfl hn hsize hst (lv_room hW) hd hf) hS (fun q _ h => hF q h) hF (fun r u t H1 locs1 ht hvm hw hB hz1 hk1 hS1 => ?_)
  obtain ⟨hP1, hK1, hD1⟩ := hB
  rw [ht] at hP1
  obtain ⟨hP2, hD2⟩ := va_join (wr := wr) (w1 := wf u) hP hD isC isR hC hR hnd hdis hk1 hF hP1 hD1
  exact kk r u H1 locs1 hw hP2 hD2 hS1
end FGV
end
section
/-! THE TWO WORLDS and a row for each field and array of theirs (printed by gen/mkrows.py) -/
/-- FactorGraph: its object (h 0) and seven arrays -/
abbrev fg_wX (h : Nat → Nat) (dA dL : ClassId) (fa : Int32) (ar va we gi fi : Nat → Int32) (tb : Int32) (sc : Nat → Int32) (ta : Nat → Int64) : va_W := [(h 0, .inr (0, [.int fa, .ref (h 1), .ref (h 2), .ref (h 3), .ref (h 4), .ref (h 5), .int tb, .ref (h 6), .ref (h 7)])), (h 1, .inl (dA, 7, .inl ar)), (h 2, .inl (dA, 21, .inl va)), (h 3, .inl (dA, 56, .inl we)), (h 4, .inl (dA, 7, .inl gi)), (h 5, .inl (dA, 7, .inl fi)), (h 6, .inl (dA, 16, .inl sc)), (h 7, .inl (dL, 2048, .inr (.inl ta)))]
/-- FactorGraphModel: its object (g 0) and three arrays -/
abbrev fg_wM (g : Nat → Nat) (dA : ClassId) (fa : Int32) (va we gi : Nat → Int32) : va_W := [(g 0, .inr (1, [.int fa, .ref (g 1), .ref (g 2), .ref (g 3)])), (g 1, .inl (dA, 21, .inl va)), (g 2, .inl (dA, 56, .inl we)), (g 3, .inl (dA, 7, .inl gi))]
abbrev fg_tX (dA dL : ClassId) : List (ClassId × FieldType) := [(dA, .int), (dL, .long)]
abbrev fg_tM (dA : ClassId) : List (ClassId × FieldType) := [(dA, .int)]
section FGR
variable {p : Program} {l : Launch} {e : Env} {R : Room} {s : State} {m : MethodId} {args : Array Value} {below : List Frame} {meth : Method} {c : Code} {H H0 : Heap} {locs : List Loc} {cells slots : Nat} {Q : State → Prop}
variable {cc : ByteArray} {pc : Nat} {ls : Array Slot} {rest : List Value} {A : Nat → Prop} {D : va_G}
variable {h g : Nat → Nat} {dA dL : ClassId} {fa : Int32} {ar va we gi fi : Nat → Int32} {tb : Int32} {sc : Nat → Int32} {ta : Nat → Int64}
theorem gx_factors (hx : p.tables.exec = Jvm.exec) (hb : c.code = cc) (hts : ∀ w ∈ lw_all, w.before args s = true) (hown : s.vm.findClass RX0 = some m.cls) (hK : va_K D vwCl (fg_tX dA dL) s) (hP : va_P D vwCl (fg_wX h dA dL fa ar va we gi fi tb sc ta) H) (d : decode cc pc = .ok (.getfield 36, 3)) (kk : W p l e R s m args below meth c H locs cells slots Q (F0 m (pc + 3) ls (.int fa :: rest))) : W p l e R s m args below meth c H locs cells slots Q (F0 m pc ls (.ref (h 0) :: rest)) :=
  va_get (D := D) (ci := 0) (v := .int fa) (C := RX0) (T := TX0) (N := 9) hx hb hts in_X0 hown hK hP 0 rfl rfl 0 (by decide) (hts _ q27) (fun _ h9 => h9) rfl d kk
theorem gx_arity (hx : p.tables.exec = Jvm.exec) (hb : c.code = cc) (hts : ∀ w ∈ lw_all, w.before args s = true) (hown : s.vm.findClass RX0 = some m.cls) (hK : va_K D vwCl (fg_tX dA dL) s) (hP : va_P D vwCl (fg_wX h dA dL fa ar va we gi fi tb sc ta) H) (d : decode cc pc = .ok (.getfield 7, 3)) (kk : W p l e R s m args below meth c H locs cells slots Q (F0 m (pc + 3) ls (.ref (h 1) :: rest))) : W p l e R s m args below meth c H locs cells slots Q (F0 m pc ls (.ref (h 0) :: rest)) :=
  va_get (D := D) (ci := 0) (v := .ref (h 1)) (C := RX0) (T := TX0) (N := 9) hx hb hts in_X0 hown hK hP 0 rfl rfl 1 (by decide) (hts _ q28) (fun _ h9 => h9) rfl d kk
theorem gx_variables (hx : p.tables.exec = Jvm.exec) (hb : c.code = cc) (hts : ∀ w ∈ lw_all, w.before args s = true) (hown : s.vm.findClass RX0 = some m.cls) (hK : va_K D vwCl (fg_tX dA dL) s) (hP : va_P D vwCl (fg_wX h dA dL fa ar va we gi fi tb sc ta) H) (d : decode cc pc = .ok (.getfield 13, 3)) (kk : W p l e R s m args below meth c H locs cells slots Q (F0 m (pc + 3) ls (.ref (h 2) :: rest))) : W p l e R s m args below meth c H locs cells slots Q (F0 m pc ls (.ref (h 0) :: rest)) :=
  va_get (D := D) (ci := 0) (v := .ref (h 2)) (C := RX0) (T := TX0) (N := 9) hx hb hts in_X0 hown hK hP 0 rfl rfl 2 (by decide) (hts _ q29) (fun _ h9 => h9) rfl d kk
theorem gx_weights (hx : p.tables.exec = Jvm.exec) (hb : c.code = cc) (hts : ∀ w ∈ lw_all, w.before args s = true) (hown : s.vm.findClass RX0 = some m.cls) (hK : va_K D vwCl (fg_tX dA dL) s) (hP : va_P D vwCl (fg_wX h dA dL fa ar va we gi fi tb sc ta) H) (d : decode cc pc = .ok (.getfield 16, 3)) (kk : W p l e R s m args below meth c H locs cells slots Q (F0 m (pc + 3) ls (.ref (h 3) :: rest))) : W p l e R s m args below meth c H locs cells slots Q (F0 m pc ls (.ref (h 0) :: rest)) :=
  va_get (D := D) (ci := 0) (v := .ref (h 3)) (C := RX0) (T := TX0) (N := 9) hx hb hts in_X0 hown hK hP 0 rfl rfl 3 (by decide) (hts _ q30) (fun _ h9 => h9) rfl d kk
theorem gx_given (hx : p.tables.exec = Jvm.exec) (hb : c.code = cc) (hts : ∀ w ∈ lw_all, w.before args s = true) (hown : s.vm.findClass RX0 = some m.cls) (hK : va_K D vwCl (fg_tX dA dL) s) (hP : va_P D vwCl (fg_wX h dA dL fa ar va we gi fi tb sc ta) H) (d : decode cc pc = .ok (.getfield 19, 3)) (kk : W p l e R s m args below meth c H locs cells slots Q (F0 m (pc + 3) ls (.ref (h 4) :: rest))) : W p l e R s m args below meth c H locs cells slots Q (F0 m pc ls (.ref (h 0) :: rest)) :=
  va_get (D := D) (ci := 0) (v := .ref (h 4)) (C := RX0) (T := TX0) (N := 9) hx hb hts in_X0 hown hK hP 0 rfl rfl 4 (by decide) (hts _ q31) (fun _ h9 => h9) rfl d kk
theorem gx_fixed (hx : p.tables.exec = Jvm.exec) (hb : c.code = cc) (hts : ∀ w ∈ lw_all, w.before args s = true) (hown : s.vm.findClass RX0 = some m.cls) (hK : va_K D vwCl (fg_tX dA dL) s) (hP : va_P D vwCl (fg_wX h dA dL fa ar va we gi fi tb sc ta) H) (d : decode cc pc = .ok (.getfield 22, 3)) (kk : W p l e R s m args below meth c H locs cells slots Q (F0 m (pc + 3) ls (.ref (h 5) :: rest))) : W p l e R s m args below meth c H locs cells slots Q (F0 m pc ls (.ref (h 0) :: rest)) :=
  va_get (D := D) (ci := 0) (v := .ref (h 5)) (C := RX0) (T := TX0) (N := 9) hx hb hts in_X0 hown hK hP 0 rfl rfl 5 (by decide) (hts _ q32) (fun _ h9 => h9) rfl d kk
theorem gx_tables (hx : p.tables.exec = Jvm.exec) (hb : c.code = cc) (hts : ∀ w ∈ lw_all, w.before args s = true) (hown : s.vm.findClass RX0 = some m.cls) (hK : va_K D vwCl (fg_tX dA dL) s) (hP : va_P D vwCl (fg_wX h dA dL fa ar va we gi fi tb sc ta) H) (d : decode cc pc = .ok (.getfield 44, 3)) (kk : W p l e R s m args below meth c H locs cells slots Q (F0 m (pc + 3) ls (.int tb :: rest))) : W p l e R s m args below meth c H locs cells slots Q (F0 m pc ls (.ref (h 0) :: rest)) :=
  va_get (D := D) (ci := 0) (v := .int tb) (C := RX0) (T := TX0) (N := 9) hx hb hts in_X0 hown hK hP 0 rfl rfl 6 (by decide) (hts _ q33) (fun _ h9 => h9) rfl d kk
theorem gx_scope (hx : p.tables.exec = Jvm.exec) (hb : c.code = cc) (hts : ∀ w ∈ lw_all, w.before args s = true) (hown : s.vm.findClass RX0 = some m.cls) (hK : va_K D vwCl (fg_tX dA dL) s) (hP : va_P D vwCl (fg_wX h dA dL fa ar va we gi fi tb sc ta) H) (d : decode cc pc = .ok (.getfield 25, 3)) (kk : W p l e R s m args below meth c H locs cells slots Q (F0 m (pc + 3) ls (.ref (h 6) :: rest))) : W p l e R s m args below meth c H locs cells slots Q (F0 m pc ls (.ref (h 0) :: rest)) :=
  va_get (D := D) (ci := 0) (v := .ref (h 6)) (C := RX0) (T := TX0) (N := 9) hx hb hts in_X0 hown hK hP 0 rfl rfl 7 (by decide) (hts _ q34) (fun _ h9 => h9) rfl d kk
theorem gx_table (hx : p.tables.exec = Jvm.exec) (hb : c.code = cc) (hts : ∀ w ∈ lw_all, w.before args s = true) (hown : s.vm.findClass RX0 = some m.cls) (hK : va_K D vwCl (fg_tX dA dL) s) (hP : va_P D vwCl (fg_wX h dA dL fa ar va we gi fi tb sc ta) H) (d : decode cc pc = .ok (.getfield 28, 3)) (kk : W p l e R s m args below meth c H locs cells slots Q (F0 m (pc + 3) ls (.ref (h 7) :: rest))) : W p l e R s m args below meth c H locs cells slots Q (F0 m pc ls (.ref (h 0) :: rest)) :=
  va_get (D := D) (ci := 0) (v := .ref (h 7)) (C := RX0) (T := TX0) (N := 9) hx hb hts in_X0 hown hK hP 0 rfl rfl 8 (by decide) (hts _ q35) (fun _ h9 => h9) rfl d kk
theorem px_factors (hx : p.tables.exec = Jvm.exec) (hb : c.code = cc) (hts : ∀ w ∈ lw_all, w.before args s = true) (hown : s.vm.findClass RX0 = some m.cls) (hK : va_K D vwCl (fg_tX dA dL) s) (hP : va_P D vwCl (fg_wX h dA dL fa ar va we gi fi tb sc ta) H) (hD : va_D A (fg_wX h dA dL fa ar va we gi fi tb sc ta)) (hS : va_S A H0 H locs) {x : Int32} (d : decode cc pc = .ok (.putfield 36, 3)) (kk : ∀ (H : Heap) (locs : List Loc), va_P D vwCl (fg_wX h dA dL x ar va we gi fi tb sc ta) H → va_D A (fg_wX h dA dL x ar va we gi fi tb sc ta) → va_S A H0 H locs → W p l e R s m args below meth c H locs cells slots Q (F0 m (pc + 3) ls rest)) : W p l e R s m args below meth c H locs cells slots Q (F0 m pc ls (.int x :: .ref (h 0) :: rest)) :=
  va_put (D := D) (ci := 0) (v := .int x) (ty := .int) (C := RX0) (T := TX0) (N := 9) hx hb hts in_X0 tyX0 tyX0_ok nmX0 hown hK hP hD hS 0 rfl rfl 0 (by decide) (hts _ q27) (fun _ h9 => h9) rfl (by decide +kernel) rfl rfl (Nat.le_of_ble_eq_true rfl) d (fun H locs hP hD hS => kk H locs hP hD hS)
theorem px_tables (hx : p.tables.exec = Jvm.exec) (hb : c.code = cc) (hts : ∀ w ∈ lw_all, w.before args s = true) (hown : s.vm.findClass RX0 = some m.cls) (hK : va_K D vwCl (fg_tX dA dL) s) (hP : va_P D vwCl (fg_wX h dA dL fa ar va we gi fi tb sc ta) H) (hD : va_D A (fg_wX h dA dL fa ar va we gi fi tb sc ta)) (hS : va_S A H0 H locs) {x : Int32} (d : decode cc pc = .ok (.putfield 44, 3)) (kk : ∀ (H : Heap) (locs : List Loc), va_P D vwCl (fg_wX h dA dL fa ar va we gi fi x sc ta) H → va_D A (fg_wX h dA dL fa ar va we gi fi x sc ta) → va_S A H0 H locs → W p l e R s m args below meth c H locs cells slots Q (F0 m (pc + 3) ls rest)) : W p l e R s m args below meth c H locs cells slots Q (F0 m pc ls (.int x :: .ref (h 0) :: rest)) :=
  va_put (D := D) (ci := 0) (v := .int x) (ty := .int) (C := RX0) (T := TX0) (N := 9) hx hb hts in_X0 tyX0 tyX0_ok nmX0 hown hK hP hD hS 0 rfl rfl 6 (by decide) (hts _ q33) (fun _ h9 => h9) rfl (by decide +kernel) rfl rfl (Nat.le_of_ble_eq_true rfl) d (fun H locs hP hD hS => kk H locs hP hD hS)
theorem lx_arity (hx : p.tables.exec = Jvm.exec) (hb : c.code = cc) (hK : va_K D vwCl (fg_tX dA dL) s) (hP : va_P D vwCl (fg_wX h dA dL fa ar va we gi fi tb sc ta) H) {j : Nat} (hj : j < 7) (d : decode cc pc = .ok (.iaload, 1)) (kk : W p l e R s m args below meth c H locs cells slots Q (F0 m (pc + 1) ls (.int (ar j) :: rest))) : W p l e R s m args below meth c H locs cells slots Q (F0 m pc ls (.int (nI j) :: .ref (h 1) :: rest)) := by
  refine va_iald hx hb hK hP 1 0 rfl rfl (vp_in_nI hj (by decide)) d ?_
  rw [nI_clamp (Nat.lt_trans hj (by decide))]
  exact kk
theorem sx_arity (hx : p.tables.exec = Jvm.exec) (hb : c.code = cc) (hK : va_K D vwCl (fg_tX dA dL) s) (hP : va_P D vwCl (fg_wX h dA dL fa ar va we gi fi tb sc ta) H) (hD : va_D A (fg_wX h dA dL fa ar va we gi fi tb sc ta)) (hS : va_S A H0 H locs) {j : Nat} {x : Int32} (hj : j < 7) (d : decode cc pc = .ok (.iastore, 1)) (kk : ∀ (H : Heap) (locs : List Loc), va_P D vwCl (fg_wX h dA dL fa (upd ar j x) va we gi fi tb sc ta) H → va_D A (fg_wX h dA dL fa (upd ar j x) va we gi fi tb sc ta) → va_S A H0 H locs → W p l e R s m args below meth c H locs cells slots Q (F0 m (pc + 1) ls rest)) : W p l e R s m args below meth c H locs cells slots Q (F0 m pc ls (.int x :: .int (nI j) :: .ref (h 1) :: rest)) := by
  refine va_iast hx hb hK hP hD hS 1 0 rfl rfl (vp_in_nI hj (by decide)) d (fun H locs hP hD hS => ?_)
  rw [nI_clamp (Nat.lt_trans hj (by decide))] at hP hD
  exact kk H locs hP hD hS
theorem lx_variables (hx : p.tables.exec = Jvm.exec) (hb : c.code = cc) (hK : va_K D vwCl (fg_tX dA dL) s) (hP : va_P D vwCl (fg_wX h dA dL fa ar va we gi fi tb sc ta) H) {j : Nat} (hj : j < 21) (d : decode cc pc = .ok (.iaload, 1)) (kk : W p l e R s m args below meth c H locs cells slots Q (F0 m (pc + 1) ls (.int (va j) :: rest))) : W p l e R s m args below meth c H locs cells slots Q (F0 m pc ls (.int (nI j) :: .ref (h 2) :: rest)) := by
  refine va_iald hx hb hK hP 2 0 rfl rfl (vp_in_nI hj (by decide)) d ?_
  rw [nI_clamp (Nat.lt_trans hj (by decide))]
  exact kk
theorem sx_variables (hx : p.tables.exec = Jvm.exec) (hb : c.code = cc) (hK : va_K D vwCl (fg_tX dA dL) s) (hP : va_P D vwCl (fg_wX h dA dL fa ar va we gi fi tb sc ta) H) (hD : va_D A (fg_wX h dA dL fa ar va we gi fi tb sc ta)) (hS : va_S A H0 H locs) {j : Nat} {x : Int32} (hj : j < 21) (d : decode cc pc = .ok (.iastore, 1)) (kk : ∀ (H : Heap) (locs : List Loc), va_P D vwCl (fg_wX h dA dL fa ar (upd va j x) we gi fi tb sc ta) H → va_D A (fg_wX h dA dL fa ar (upd va j x) we gi fi tb sc ta) → va_S A H0 H locs → W p l e R s m args below meth c H locs cells slots Q (F0 m (pc + 1) ls rest)) : W p l e R s m args below meth c H locs cells slots Q (F0 m pc ls (.int x :: .int (nI j) :: .ref (h 2) :: rest)) := by
  refine va_iast hx hb hK hP hD hS 2 0 rfl rfl (vp_in_nI hj (by decide)) d (fun H locs hP hD hS => ?_)
  rw [nI_clamp (Nat.lt_trans hj (by decide))] at hP hD
  exact kk H locs hP hD hS
theorem lx_weights (hx : p.tables.exec = Jvm.exec) (hb : c.code = cc) (hK : va_K D vwCl (fg_tX dA dL) s) (hP : va_P D vwCl (fg_wX h dA dL fa ar va we gi fi tb sc ta) H) {j : Nat} (hj : j < 56) (d : decode cc pc = .ok (.iaload, 1)) (kk : W p l e R s m args below meth c H locs cells slots Q (F0 m (pc + 1) ls (.int (we j) :: rest))) : W p l e R s m args below meth c H locs cells slots Q (F0 m pc ls (.int (nI j) :: .ref (h 3) :: rest)) := by
  refine va_iald hx hb hK hP 3 0 rfl rfl (vp_in_nI hj (by decide)) d ?_
  rw [nI_clamp (Nat.lt_trans hj (by decide))]
  exact kk
theorem sx_weights (hx : p.tables.exec = Jvm.exec) (hb : c.code = cc) (hK : va_K D vwCl (fg_tX dA dL) s) (hP : va_P D vwCl (fg_wX h dA dL fa ar va we gi fi tb sc ta) H) (hD : va_D A (fg_wX h dA dL fa ar va we gi fi tb sc ta)) (hS : va_S A H0 H locs) {j : Nat} {x : Int32} (hj : j < 56) (d : decode cc pc = .ok (.iastore, 1)) (kk : ∀ (H : Heap) (locs : List Loc), va_P D vwCl (fg_wX h dA dL fa ar va (upd we j x) gi fi tb sc ta) H → va_D A (fg_wX h dA dL fa ar va (upd we j x) gi fi tb sc ta) → va_S A H0 H locs → W p l e R s m args below meth c H locs cells slots Q (F0 m (pc + 1) ls rest)) : W p l e R s m args below meth c H locs cells slots Q (F0 m pc ls (.int x :: .int (nI j) :: .ref (h 3) :: rest)) := by
  refine va_iast hx hb hK hP hD hS 3 0 rfl rfl (vp_in_nI hj (by decide)) d (fun H locs hP hD hS => ?_)
  rw [nI_clamp (Nat.lt_trans hj (by decide))] at hP hD
  exact kk H locs hP hD hS
theorem lx_given (hx : p.tables.exec = Jvm.exec) (hb : c.code = cc) (hK : va_K D vwCl (fg_tX dA dL) s) (hP : va_P D vwCl (fg_wX h dA dL fa ar va we gi fi tb sc ta) H) {j : Nat} (hj : j < 7) (d : decode cc pc = .ok (.iaload, 1)) (kk : W p l e R s m args below meth c H locs cells slots Q (F0 m (pc + 1) ls (.int (gi j) :: rest))) : W p l e R s m args below meth c H locs cells slots Q (F0 m pc ls (.int (nI j) :: .ref (h 4) :: rest)) := by
  refine va_iald hx hb hK hP 4 0 rfl rfl (vp_in_nI hj (by decide)) d ?_
  rw [nI_clamp (Nat.lt_trans hj (by decide))]
  exact kk
theorem sx_given (hx : p.tables.exec = Jvm.exec) (hb : c.code = cc) (hK : va_K D vwCl (fg_tX dA dL) s) (hP : va_P D vwCl (fg_wX h dA dL fa ar va we gi fi tb sc ta) H) (hD : va_D A (fg_wX h dA dL fa ar va we gi fi tb sc ta)) (hS : va_S A H0 H locs) {j : Nat} {x : Int32} (hj : j < 7) (d : decode cc pc = .ok (.iastore, 1)) (kk : ∀ (H : Heap) (locs : List Loc), va_P D vwCl (fg_wX h dA dL fa ar va we (upd gi j x) fi tb sc ta) H → va_D A (fg_wX h dA dL fa ar va we (upd gi j x) fi tb sc ta) → va_S A H0 H locs → W p l e R s m args below meth c H locs cells slots Q (F0 m (pc + 1) ls rest)) : W p l e R s m args below meth c H locs cells slots Q (F0 m pc ls (.int x :: .int (nI j) :: .ref (h 4) :: rest)) := by
  refine va_iast hx hb hK hP hD hS 4 0 rfl rfl (vp_in_nI hj (by decide)) d (fun H locs hP hD hS => ?_)
  rw [nI_clamp (Nat.lt_trans hj (by decide))] at hP hD
  exact kk H locs hP hD hS
theorem lx_fixed (hx : p.tables.exec = Jvm.exec) (hb : c.code = cc) (hK : va_K D vwCl (fg_tX dA dL) s) (hP : va_P D vwCl (fg_wX h dA dL fa ar va we gi fi tb sc ta) H) {j : Nat} (hj : j < 7) (d : decode cc pc = .ok (.iaload, 1)) (kk : W p l e R s m args below meth c H locs cells slots Q (F0 m (pc + 1) ls (.int (fi j) :: rest))) : W p l e R s m args below meth c H locs cells slots Q (F0 m pc ls (.int (nI j) :: .ref (h 5) :: rest)) := by
  refine va_iald hx hb hK hP 5 0 rfl rfl (vp_in_nI hj (by decide)) d ?_
  rw [nI_clamp (Nat.lt_trans hj (by decide))]
  exact kk
theorem sx_fixed (hx : p.tables.exec = Jvm.exec) (hb : c.code = cc) (hK : va_K D vwCl (fg_tX dA dL) s) (hP : va_P D vwCl (fg_wX h dA dL fa ar va we gi fi tb sc ta) H) (hD : va_D A (fg_wX h dA dL fa ar va we gi fi tb sc ta)) (hS : va_S A H0 H locs) {j : Nat} {x : Int32} (hj : j < 7) (d : decode cc pc = .ok (.iastore, 1)) (kk : ∀ (H : Heap) (locs : List Loc), va_P D vwCl (fg_wX h dA dL fa ar va we gi (upd fi j x) tb sc ta) H → va_D A (fg_wX h dA dL fa ar va we gi (upd fi j x) tb sc ta) → va_S A H0 H locs → W p l e R s m args below meth c H locs cells slots Q (F0 m (pc + 1) ls rest)) : W p l e R s m args below meth c H locs cells slots Q (F0 m pc ls (.int x :: .int (nI j) :: .ref (h 5) :: rest)) := by
  refine va_iast hx hb hK hP hD hS 5 0 rfl rfl (vp_in_nI hj (by decide)) d (fun H locs hP hD hS => ?_)
  rw [nI_clamp (Nat.lt_trans hj (by decide))] at hP hD
  exact kk H locs hP hD hS
theorem lx_scope (hx : p.tables.exec = Jvm.exec) (hb : c.code = cc) (hK : va_K D vwCl (fg_tX dA dL) s) (hP : va_P D vwCl (fg_wX h dA dL fa ar va we gi fi tb sc ta) H) {j : Nat} (hj : j < 16) (d : decode cc pc = .ok (.iaload, 1)) (kk : W p l e R s m args below meth c H locs cells slots Q (F0 m (pc + 1) ls (.int (sc j) :: rest))) : W p l e R s m args below meth c H locs cells slots Q (F0 m pc ls (.int (nI j) :: .ref (h 6) :: rest)) := by
  refine va_iald hx hb hK hP 6 0 rfl rfl (vp_in_nI hj (by decide)) d ?_
  rw [nI_clamp (Nat.lt_trans hj (by decide))]
  exact kk
theorem sx_scope (hx : p.tables.exec = Jvm.exec) (hb : c.code = cc) (hK : va_K D vwCl (fg_tX dA dL) s) (hP : va_P D vwCl (fg_wX h dA dL fa ar va we gi fi tb sc ta) H) (hD : va_D A (fg_wX h dA dL fa ar va we gi fi tb sc ta)) (hS : va_S A H0 H locs) {j : Nat} {x : Int32} (hj : j < 16) (d : decode cc pc = .ok (.iastore, 1)) (kk : ∀ (H : Heap) (locs : List Loc), va_P D vwCl (fg_wX h dA dL fa ar va we gi fi tb (upd sc j x) ta) H → va_D A (fg_wX h dA dL fa ar va we gi fi tb (upd sc j x) ta) → va_S A H0 H locs → W p l e R s m args below meth c H locs cells slots Q (F0 m (pc + 1) ls rest)) : W p l e R s m args below meth c H locs cells slots Q (F0 m pc ls (.int x :: .int (nI j) :: .ref (h 6) :: rest)) := by
  refine va_iast hx hb hK hP hD hS 6 0 rfl rfl (vp_in_nI hj (by decide)) d (fun H locs hP hD hS => ?_)
  rw [nI_clamp (Nat.lt_trans hj (by decide))] at hP hD
  exact kk H locs hP hD hS
theorem lx_table (hx : p.tables.exec = Jvm.exec) (hb : c.code = cc) (hK : va_K D vwCl (fg_tX dA dL) s) (hP : va_P D vwCl (fg_wX h dA dL fa ar va we gi fi tb sc ta) H) {j : Nat} (hj : j < 2048) (d : decode cc pc = .ok (.laload, 1)) (kk : W p l e R s m args below meth c H locs cells slots Q (F0 m (pc + 1) ls (.long (ta j) :: rest))) : W p l e R s m args below meth c H locs cells slots Q (F0 m pc ls (.int (nI j) :: .ref (h 7) :: rest)) := by
  refine va_lald hx hb hK hP 7 1 rfl rfl (vp_in_nI hj (by decide)) d ?_
  rw [nI_clamp (Nat.lt_trans hj (by decide))]
  exact kk
theorem sx_table (hx : p.tables.exec = Jvm.exec) (hb : c.code = cc) (hK : va_K D vwCl (fg_tX dA dL) s) (hP : va_P D vwCl (fg_wX h dA dL fa ar va we gi fi tb sc ta) H) (hD : va_D A (fg_wX h dA dL fa ar va we gi fi tb sc ta)) (hS : va_S A H0 H locs) {j : Nat} {x : Int64} (hj : j < 2048) (d : decode cc pc = .ok (.lastore, 1)) (kk : ∀ (H : Heap) (locs : List Loc), va_P D vwCl (fg_wX h dA dL fa ar va we gi fi tb sc (vp_updL ta j x)) H → va_D A (fg_wX h dA dL fa ar va we gi fi tb sc (vp_updL ta j x)) → va_S A H0 H locs → W p l e R s m args below meth c H locs cells slots Q (F0 m (pc + 1) ls rest)) : W p l e R s m args below meth c H locs cells slots Q (F0 m pc ls (.long x :: .int (nI j) :: .ref (h 7) :: rest)) := by
  refine va_last hx hb hK hP hD hS 7 1 rfl rfl (vp_in_nI hj (by decide)) d (fun H locs hP hD hS => ?_)
  rw [nI_clamp (Nat.lt_trans hj (by decide))] at hP hD
  exact kk H locs hP hD hS
theorem gm_factors (hx : p.tables.exec = Jvm.exec) (hb : c.code = cc) (hts : ∀ w ∈ lw_all, w.before args s = true) (hown : s.vm.findClass RX1 = some m.cls) (hK : va_K D vwCl (fg_tM dA) s) (hP : va_P D vwCl (fg_wM g dA fa va we gi) H) (d : decode cc pc = .ok (.getfield 23, 3)) (kk : W p l e R s m args below meth c H locs cells slots Q (F0 m (pc + 3) ls (.int fa :: rest))) : W p l e R s m args below meth c H locs cells slots Q (F0 m pc ls (.ref (g 0) :: rest)) :=
  va_get (D := D) (ci := 1) (v := .int fa) (C := RX1) (T := TX1) (N := 4) hx hb hts in_X1 hown hK hP 0 rfl rfl 0 (by decide) (hts _ q157) (fun _ h9 => h9) rfl d kk
theorem gm_vars (hx : p.tables.exec = Jvm.exec) (hb : c.code = cc) (hts : ∀ w ∈ lw_all, w.before args s = true) (hown : s.vm.findClass RX1 = some m.cls) (hK : va_K D vwCl (fg_tM dA) s) (hP : va_P D vwCl (fg_wM g dA fa va we gi) H) (d : decode cc pc = .ok (.getfield 7, 3)) (kk : W p l e R s m args below meth c H locs cells slots Q (F0 m (pc + 3) ls (.ref (g 1) :: rest))) : W p l e R s m args below meth c H locs cells slots Q (F0 m pc ls (.ref (g 0) :: rest)) :=
  va_get (D := D) (ci := 1) (v := .ref (g 1)) (C := RX1) (T := TX1) (N := 4) hx hb hts in_X1 hown hK hP 0 rfl rfl 1 (by decide) (hts _ q158) (fun _ h9 => h9) rfl d kk
theorem gm_weights (hx : p.tables.exec = Jvm.exec) (hb : c.code = cc) (hts : ∀ w ∈ lw_all, w.before args s = true) (hown : s.vm.findClass RX1 = some m.cls) (hK : va_K D vwCl (fg_tM dA) s) (hP : va_P D vwCl (fg_wM g dA fa va we gi) H) (d : decode cc pc = .ok (.getfield 13, 3)) (kk : W p l e R s m args below meth c H locs cells slots Q (F0 m (pc + 3) ls (.ref (g 2) :: rest))) : W p l e R s m args below meth c H locs cells slots Q (F0 m pc ls (.ref (g 0) :: rest)) :=
  va_get (D := D) (ci := 1) (v := .ref (g 2)) (C := RX1) (T := TX1) (N := 4) hx hb hts in_X1 hown hK hP 0 rfl rfl 2 (by decide) (hts _ q159) (fun _ h9 => h9) rfl d kk
theorem gm_fixed (hx : p.tables.exec = Jvm.exec) (hb : c.code = cc) (hts : ∀ w ∈ lw_all, w.before args s = true) (hown : s.vm.findClass RX1 = some m.cls) (hK : va_K D vwCl (fg_tM dA) s) (hP : va_P D vwCl (fg_wM g dA fa va we gi) H) (d : decode cc pc = .ok (.getfield 16, 3)) (kk : W p l e R s m args below meth c H locs cells slots Q (F0 m (pc + 3) ls (.ref (g 3) :: rest))) : W p l e R s m args below meth c H locs cells slots Q (F0 m pc ls (.ref (g 0) :: rest)) :=
  va_get (D := D) (ci := 1) (v := .ref (g 3)) (C := RX1) (T := TX1) (N := 4) hx hb hts in_X1 hown hK hP 0 rfl rfl 3 (by decide) (hts _ q160) (fun _ h9 => h9) rfl d kk
theorem pm_factors (hx : p.tables.exec = Jvm.exec) (hb : c.code = cc) (hts : ∀ w ∈ lw_all, w.before args s = true) (hown : s.vm.findClass RX1 = some m.cls) (hK : va_K D vwCl (fg_tM dA) s) (hP : va_P D vwCl (fg_wM g dA fa va we gi) H) (hD : va_D A (fg_wM g dA fa va we gi)) (hS : va_S A H0 H locs) {x : Int32} (d : decode cc pc = .ok (.putfield 23, 3)) (kk : ∀ (H : Heap) (locs : List Loc), va_P D vwCl (fg_wM g dA x va we gi) H → va_D A (fg_wM g dA x va we gi) → va_S A H0 H locs → W p l e R s m args below meth c H locs cells slots Q (F0 m (pc + 3) ls rest)) : W p l e R s m args below meth c H locs cells slots Q (F0 m pc ls (.int x :: .ref (g 0) :: rest)) :=
  va_put (D := D) (ci := 1) (v := .int x) (ty := .int) (C := RX1) (T := TX1) (N := 4) hx hb hts in_X1 tyX1 tyX1_ok nmX1 hown hK hP hD hS 0 rfl rfl 0 (by decide) (hts _ q157) (fun _ h9 => h9) rfl (by decide +kernel) rfl rfl (Nat.le_of_ble_eq_true rfl) d (fun H locs hP hD hS => kk H locs hP hD hS)
theorem lm_vars (hx : p.tables.exec = Jvm.exec) (hb : c.code = cc) (hK : va_K D vwCl (fg_tM dA) s) (hP : va_P D vwCl (fg_wM g dA fa va we gi) H) {j : Nat} (hj : j < 21) (d : decode cc pc = .ok (.iaload, 1)) (kk : W p l e R s m args below meth c H locs cells slots Q (F0 m (pc + 1) ls (.int (va j) :: rest))) : W p l e R s m args below meth c H locs cells slots Q (F0 m pc ls (.int (nI j) :: .ref (g 1) :: rest)) := by
  refine va_iald hx hb hK hP 1 0 rfl rfl (vp_in_nI hj (by decide)) d ?_
  rw [nI_clamp (Nat.lt_trans hj (by decide))]
  exact kk
theorem sm_vars (hx : p.tables.exec = Jvm.exec) (hb : c.code = cc) (hK : va_K D vwCl (fg_tM dA) s) (hP : va_P D vwCl (fg_wM g dA fa va we gi) H) (hD : va_D A (fg_wM g dA fa va we gi)) (hS : va_S A H0 H locs) {j : Nat} {x : Int32} (hj : j < 21) (d : decode cc pc = .ok (.iastore, 1)) (kk : ∀ (H : Heap) (locs : List Loc), va_P D vwCl (fg_wM g dA fa (upd va j x) we gi) H → va_D A (fg_wM g dA fa (upd va j x) we gi) → va_S A H0 H locs → W p l e R s m args below meth c H locs cells slots Q (F0 m (pc + 1) ls rest)) : W p l e R s m args below meth c H locs cells slots Q (F0 m pc ls (.int x :: .int (nI j) :: .ref (g 1) :: rest)) := by
  refine va_iast hx hb hK hP hD hS 1 0 rfl rfl (vp_in_nI hj (by decide)) d (fun H locs hP hD hS => ?_)
  rw [nI_clamp (Nat.lt_trans hj (by decide))] at hP hD
  exact kk H locs hP hD hS
theorem lm_weights (hx : p.tables.exec = Jvm.exec) (hb : c.code = cc) (hK : va_K D vwCl (fg_tM dA) s) (hP : va_P D vwCl (fg_wM g dA fa va we gi) H) {j : Nat} (hj : j < 56) (d : decode cc pc = .ok (.iaload, 1)) (kk : W p l e R s m args below meth c H locs cells slots Q (F0 m (pc + 1) ls (.int (we j) :: rest))) : W p l e R s m args below meth c H locs cells slots Q (F0 m pc ls (.int (nI j) :: .ref (g 2) :: rest)) := by
  refine va_iald hx hb hK hP 2 0 rfl rfl (vp_in_nI hj (by decide)) d ?_
  rw [nI_clamp (Nat.lt_trans hj (by decide))]
  exact kk
theorem sm_weights (hx : p.tables.exec = Jvm.exec) (hb : c.code = cc) (hK : va_K D vwCl (fg_tM dA) s) (hP : va_P D vwCl (fg_wM g dA fa va we gi) H) (hD : va_D A (fg_wM g dA fa va we gi)) (hS : va_S A H0 H locs) {j : Nat} {x : Int32} (hj : j < 56) (d : decode cc pc = .ok (.iastore, 1)) (kk : ∀ (H : Heap) (locs : List Loc), va_P D vwCl (fg_wM g dA fa va (upd we j x) gi) H → va_D A (fg_wM g dA fa va (upd we j x) gi) → va_S A H0 H locs → W p l e R s m args below meth c H locs cells slots Q (F0 m (pc + 1) ls rest)) : W p l e R s m args below meth c H locs cells slots Q (F0 m pc ls (.int x :: .int (nI j) :: .ref (g 2) :: rest)) := by
  refine va_iast hx hb hK hP hD hS 2 0 rfl rfl (vp_in_nI hj (by decide)) d (fun H locs hP hD hS => ?_)
  rw [nI_clamp (Nat.lt_trans hj (by decide))] at hP hD
  exact kk H locs hP hD hS
theorem lm_fixed (hx : p.tables.exec = Jvm.exec) (hb : c.code = cc) (hK : va_K D vwCl (fg_tM dA) s) (hP : va_P D vwCl (fg_wM g dA fa va we gi) H) {j : Nat} (hj : j < 7) (d : decode cc pc = .ok (.iaload, 1)) (kk : W p l e R s m args below meth c H locs cells slots Q (F0 m (pc + 1) ls (.int (gi j) :: rest))) : W p l e R s m args below meth c H locs cells slots Q (F0 m pc ls (.int (nI j) :: .ref (g 3) :: rest)) := by
  refine va_iald hx hb hK hP 3 0 rfl rfl (vp_in_nI hj (by decide)) d ?_
  rw [nI_clamp (Nat.lt_trans hj (by decide))]
  exact kk
theorem sm_fixed (hx : p.tables.exec = Jvm.exec) (hb : c.code = cc) (hK : va_K D vwCl (fg_tM dA) s) (hP : va_P D vwCl (fg_wM g dA fa va we gi) H) (hD : va_D A (fg_wM g dA fa va we gi)) (hS : va_S A H0 H locs) {j : Nat} {x : Int32} (hj : j < 7) (d : decode cc pc = .ok (.iastore, 1)) (kk : ∀ (H : Heap) (locs : List Loc), va_P D vwCl (fg_wM g dA fa va we (upd gi j x)) H → va_D A (fg_wM g dA fa va we (upd gi j x)) → va_S A H0 H locs → W p l e R s m args below meth c H locs cells slots Q (F0 m (pc + 1) ls rest)) : W p l e R s m args below meth c H locs cells slots Q (F0 m pc ls (.int x :: .int (nI j) :: .ref (g 3) :: rest)) := by
  refine va_iast hx hb hK hP hD hS 3 0 rfl rfl (vp_in_nI hj (by decide)) d (fun H locs hP hD hS => ?_)
  rw [nI_clamp (Nat.lt_trans hj (by decide))] at hP hD
  exact kk H locs hP hD hS
end FGR
end
section
/-! INTS AS NATS: rows for arithmetic, bits and compares on nI a -/
def fg_bt (m v : Nat) : Nat := m / 2 ^ v % 2
def fg_clr (m v : Nat) : Nat := m ^^^ (m &&& 2 ^ v)
theorem fg_shc : ∀ n, n < 32 → ((nI n &&& 31).toBitVec.smod 32).toNat = n := by decide +kernel
theorem fg_nand (a b : Nat) : nI a &&& nI b = nI (a &&& b) := by
  apply Int32.toBitVec_inj.1
  show BitVec.ofNat 32 a &&& BitVec.ofNat 32 b = BitVec.ofNat 32 (a &&& b)
  apply BitVec.eq_of_getLsbD_eq
  intro i hi
  simp [hi]
theorem fg_nor (a b : Nat) : nI a ||| nI b = nI (a ||| b) := by
  apply Int32.toBitVec_inj.1
  show BitVec.ofNat 32 a ||| BitVec.ofNat 32 b = BitVec.ofNat 32 (a ||| b)
  apply BitVec.eq_of_getLsbD_eq
  intro i hi
  simp [hi]
theorem fg_nshl {a v : Nat} (hv : v < 32) (h : a * 2 ^ v < 2 ^ 32) : nI a <<< (nI v &&& 31) = nI (a * 2 ^ v) := pk_shlN _ v (fg_shc v hv) h
theorem fg_nshr {a v : Nat} (ha : a < 2 ^ 31) (hv : v < 32) : nI a >>> (nI v &&& 31) = nI (a / 2 ^ v) := pk_shrN ha _ v (fg_shc v hv)
theorem fg_nand1 (a : Nat) : nI a &&& nI 1 = nI (a % 2) := by
  rw [fg_nand, Nat.and_one_is_mod]
theorem fg_sub0 : ∀ m, m < 128 → ∀ s, s < 128 → ((nI m &&& (nI s ^^^ (-1)) = 0) ↔ m &&& s = m) := by decide +kernel
theorem fg_nclr : ∀ m, m < 128 → ∀ v, v < 7 → nI m &&& (nI (2 ^ v) ^^^ (-1)) = nI (fg_clr m v) := by decide +kernel
theorem fg_clr_lt : ∀ m, m < 128 → ∀ v, v < 7 → fg_clr m v < 128 := by decide +kernel
theorem fg_inc (i : Nat) : nI i + Int32.ofInt 1 = nI (i + 1) := by
  rw [show Int32.ofInt 1 = 1 from by decide]
  exact nI_1 i
theorem fg_inc4 (i : Nat) : nI i + Int32.ofInt 4 = nI (i + 4) := by
  rw [show Int32.ofInt 4 = nI 4 from by decide]
  exact nI_add i 4
theorem fg_dec (i : Nat) : nI (i + 1) + Int32.ofInt (-1) = nI i := by
  rw [show Int32.ofInt (-1) = -1 from by decide]
  exact pk_m1 i
theorem fg_m1lt : (-1 : Int32) < 0 := by decide
theorem fg_nlt0 {a : Nat} (h : a < 2 ^ 31) : ¬ nI a < 0 := nI_pos h
section FGN
variable {p : Program} {l : Launch} {e : Env} {R : Room} {s : State} {m : MethodId} {args : Array Value} {below : List Frame} {meth : Method} {c : Code} {H : Heap} {locs : List Loc} {cells slots : Nat} {Q : State → Prop}
variable {cc : ByteArray} {pc : Nat} {ls : Array Slot} {rest : List Value} {a b : Nat}
theorem fg_top {x y : Int32} (h : x = y) (k : W p l e R s m args below meth c H locs cells slots Q (F0 m pc ls (.int y :: rest))) : W p l e R s m args below meth c H locs cells slots Q (F0 m pc ls (.int x :: rest)) := by
  rw [h]
  exact k
theorem fg_topl {x y : Int64} (h : x = y) (k : W p l e R s m args below meth c H locs cells slots Q (F0 m pc ls (.long y :: rest))) : W p l e R s m args below meth c H locs cells slots Q (F0 m pc ls (.long x :: rest)) := by
  rw [h]
  exact k
theorem fg_iadd (hx : p.tables.exec = Jvm.exec) (hb : c.code = cc) (d : decode cc pc = .ok (.iadd, 1)) (k : W p l e R s m args below meth c H locs cells slots Q (F0 m (pc + 1) ls (.int (nI (a + b)) :: rest))) : W p l e R s m args below meth c H locs cells slots Q (F0 m pc ls (.int (nI b) :: .int (nI a) :: rest)) :=
  lv_iadd hx hb d (by rw [nI_add]; exact k)
theorem fg_imul (hx : p.tables.exec = Jvm.exec) (hb : c.code = cc) (d : decode cc pc = .ok (.imul, 1)) (k : W p l e R s m args below meth c H locs cells slots Q (F0 m (pc + 1) ls (.int (nI (a * b)) :: rest))) : W p l e R s m args below meth c H locs cells slots Q (F0 m pc ls (.int (nI b) :: .int (nI a) :: rest)) :=
  lv_imul hx hb d (by rw [pk_mul]; exact k)
theorem fg_isub (h : b ≤ a) (hx : p.tables.exec = Jvm.exec) (hb : c.code = cc) (d : decode cc pc = .ok (.isub, 1)) (k : W p l e R s m args below meth c H locs cells slots Q (F0 m (pc + 1) ls (.int (nI (a - b)) :: rest))) : W p l e R s m args below meth c H locs cells slots Q (F0 m pc ls (.int (nI b) :: .int (nI a) :: rest)) :=
  lv_isub hx hb d (by rw [pk_sub h]; exact k)
theorem fg_iand (hx : p.tables.exec = Jvm.exec) (hb : c.code = cc) (d : decode cc pc = .ok (.iand, 1)) (k : W p l e R s m args below meth c H locs cells slots Q (F0 m (pc + 1) ls (.int (nI (a &&& b)) :: rest))) : W p l e R s m args below meth c H locs cells slots Q (F0 m pc ls (.int (nI b) :: .int (nI a) :: rest)) :=
  lv_iand hx hb d (by rw [fg_nand]; exact k)
/-- the one bit v of a -/
theorem fg_ibt {v : Nat} (hx : p.tables.exec = Jvm.exec) (hb : c.code = cc) (d : decode cc pc = .ok (.iand, 1)) (k : W p l e R s m args below meth c H locs cells slots Q (F0 m (pc + 1) ls (.int (nI (fg_bt a v)) :: rest))) : W p l e R s m args below meth c H locs cells slots Q (F0 m pc ls (.int (nI 1) :: .int (nI (a / 2 ^ v)) :: rest)) :=
  lv_iand hx hb d (by rw [fg_nand1]; exact k)
theorem fg_ior (hx : p.tables.exec = Jvm.exec) (hb : c.code = cc) (d : decode cc pc = .ok (.ior, 1)) (k : W p l e R s m args below meth c H locs cells slots Q (F0 m (pc + 1) ls (.int (nI (a ||| b)) :: rest))) : W p l e R s m args below meth c H locs cells slots Q (F0 m pc ls (.int (nI b) :: .int (nI a) :: rest)) :=
  lv_ior hx hb d (by rw [fg_nor]; exact k)
theorem fg_ishl (hv : b < 32) (h : a * 2 ^ b < 2 ^ 32) (hx : p.tables.exec = Jvm.exec) (hb : c.code = cc) (d : decode cc pc = .ok (.ishl, 1)) (k : W p l e R s m args below meth c H locs cells slots Q (F0 m (pc + 1) ls (.int (nI (a * 2 ^ b)) :: rest))) : W p l e R s m args below meth c H locs cells slots Q (F0 m pc ls (.int (nI b) :: .int (nI a) :: rest)) :=
  lv_ishl hx hb d (by rw [fg_nshl hv h]; exact k)
/-- 1 << b -/
theorem fg_ishl1 (hv : b < 7) (hx : p.tables.exec = Jvm.exec) (hb : c.code = cc) (d : decode cc pc = .ok (.ishl, 1)) (k : W p l e R s m args below meth c H locs cells slots Q (F0 m (pc + 1) ls (.int (nI (2 ^ b)) :: rest))) : W p l e R s m args below meth c H locs cells slots Q (F0 m pc ls (.int (nI b) :: .int (nI 1) :: rest)) := by
  have h2 : (2 : Nat) ^ b ≤ 2 ^ 7 := Nat.pow_le_pow_right (by decide) (by omega)
  refine lv_ishl hx hb d ?_
  rw [fg_nshl (by omega) (by rw [Nat.one_mul]; exact Nat.lt_of_le_of_lt h2 (by decide)), Nat.one_mul]
  exact k
theorem fg_ishr (ha : a < 2 ^ 31) (hv : b < 32) (hx : p.tables.exec = Jvm.exec) (hb : c.code = cc) (d : decode cc pc = .ok (.ishr, 1)) (k : W p l e R s m args below meth c H locs cells slots Q (F0 m (pc + 1) ls (.int (nI (a / 2 ^ b)) :: rest))) : W p l e R s m args below meth c H locs cells slots Q (F0 m pc ls (.int (nI b) :: .int (nI a) :: rest)) :=
  lv_ishr hx hb d (by rw [fg_nshr ha hv]; exact k)
theorem fg_ige {off : Int} {tgt : Nat} (hx : p.tables.exec = Jvm.exec) (hb : c.code = cc) (d : decode cc pc = .ok (.if_icmp .ge off, 3)) (ht : (pc : Int) + off = (tgt : Int)) (h1 : a < 2 ^ 31) (h2 : b < 2 ^ 31)
    (kt : b ≤ a → W p l e R s m args below meth c H locs cells slots Q (F0 m tgt ls rest)) (kf : a < b → W p l e R s m args below meth c H locs cells slots Q (F0 m (pc + 3) ls rest)) : W p l e R s m args below meth c H locs cells slots Q (F0 m pc ls (.int (nI b) :: .int (nI a) :: rest)) :=
  lv_icmp_ge hx hb d ht (fun h => kt ((nI_leI h2 h1).mp h)) (fun h => kf (Nat.lt_of_not_le (fun z => h ((nI_leI h2 h1).mpr z))))
theorem fg_ilt {off : Int} {tgt : Nat} (hx : p.tables.exec = Jvm.exec) (hb : c.code = cc) (d : decode cc pc = .ok (.if_icmp .lt off, 3)) (ht : (pc : Int) + off = (tgt : Int)) (h1 : a < 2 ^ 31) (h2 : b < 2 ^ 31)
    (kt : a < b → W p l e R s m args below meth c H locs cells slots Q (F0 m tgt ls rest)) (kf : b ≤ a → W p l e R s m args below meth c H locs cells slots Q (F0 m (pc + 3) ls rest)) : W p l e R s m args below meth c H locs cells slots Q (F0 m pc ls (.int (nI b) :: .int (nI a) :: rest)) :=
  lv_icmp_lt hx hb d ht (fun h => kt ((nI_ltI h1 h2).mp h)) (fun h => kf (Nat.le_of_not_lt (fun z => h ((nI_ltI h1 h2).mpr z))))
theorem fg_ine {off : Int} {tgt : Nat} (hx : p.tables.exec = Jvm.exec) (hb : c.code = cc) (d : decode cc pc = .ok (.if_icmp .ne off, 3)) (ht : (pc : Int) + off = (tgt : Int)) (h1 : a < 2 ^ 31) (h2 : b < 2 ^ 31)
    (kt : a ≠ b → W p l e R s m args below meth c H locs cells slots Q (F0 m tgt ls rest)) (kf : a = b → W p l e R s m args below meth c H locs cells slots Q (F0 m (pc + 3) ls rest)) : W p l e R s m args below meth c H locs cells slots Q (F0 m pc ls (.int (nI b) :: .int (nI a) :: rest)) :=
  lv_icmp_ne hx hb d ht (fun h => kt (fun z => h (by rw [z]))) (fun h => kf ((nI_eq h1 h2).mp h))
theorem fg_ladd (hx : p.tables.exec = Jvm.exec) (hb : c.code = cc) (d : decode cc pc = .ok (.ladd, 1)) (k : W p l e R s m args below meth c H locs cells slots Q (F0 m (pc + 1) ls (.long (lN (a + b)) :: rest))) : W p l e R s m args below meth c H locs cells slots Q (F0 m pc ls (.long (lN b) :: .long (lN a) :: rest)) :=
  lv_ladd hx hb d (by rw [lN_add]; exact k)
theorem fg_lmul (hx : p.tables.exec = Jvm.exec) (hb : c.code = cc) (d : decode cc pc = .ok (.lmul, 1)) (k : W p l e R s m args below meth c H locs cells slots Q (F0 m (pc + 1) ls (.long (lN (a * b)) :: rest))) : W p l e R s m args below meth c H locs cells slots Q (F0 m pc ls (.long (lN b) :: .long (lN a) :: rest)) :=
  lv_lmul hx hb d (by rw [lN_mul]; exact k)
end FGN
end
section
/-! THE PLAIN LAW, no program in sight: sums and greatest values over 128 masks, one variable taken out -/
def fg_op (md a b : Nat) : Nat := if md = 1 then max a b else a + b
theorem fg_op_comm (md a b : Nat) : fg_op md a b = fg_op md b a := by
  unfold fg_op
  split
  · exact Nat.max_comm a b
  · exact Nat.add_comm a b
theorem fg_op_assoc (md a b c : Nat) : fg_op md (fg_op md a b) c = fg_op md a (fg_op md b c) := by
  unfold fg_op
  split
  · exact Nat.max_assoc a b c
  · exact Nat.add_assoc a b c
theorem fg_op_z (md a : Nat) : fg_op md a 0 = a := by
  unfold fg_op
  split
  · omega
  · omega
theorem fg_op_0 (md a : Nat) : fg_op md 0 a = a := by rw [fg_op_comm, fg_op_z]
theorem fg_op_mul (md a b c : Nat) : fg_op md (a * c) (b * c) = fg_op md a b * c := by
  unfold fg_op
  split
  · exact Nat.mul_max_mul_right a b c
  · exact (Nat.add_mul a b c).symm
theorem fg_op_4 (md a b c d : Nat) : fg_op md (fg_op md a b) (fg_op md c d) = fg_op md (fg_op md a c) (fg_op md b d) := by
  rw [fg_op_assoc, fg_op_assoc, ← fg_op_assoc md b c d, fg_op_comm md b c, fg_op_assoc md c b d]
def fg_sg (md : Nat) (g : Nat → Nat) : Nat → Nat
  | 0 => 0
  | n + 1 => fg_op md (fg_sg md g n) (g n)
theorem fg_sg_congr {md : Nat} {g g' : Nat → Nat} : ∀ {n : Nat}, (∀ m, m < n → g m = g' m) → fg_sg md g n = fg_sg md g' n := by
  intro n
  induction n with
  | zero => intro _; rfl
  | succ n ih =>
    intro h
    show fg_op md (fg_sg md g n) (g n) = fg_op md (fg_sg md g' n) (g' n)
    rw [ih (fun m hm => h m (by omega)), h n (by omega)]
theorem fg_sg_op (md : Nat) (g g' : Nat → Nat) : ∀ n : Nat, fg_sg md (fun m => fg_op md (g m) (g' m)) n = fg_op md (fg_sg md g n) (fg_sg md g' n) := by
  intro n
  induction n with
  | zero => exact (fg_op_z md 0).symm
  | succ n ih =>
    show fg_op md (fg_sg md (fun m => fg_op md (g m) (g' m)) n) (fg_op md (g n) (g' n)) = fg_op md (fg_op md (fg_sg md g n) (g n)) (fg_op md (fg_sg md g' n) (g' n))
    rw [ih, fg_op_4]
theorem fg_sg_zero (md : Nat) : ∀ n : Nat, fg_sg md (fun _ => 0) n = 0 := by
  intro n
  induction n with
  | zero => rfl
  | succ n ih =>
    show fg_op md (fg_sg md (fun _ => 0) n) 0 = 0
    rw [ih, fg_op_z]
theorem fg_sg_add (md : Nat) (g : Nat → Nat) (a : Nat) : ∀ b : Nat, fg_sg md g (a + b) = fg_op md (fg_sg md g a) (fg_sg md (fun m => g (a + m)) b) := by
  intro b
  induction b with
  | zero => exact (fg_op_z md _).symm
  | succ b ih =>
    show fg_op md (fg_sg md g (a + b)) (g (a + b)) = fg_op md (fg_sg md g a) (fg_op md (fg_sg md (fun m => g (a + m)) b) (g (a + b)))
    rw [ih, fg_op_assoc]
theorem fg_hi {k m : Nat} (h : m < 2 ^ k) : 2 ^ k + m = 2 ^ k ||| m := by
  have h' := Nat.two_pow_add_eq_or_of_lt h 1
  simpa using h'
/-- masks in pairs: without and with the bit v -/
theorem fg_pair (md v : Nat) : ∀ (k : Nat) (g : Nat → Nat), v < k → fg_sg md g (2 ^ k) = fg_sg md (fun m => if m.testBit v = true then 0 else fg_op md (g m) (g (m ||| 2 ^ v))) (2 ^ k) := by
  intro k
  induction k with
  | zero => intro g h; omega
  | succ k ih =>
    intro g hv
    have e2 : 2 ^ (k + 1) = 2 ^ k + 2 ^ k := by rw [Nat.pow_succ]; omega
    rw [e2, fg_sg_add, fg_sg_add]
    by_cases hk : v = k
    · subst hk
      have h1 : fg_sg md (fun m => if m.testBit v = true then 0 else fg_op md (g m) (g (m ||| 2 ^ v))) (2 ^ v) = fg_sg md (fun m => fg_op md (g m) (g (2 ^ v + m))) (2 ^ v) := by
        refine fg_sg_congr (fun m hm => ?_)
        have hb : m.testBit v = false := Nat.testBit_lt_two_pow hm
        simp only [hb]
        rw [fg_hi hm, Nat.or_comm]
        simp
      have h2 : fg_sg md (fun m => (fun m => if m.testBit v = true then 0 else fg_op md (g m) (g (m ||| 2 ^ v))) (2 ^ v + m)) (2 ^ v) = fg_sg md (fun _ => 0) (2 ^ v) := by
        refine fg_sg_congr (fun m hm => ?_)
        have hb : (2 ^ v + m).testBit v = true := by rw [Nat.testBit_two_pow_add_eq, Nat.testBit_lt_two_pow hm]; rfl
        simp only [hb]
        simp
      rw [h1, h2, fg_sg_zero, fg_op_z, fg_sg_op]
    · have hvk : v < k := by omega
      rw [ih g hvk, ih (fun m => g (2 ^ k + m)) hvk]
      congr 1
      refine fg_sg_congr (fun m hm => ?_)
      have hb : (2 ^ k + m).testBit v = m.testBit v := Nat.testBit_two_pow_add_gt hvk m
      simp only [hb]
      have hv2 : 2 ^ v < 2 ^ k := Nat.pow_lt_pow_right (by decide) hvk
      have e3 : (2 ^ k + m) ||| 2 ^ v = 2 ^ k + (m ||| 2 ^ v) := by
        rw [fg_hi hm, fg_hi (Nat.or_lt_two_pow hm hv2), Nat.or_assoc]
      rw [e3]
/-! products over tables -/
def fg_pf (f : Nat → Nat) : Nat → Nat
  | 0 => 1
  | n + 1 => fg_pf f n * f n
theorem fg_pf_congr {f g : Nat → Nat} : ∀ {n : Nat}, (∀ t, t < n → f t = g t) → fg_pf f n = fg_pf g n := by
  intro n
  induction n with
  | zero => intro _; rfl
  | succ n ih =>
    intro h
    show fg_pf f n * f n = fg_pf g n * g n
    rw [ih (fun t ht => h t (by omega)), h n (by omega)]
theorem fg_pf_mul (f g : Nat → Nat) : ∀ n : Nat, fg_pf (fun t => f t * g t) n = fg_pf f n * fg_pf g n := by
  intro n
  induction n with
  | zero => rfl
  | succ n ih =>
    show fg_pf (fun t => f t * g t) n * (f n * g n) = (fg_pf f n * f n) * (fg_pf g n * g n)
    rw [ih]
    simp only [Nat.mul_assoc, Nat.mul_comm, Nat.mul_left_comm]
theorem fg_pf_le {f g : Nat → Nat} : ∀ {n : Nat}, (∀ t, t < n → f t ≤ g t) → fg_pf f n ≤ fg_pf g n := by
  intro n
  induction n with
  | zero => intro _; exact Nat.le_refl _
  | succ n ih =>
    intro h
    exact Nat.mul_le_mul (ih (fun t ht => h t (by omega))) (h n (by omega))
theorem fg_pf_pos {f : Nat → Nat} : ∀ {n : Nat}, (∀ t, t < n → 1 ≤ f t) → 1 ≤ fg_pf f n := by
  intro n
  induction n with
  | zero => intro _; exact Nat.le_refl _
  | succ n ih =>
    intro h
    have h1 := ih (fun t ht => h t (by omega))
    have h2 := h n (by omega)
    exact Nat.mul_le_mul h1 h2
theorem fg_pf_c (c : Nat) : ∀ n : Nat, fg_pf (fun _ => c) n = c ^ n := by
  intro n
  induction n with
  | zero => rfl
  | succ n ih =>
    show fg_pf (fun _ => c) n * c = c ^ (n + 1)
    rw [ih, Nat.pow_succ]
/-- the tables that have v, at a mask; all tables, at a mask (S t = 128: the table is out) -/
def fg_PV (S : Nat → Nat) (T : Nat → Nat → Nat) (v m n : Nat) : Nat := fg_pf (fun t => if (S t).testBit v = true then T t (m &&& S t) else 1) n
def fg_PA (S : Nat → Nat) (T : Nat → Nat → Nat) (m n : Nat) : Nat := fg_pf (fun t => if S t < 128 then T t (m &&& S t) else 1) n
def fg_PR (S : Nat → Nat) (T : Nat → Nat → Nat) (v m n : Nat) : Nat := fg_pf (fun t => if S t < 128 ∧ (S t).testBit v = false then T t (m &&& S t) else 1) n
def fg_nb (S : Nat → Nat) (v : Nat) : Nat → Nat
  | 0 => 2 ^ v
  | n + 1 => if (S n).testBit v = true then fg_nb S v n ||| S n else fg_nb S v n
theorem fg_128 {v : Nat} (h : v < 7) : (128 : Nat).testBit v = false := by
  have : ∀ v, v < 7 → (128 : Nat).testBit v = false := by decide
  exact this v h
theorem fg_PA_split {S : Nat → Nat} {T : Nat → Nat → Nat} {v n : Nat} (hv : v < 7) (hS : ∀ t, t < n → S t ≤ 128) (m : Nat) : fg_PA S T m n = fg_PV S T v m n * fg_PR S T v m n := by
  unfold fg_PA fg_PV fg_PR
  rw [← fg_pf_mul]
  refine fg_pf_congr (fun t ht => ?_)
  have h1 := hS t ht
  by_cases hb : (S t).testBit v = true
  · have h2 : S t < 128 := by
      rcases Nat.lt_or_eq_of_le h1 with q | q
      · exact q
      · rw [q, fg_128 hv] at hb; cases hb
    simp [hb, h2]
  · simp [hb]
theorem fg_nb_has {S : Nat → Nat} {v : Nat} : ∀ {n t i : Nat}, t < n → (S t).testBit v = true → (S t).testBit i = true → (fg_nb S v n).testBit i = true := by
  intro n
  induction n with
  | zero => intro t i h; omega
  | succ n ih =>
    intro t i ht hv hi
    unfold fg_nb
    by_cases htn : t = n
    · subst htn
      rw [if_pos hv, Nat.testBit_or, hi, Bool.or_true]
    · have := ih (show t < n by omega) hv hi
      by_cases hb : (S n).testBit v = true
      · rw [if_pos hb, Nat.testBit_or, this, Bool.true_or]
      · rw [if_neg hb]; exact this
theorem fg_nb_in {S : Nat → Nat} {v i : Nat} : ∀ {n : Nat}, (fg_nb S v n).testBit i = true → i = v ∨ ∃ t, t < n ∧ (S t).testBit v = true ∧ (S t).testBit i = true := by
  intro n
  induction n with
  | zero =>
    intro h
    unfold fg_nb at h
    rw [Nat.testBit_two_pow] at h
    exact Or.inl (of_decide_eq_true h).symm
  | succ n ih =>
    intro h
    unfold fg_nb at h
    by_cases hb : (S n).testBit v = true
    · rw [if_pos hb, Nat.testBit_or] at h
      rcases Bool.or_eq_true _ _ ▸ h with q | q
      · rcases ih q with z | ⟨t, h1, h2⟩
        · exact Or.inl z
        · exact Or.inr ⟨t, by omega, h2⟩
      · exact Or.inr ⟨n, by omega, hb, q⟩
    · rw [if_neg hb] at h
      rcases ih h with z | ⟨t, h1, h2⟩
      · exact Or.inl z
      · exact Or.inr ⟨t, by omega, h2⟩
theorem fg_nb_lt {S : Nat → Nat} {v : Nat} (hv : v < 7) : ∀ {n : Nat}, (∀ t, t < n → S t ≤ 128) → fg_nb S v n < 128 := by
  intro n
  induction n with
  | zero =>
    intro _
    show 2 ^ v < 2 ^ 7
    exact Nat.pow_lt_pow_right (by decide) hv
  | succ n ih =>
    intro h
    unfold fg_nb
    have h1 := ih (fun t ht => h t (by omega))
    by_cases hb : (S n).testBit v = true
    · rw [if_pos hb]
      have h2 : S n < 128 := by
        rcases Nat.lt_or_eq_of_le (h n (by omega)) with q | q
        · exact q
        · rw [q, fg_128 hv] at hb; cases hb
      exact Nat.or_lt_two_pow (n := 7) h1 h2
    · rw [if_neg hb]; exact h1
theorem fg_clr_tb (m v i : Nat) : (fg_clr m v).testBit i = (m.testBit i && !decide (v = i)) := by
  unfold fg_clr
  rw [Nat.testBit_xor, Nat.testBit_and, Nat.testBit_two_pow]
  cases m.testBit i <;> cases decide (v = i) <;> rfl
theorem fg_sub_tb {m s : Nat} : m &&& s = m ↔ ∀ i, m.testBit i = true → s.testBit i = true := by
  constructor
  · intro h i hi
    rw [← h, Nat.testBit_and] at hi
    exact (Bool.and_eq_true _ _ ▸ hi).2
  · intro h
    refine Nat.eq_of_testBit_eq (fun i => ?_)
    rw [Nat.testBit_and]
    cases hm : m.testBit i with
    | false => rfl
    | true => rw [h i hm]; rfl
/-- the variable v taken out: the new tables at a mask without v -/
theorem fg_elim {md v n : Nat} {S S' : Nat → Nat} {T T' : Nat → Nat → Nat} (hv : v < 7) (hS : ∀ t, t < n → S t ≤ 128)
    (hS' : ∀ t, t < n → S' t = if (S t).testBit v = true then 128 else S t) (hSn : S' n = fg_clr (fg_nb S v n) v)
    (hT' : ∀ t, t < n → ∀ m, T' t m = T t m) (hTn : ∀ m, m &&& S' n = m → T' n m = fg_op md (fg_PV S T v m n) (fg_PV S T v (m ||| 2 ^ v) n))
    (m : Nat) (hm : m.testBit v = false) : fg_PA S' T' m (n + 1) = fg_op md (fg_PA S T m n) (fg_PA S T (m ||| 2 ^ v) n) := by
  have hov : S' n < 128 := by
    rw [hSn]
    exact fg_clr_lt _ (fg_nb_lt hv hS) v hv
  have e1 : fg_PA S' T' m (n + 1) = fg_PR S T v m n * T' n (m &&& S' n) := by
    unfold fg_PA fg_PR
    show fg_pf _ n * _ = _
    simp only [hov, if_true]
    congr 1
    refine fg_pf_congr (fun t ht => ?_)
    rw [hS' t ht]
    by_cases hb : (S t).testBit v = true
    · simp [hb]
    · have hb : (S t).testBit v = false := by simpa using hb
      simp [hb, hT' t ht]
  have hsub : (m &&& S' n) &&& S' n = m &&& S' n := by rw [Nat.and_assoc, Nat.and_self]
  have key : ∀ t, t < n → (S t).testBit v = true → ∀ i, i ≠ v → (S t).testBit i = true → (S' n).testBit i = true := by
    intro t ht htv i hi hti
    rw [hSn, fg_clr_tb, fg_nb_has ht htv hti]
    simp [Ne.symm hi]
  have e2 : fg_PV S T v (m &&& S' n) n = fg_PV S T v m n := by
    unfold fg_PV
    refine fg_pf_congr (fun t ht => ?_)
    by_cases hb : (S t).testBit v = true
    · rw [if_pos hb, if_pos hb]
      congr 1
      refine Nat.eq_of_testBit_eq (fun i => ?_)
      simp only [Nat.testBit_and]
      by_cases hi : i = v
      · subst hi; rw [hm]; simp
      · cases hti : (S t).testBit i with
        | false => simp
        | true => rw [key t ht hb i hi hti]; simp
    · rw [if_neg hb, if_neg hb]
  have e3 : fg_PV S T v ((m &&& S' n) ||| 2 ^ v) n = fg_PV S T v (m ||| 2 ^ v) n := by
    unfold fg_PV
    refine fg_pf_congr (fun t ht => ?_)
    by_cases hb : (S t).testBit v = true
    · rw [if_pos hb, if_pos hb]
      congr 1
      refine Nat.eq_of_testBit_eq (fun i => ?_)
      simp only [Nat.testBit_and, Nat.testBit_or, Nat.testBit_two_pow]
      by_cases hi : i = v
      · subst hi; simp
      · cases hti : (S t).testBit i with
        | false => simp
        | true => rw [key t ht hb i hi hti]; simp
    · rw [if_neg hb, if_neg hb]
  have e4 : fg_PR S T v (m ||| 2 ^ v) n = fg_PR S T v m n := by
    unfold fg_PR
    refine fg_pf_congr (fun t ht => ?_)
    by_cases hb : S t < 128 ∧ (S t).testBit v = false
    · rw [if_pos hb, if_pos hb]
      congr 1
      refine Nat.eq_of_testBit_eq (fun i => ?_)
      simp only [Nat.testBit_and, Nat.testBit_or, Nat.testBit_two_pow]
      by_cases hi : v = i
      · subst hi; rw [hb.2]; simp
      · simp [hi]
    · rw [if_neg hb, if_neg hb]
  rw [e1, hTn _ hsub, e2, e3, fg_PA_split hv hS, fg_PA_split hv hS, e4, fg_op_mul, Nat.mul_comm]
/-- the fold over the masks within a set -/
def fg_fo (md left : Nat) (g : Nat → Nat) : Nat := fg_sg md (fun m => if m &&& left = m then g m else 0) 128
theorem fg_fo_congr {md left : Nat} {g g' : Nat → Nat} (h : ∀ m, m < 128 → m &&& left = m → g m = g' m) : fg_fo md left g = fg_fo md left g' := by
  refine fg_sg_congr (fun m hm => ?_)
  by_cases hl : m &&& left = m
  · rw [if_pos hl, if_pos hl, h m hm hl]
  · rw [if_neg hl, if_neg hl]
theorem fg_fo_out {md left v : Nat} {g : Nat → Nat} (hv : v < 7) (hl : left.testBit v = true) : fg_fo md left g = fg_fo md (fg_clr left v) (fun m => fg_op md (g m) (g (m ||| 2 ^ v))) := by
  unfold fg_fo
  rw [show (128 : Nat) = 2 ^ 7 from rfl, fg_pair md v 7 _ hv]
  refine fg_sg_congr (fun m hm => ?_)
  by_cases hb : m.testBit v = true
  · have h1 : ¬ (m &&& fg_clr left v = m) := by
      intro h
      have := fg_sub_tb.mp h v hb
      rw [fg_clr_tb] at this
      simp at this
    simp only [hb, if_true, if_neg h1]
  · have hb' : m.testBit v = false := by simpa using hb
    have e1 : (m &&& left = m) ↔ (m &&& fg_clr left v = m) := by
      rw [fg_sub_tb, fg_sub_tb]
      constructor
      · intro h i hi
        have hne : v ≠ i := by intro z; subst z; rw [hb'] at hi; cases hi
        rw [fg_clr_tb, h i hi]; simp [hne]
      · intro h i hi
        have := h i hi
        rw [fg_clr_tb] at this
        exact (Bool.and_eq_true _ _ ▸ this).1
    have e2 : ((m ||| 2 ^ v) &&& left = m ||| 2 ^ v) ↔ (m &&& left = m) := by
      rw [fg_sub_tb, fg_sub_tb]
      constructor
      · intro h i hi
        exact h i (by rw [Nat.testBit_or, hi, Bool.true_or])
      · intro h i hi
        rw [Nat.testBit_or, Nat.testBit_two_pow] at hi
        rcases Bool.or_eq_true _ _ ▸ hi with q | q
        · exact h i q
        · rw [← of_decide_eq_true q]; exact hl
    rw [if_neg hb]
    by_cases hs : m &&& left = m
    · rw [if_pos hs, if_pos (e2.mpr hs), if_pos (e1.mp hs)]
    · rw [if_neg hs, if_neg (fun z => hs (e2.mp z)), if_neg (fun z => hs (e1.mpr z)), fg_op_z]
theorem fg_fo_0 {md : Nat} {g : Nat → Nat} : fg_fo md 0 g = g 0 := by
  unfold fg_fo
  rw [show (128 : Nat) = 1 + 127 from rfl, fg_sg_add]
  have h : fg_sg md (fun m => (fun m => if m &&& 0 = m then g m else 0) (1 + m)) 127 = fg_sg md (fun _ => 0) 127 := by
    refine fg_sg_congr (fun m hm => ?_)
    have : ¬ ((1 + m) &&& 0 = 1 + m) := by rw [Nat.and_zero]; omega
    simp only [if_neg this]
  rw [h, fg_sg_zero, fg_op_z]
  show fg_op md 0 (if 0 &&& 0 = 0 then g 0 else 0) = g 0
  rw [fg_op_0]
  simp
/-- the bound that keeps the greatest values in a long -/
def fg_Bd (S : Nat → Nat) (T : Nat → Nat → Nat) (n : Nat) : Prop := ∀ μ : Nat → Nat, (∀ t, t < n → μ t &&& S t = μ t) → fg_pf (fun t => if S t < 128 then max 1 (T t (μ t)) else 1) n ≤ 9 ^ 7
theorem fg_PV_bd {S : Nat → Nat} {T : Nat → Nat → Nat} {v n : Nat} (hv : v < 7) (hS : ∀ t, t < n → S t ≤ 128) (hB : fg_Bd S T n) (m : Nat) : fg_PV S T v m n ≤ 9 ^ 7 := by
  refine Nat.le_trans ?_ (hB (fun t => m &&& S t) (fun t _ => by rw [Nat.and_assoc, Nat.and_self]))
  unfold fg_PV
  refine fg_pf_le (fun t ht => ?_)
  by_cases hb : (S t).testBit v = true
  · have h2 : S t < 128 := by
      rcases Nat.lt_or_eq_of_le (hS t ht) with q | q
      · exact q
      · rw [q, fg_128 hv] at hb; cases hb
    rw [if_pos hb, if_pos h2]
    exact Nat.le_max_right _ _
  · rw [if_neg hb]
    split
    · exact Nat.le_max_left _ _
    · exact Nat.le_refl _
theorem fg_Bd_step {v n : Nat} {S S' : Nat → Nat} {T T' : Nat → Nat → Nat} (hv : v < 7) (hS : ∀ t, t < n → S t ≤ 128)
    (hS' : ∀ t, t < n → S' t = if (S t).testBit v = true then 128 else S t) (hov : S' n < 128)
    (hT' : ∀ t, t < n → ∀ m, T' t m = T t m) (hTn : ∀ m, m &&& S' n = m → T' n m = fg_op 1 (fg_PV S T v m n) (fg_PV S T v (m ||| 2 ^ v) n))
    (hB : fg_Bd S T n) : fg_Bd S' T' (n + 1) := by
  intro μ hμ
  have hone : ∃ x, T' n (μ n) = fg_PV S T v x n := by
    rw [hTn _ (hμ n (by omega))]
    unfold fg_op
    rw [if_pos rfl]
    rcases Nat.le_total (fg_PV S T v (μ n) n) (fg_PV S T v (μ n ||| 2 ^ v) n) with h | h
    · exact ⟨_, Nat.max_eq_right h⟩
    · exact ⟨_, Nat.max_eq_left h⟩
  obtain ⟨x, hx⟩ := hone
  refine Nat.le_trans ?_ (hB (fun t => if (S t).testBit v = true then x &&& S t else μ t) ?_)
  · show fg_pf _ n * _ ≤ _
    simp only [hov, if_true]
    have h1 : max 1 (T' n (μ n)) ≤ fg_pf (fun t => if (S t).testBit v = true then max 1 (T t (x &&& S t)) else 1) n := by
      rw [hx]
      refine Nat.max_le.mpr ⟨?_, ?_⟩
      · refine fg_pf_pos (fun t ht => ?_)
        split
        · exact Nat.le_max_left _ _
        · exact Nat.le_refl _
      · unfold fg_PV
        refine fg_pf_le (fun t ht => ?_)
        split
        · exact Nat.le_max_right _ _
        · exact Nat.le_refl _
    refine Nat.le_trans (Nat.mul_le_mul (Nat.le_refl _) h1) ?_
    rw [← fg_pf_mul]
    refine Nat.le_of_eq (fg_pf_congr (fun t ht => ?_))
    rw [hS' t ht]
    by_cases hb : (S t).testBit v = true
    · have h2 : S t < 128 := by
        rcases Nat.lt_or_eq_of_le (hS t ht) with q | q
        · exact q
        · rw [q, fg_128 hv] at hb; cases hb
      simp [hb, h2]
    · simp [hb, hT' t ht]
  · intro t ht
    by_cases hb : (S t).testBit v = true
    · simp only [hb, if_true]; rw [Nat.and_assoc, Nat.and_self]
    · have := hμ t (by omega)
      rw [hS' t ht, if_neg hb] at this
      simp only [if_neg hb]
      exact this
end
section
/-! THE PLAIN LAW, second part: weights, fixed values, what each question answers -/
theorem fg_bt_tb (m v : Nat) : fg_bt m v = if m.testBit v = true then 1 else 0 := by
  unfold fg_bt
  rw [Nat.testBit_eq_decide_div_mod_eq]
  by_cases h : m / 2 ^ v % 2 = 1
  · simp [h]
  · simp [h]; omega
theorem fg_bt_le (m v : Nat) : fg_bt m v ≤ 1 := by
  unfold fg_bt
  omega
theorem fg_bt1 {m v : Nat} : fg_bt m v = 1 ↔ m.testBit v = true := by
  rw [fg_bt_tb]
  split
  · simp [*]
  · simp [*]
theorem fg_bt0 {m v : Nat} : fg_bt m v = 0 ↔ m.testBit v = false := by
  rw [fg_bt_tb]
  split
  · simp [*]
  · simp [*]
theorem fg_bt_or {m v i : Nat} (h : v ≠ i) : fg_bt (m ||| 2 ^ v) i = fg_bt m i := by
  rw [fg_bt_tb, fg_bt_tb, Nat.testBit_or, Nat.testBit_two_pow]
  simp [h]
theorem fg_bt_self (m v : Nat) : fg_bt (m ||| 2 ^ v) v = 1 := by
  rw [fg_bt1, Nat.testBit_or, Nat.testBit_two_pow]
  simp
theorem fg_lt_tb {x y i : Nat} (hx : x.testBit i = false) (hy : y.testBit i = true) (h : ∀ j, i < j → x.testBit j = y.testBit j) : x < y := by
  have e1 : x / 2 ^ (i + 1) = y / 2 ^ (i + 1) := by
    refine Nat.eq_of_testBit_eq (fun j => ?_)
    rw [Nat.testBit_div_two_pow, Nat.testBit_div_two_pow]
    exact h _ (by omega)
  have hx0 : fg_bt x i = 0 := fg_bt0.mpr hx
  have hy1 : fg_bt y i = 1 := fg_bt1.mpr hy
  unfold fg_bt at hx0 hy1
  rw [Nat.pow_succ, ← Nat.div_div_eq_div_mul, ← Nat.div_div_eq_div_mul] at e1
  have : x / 2 ^ i < y / 2 ^ i := by omega
  exact Nat.lt_of_div_lt_div this
def fg_tri (x : Int32) : Prop := x = -1 ∨ x = nI 0 ∨ x = nI 1
def fg_vl (fi : Nat → Int32) (m x : Nat) : Nat := if fi x < 0 then fg_bt m x else (fi x).toNatClampNeg
def fg_sv (a : Nat → Nat) (x : Int32) : Nat := if x < 0 then 0 else a x.toNatClampNeg
def fg_wy (va : Nat → Int32) (a : Nat → Nat) (f : Nat) : Nat := fg_sv a (va (f * 3)) + 2 * fg_sv a (va (f * 3 + 1)) + 4 * fg_sv a (va (f * 3 + 2))
def fg_wt (va we : Nat → Int32) (a : Nat → Nat) (f : Nat) : Nat := (we (f * 8 + fg_wy va a f)).toNatClampNeg
def fg_fok (ar va : Nat → Int32) (f : Nat) : Prop := ∃ k, 1 ≤ k ∧ k ≤ 3 ∧ ar f = nI k ∧ ∀ i, i < 3 → (i < k → ∃ x, x < 7 ∧ va (f * 3 + i) = nI x) ∧ (k ≤ i → va (f * 3 + i) = -1)
def fg_inv (F : Nat) (ar va we gi : Nat → Int32) : Prop := F ≤ 7 ∧ (∀ f, f < F → fg_fok ar va f) ∧ (∀ k, k < 56 → ∃ w, w ≤ 9 ∧ we k = nI w) ∧ (∀ v, v < 7 → fg_tri (gi v))
def fg_wq (md w : Nat) : Nat := if md = 2 ∧ 0 < w then 1 else w
def fg_hh (md F : Nat) (va we : Nat → Int32) (a : Nat → Nat) : Nat := fg_pf (fun f => fg_wq md (fg_wt va we a f)) F
theorem fg_fok_slot {ar va : Nat → Int32} {f : Nat} (h : fg_fok ar va f) {i : Nat} (hi : i < 3) : va (f * 3 + i) = -1 ∨ ∃ x, x < 7 ∧ va (f * 3 + i) = nI x := by
  obtain ⟨k, h1, h2, h3, h4⟩ := h
  rcases Nat.lt_or_ge i k with q | q
  · exact Or.inr ((h4 i hi).1 q)
  · exact Or.inl ((h4 i hi).2 q)
theorem fg_sv_m1 (a : Nat → Nat) : fg_sv a (-1) = 0 := by
  unfold fg_sv
  rw [if_pos (by decide)]
theorem fg_sv_n (a : Nat → Nat) {x : Nat} (h : x < 2 ^ 31) : fg_sv a (nI x) = a x := by
  unfold fg_sv
  rw [if_neg (nI_pos h), nI_clamp h]
theorem fg_sv_ext {ar va : Nat → Int32} {f : Nat} (h : fg_fok ar va f) {a b : Nat → Nat} (hab : ∀ v, v < 7 → a v = b v) {i : Nat} (hi : i < 3) : fg_sv a (va (f * 3 + i)) = fg_sv b (va (f * 3 + i)) := by
  rcases fg_fok_slot h hi with q | ⟨x, hx, q⟩
  · rw [q, fg_sv_m1, fg_sv_m1]
  · rw [q, fg_sv_n a (by omega), fg_sv_n b (by omega), hab x hx]
theorem fg_wt_ext {ar va we : Nat → Int32} {f : Nat} (h : fg_fok ar va f) {a b : Nat → Nat} (hab : ∀ v, v < 7 → a v = b v) : fg_wt va we a f = fg_wt va we b f := by
  have h0 := fg_sv_ext h hab (i := 0) (by decide)
  have h1 := fg_sv_ext h hab (i := 1) (by decide)
  have h2 := fg_sv_ext h hab (i := 2) (by decide)
  unfold fg_wt fg_wy
  rw [Nat.add_zero] at h0
  rw [h0, h1, h2]
theorem fg_hh_ext {md F : Nat} {ar va we : Nat → Int32} (h : ∀ f, f < F → fg_fok ar va f) {a b : Nat → Nat} (hab : ∀ v, v < 7 → a v = b v) : fg_hh md F va we a = fg_hh md F va we b := by
  refine fg_pf_congr (fun f hf => ?_)
  rw [fg_wt_ext (h f hf) hab]
def fg_lf (fi : Nat → Int32) : Nat → Nat
  | 0 => 0
  | v + 1 => if fi v < 0 then fg_lf fi v ||| 2 ^ v else fg_lf fi v
theorem fg_lf_tb (fi : Nat → Int32) (i : Nat) : ∀ n, (fg_lf fi n).testBit i = true ↔ (i < n ∧ fi i < 0) := by
  intro n
  induction n with
  | zero =>
    unfold fg_lf
    simp
  | succ n ih =>
    unfold fg_lf
    by_cases h : fi n < 0
    · rw [if_pos h, Nat.testBit_or, Nat.testBit_two_pow, Bool.or_eq_true, ih]
      constructor
      · rintro (q | q)
        · exact ⟨by omega, q.2⟩
        · have := of_decide_eq_true q
          subst this
          exact ⟨by omega, h⟩
      · rintro ⟨q1, q2⟩
        by_cases hn : n = i
        · exact Or.inr (decide_eq_true hn)
        · exact Or.inl ⟨by omega, q2⟩
    · rw [if_neg h, ih]
      constructor
      · rintro ⟨q1, q2⟩; exact ⟨by omega, q2⟩
      · rintro ⟨q1, q2⟩
        refine ⟨?_, q2⟩
        rcases Nat.lt_or_ge i n with z | z
        · exact z
        · have : i = n := by omega
          subst this
          exact absurd q2 h
theorem fg_lf_lt (fi : Nat → Int32) {n : Nat} (hn : n ≤ 7) : fg_lf fi n < 128 := by
  refine Nat.lt_pow_two_of_testBit (n := 7) _ (fun i hi => ?_)
  cases h : (fg_lf fi n).testBit i with
  | false => rfl
  | true =>
    have := ((fg_lf_tb fi i n).mp h).1
    omega
def fg_al (fi : Nat → Int32) (m : Nat) : Nat → Bool
  | 0 => true
  | v + 1 => fg_al fi m v && decide (fi v < 0 ∨ fi v = nI (fg_bt m v))
theorem fg_al_iff (fi : Nat → Int32) (m : Nat) : ∀ n, fg_al fi m n = true ↔ ∀ v, v < n → (fi v < 0 ∨ fi v = nI (fg_bt m v)) := by
  intro n
  induction n with
  | zero =>
    unfold fg_al
    exact ⟨fun _ v h => by omega, fun _ => rfl⟩
  | succ n ih =>
    unfold fg_al
    rw [Bool.and_eq_true, ih]
    constructor
    · rintro ⟨h1, h2⟩ v hv
      by_cases hn : v = n
      · subst hn; exact of_decide_eq_true h2
      · exact h1 v (by omega)
    · intro h
      exact ⟨fun v hv => h v (by omega), decide_eq_true (h n (by omega))⟩
/-- fixed below k as the mask says, from k on by 'fixed' -/
def fg_cm (fi : Nat → Int32) (k m : Nat) : Nat → Bool
  | 0 => true
  | v + 1 => fg_cm fi k m v && (if v < k then decide (fi v < 0 ∨ fi v = nI (fg_bt m v)) else decide (fi v < 0 ∨ m.testBit v = false))
theorem fg_cm_iff (fi : Nat → Int32) (k m : Nat) : ∀ n, fg_cm fi k m n = true ↔ ∀ v, v < n → ((v < k → fi v < 0 ∨ fi v = nI (fg_bt m v)) ∧ (k ≤ v → fi v < 0 ∨ m.testBit v = false)) := by
  intro n
  induction n with
  | zero =>
    unfold fg_cm
    exact ⟨fun _ v h => by omega, fun _ => rfl⟩
  | succ n ih =>
    unfold fg_cm
    rw [Bool.and_eq_true, ih]
    constructor
    · rintro ⟨h1, h2⟩ v hv
      by_cases hn : v = n
      · subst hn
        by_cases hk : v < k
        · rw [if_pos hk] at h2
          exact ⟨fun _ => of_decide_eq_true h2, fun z => by omega⟩
        · rw [if_neg hk] at h2
          exact ⟨fun z => absurd z hk, fun _ => of_decide_eq_true h2⟩
      · exact h1 v (by omega)
    · intro h
      refine ⟨fun v hv => h v (by omega), ?_⟩
      by_cases hk : n < k
      · rw [if_pos hk]
        exact decide_eq_true ((h n (by omega)).1 hk)
      · rw [if_neg hk]
        exact decide_eq_true ((h n (by omega)).2 (by omega))
def fg_gk (fi : Nat → Int32) (h : (Nat → Nat) → Nat) (k m : Nat) : Nat := if fg_cm fi k m 7 = true then h (fun v => if v < k then fg_bt m v else fg_vl fi m v) else 0
theorem fg_gk_eq {fi : Nat → Int32} {h : (Nat → Nat) → Nat} {k k' m m' : Nat} (hc : fg_cm fi k m 7 = true ↔ fg_cm fi k' m' 7 = true) (hh : h (fun v => if v < k then fg_bt m v else fg_vl fi m v) = h (fun v => if v < k' then fg_bt m' v else fg_vl fi m' v)) : fg_gk fi h k m = fg_gk fi h k' m' := by
  unfold fg_gk
  by_cases q : fg_cm fi k m 7 = true
  · rw [if_pos q, if_pos (hc.mp q), hh]
  · rw [if_neg q, if_neg (fun z => q (hc.mpr z))]
theorem fg_gk_0 {fi : Nat → Int32} {h : (Nat → Nat) → Nat} {k m : Nat} (hc : ¬ fg_cm fi k m 7 = true) : fg_gk fi h k m = 0 := by
  unfold fg_gk
  rw [if_neg hc]
theorem fg_n01 : ¬ nI 0 = nI 1 := by decide
theorem fg_unfix_step {md k : Nat} {fi : Nat → Int32} (hk : k < 7) (hfi : ∀ v, v < 7 → fg_tri (fi v)) {h : (Nat → Nat) → Nat} (hext : ∀ a b : Nat → Nat, (∀ v, v < 7 → a v = b v) → h a = h b) : fg_sg md (fg_gk fi h k) 128 = fg_sg md (fg_gk fi h (k + 1)) 128 := by
  rcases hfi k hk with hc | hc | hc
  · have hlt : fi k < 0 := by rw [hc]; decide
    refine fg_sg_congr (fun m hm => fg_gk_eq ?_ (hext _ _ (fun v hv => ?_)))
    · rw [fg_cm_iff, fg_cm_iff]
      constructor
      · intro q v hv
        by_cases e : v = k
        · subst e; exact ⟨fun _ => Or.inl hlt, fun _ => Or.inl hlt⟩
        · exact ⟨fun z => (q v hv).1 (by omega), fun z => (q v hv).2 (by omega)⟩
      · intro q v hv
        by_cases e : v = k
        · subst e; exact ⟨fun _ => Or.inl hlt, fun _ => Or.inl hlt⟩
        · exact ⟨fun z => (q v hv).1 (by omega), fun z => (q v hv).2 (by omega)⟩
    · by_cases e : v = k
      · subst e
        show (if v < v then fg_bt m v else fg_vl fi m v) = (if v < v + 1 then fg_bt m v else fg_vl fi m v)
        rw [if_neg (by omega), if_pos (by omega)]
        unfold fg_vl
        rw [if_pos hlt]
      · show (if v < k then fg_bt m v else fg_vl fi m v) = (if v < k + 1 then fg_bt m v else fg_vl fi m v)
        by_cases e2 : v < k
        · rw [if_pos e2, if_pos (by omega)]
        · rw [if_neg e2, if_neg (by omega)]
  · have hnl : ¬ fi k < 0 := by rw [hc]; decide
    rw [show (128 : Nat) = 2 ^ 7 from rfl, fg_pair md k 7 _ hk, fg_pair md k 7 (fg_gk fi h (k + 1)) hk]
    refine fg_sg_congr (fun m hm => ?_)
    by_cases hb : m.testBit k = true
    · simp only [hb, if_true]
    · have hb' : m.testBit k = false := by simpa using hb
      have hs : (m ||| 2 ^ k).testBit k = true := by rw [Nat.testBit_or, Nat.testBit_two_pow]; simp
      simp only [hb', Bool.false_eq_true, if_false]
      have z1 : fg_gk fi h k (m ||| 2 ^ k) = 0 := fg_gk_0 (fun q => by
        have := ((fg_cm_iff _ _ _ _).mp q k hk).2 (Nat.le_refl _)
        rcases this with z | z
        · exact hnl z
        · rw [hs] at z; cases z)
      have z2 : fg_gk fi h (k + 1) (m ||| 2 ^ k) = 0 := fg_gk_0 (fun q => by
        have := ((fg_cm_iff _ _ _ _).mp q k hk).1 (by omega)
        rcases this with z | z
        · exact hnl z
        · rw [hc, fg_bt_self] at z; exact fg_n01 z)
      rw [z1, z2]
      congr 1
      refine fg_gk_eq ?_ (hext _ _ (fun v hv => ?_))
      · rw [fg_cm_iff, fg_cm_iff]
        have hbk : fg_bt m k = 0 := fg_bt0.mpr hb'
        constructor
        · intro q v hv
          by_cases e : v = k
          · subst e; exact ⟨fun _ => Or.inr (by rw [hbk]; exact hc), fun _ => Or.inr hb'⟩
          · exact ⟨fun z => (q v hv).1 (by omega), fun z => (q v hv).2 (by omega)⟩
        · intro q v hv
          by_cases e : v = k
          · subst e; exact ⟨fun _ => Or.inr (by rw [hbk]; exact hc), fun _ => Or.inr hb'⟩
          · exact ⟨fun z => (q v hv).1 (by omega), fun z => (q v hv).2 (by omega)⟩
      · by_cases e : v = k
        · subst e
          show (if v < v then fg_bt m v else fg_vl fi m v) = (if v < v + 1 then fg_bt m v else fg_vl fi m v)
          rw [if_neg (by omega), if_pos (by omega), fg_bt0.mpr hb']
          unfold fg_vl
          rw [if_neg hnl, hc]
          exact nI_clamp (by decide)
        · show (if v < k then fg_bt m v else fg_vl fi m v) = (if v < k + 1 then fg_bt m v else fg_vl fi m v)
          by_cases e2 : v < k
          · rw [if_pos e2, if_pos (by omega)]
          · rw [if_neg e2, if_neg (by omega)]
  · have hnl : ¬ fi k < 0 := by rw [hc]; decide
    rw [show (128 : Nat) = 2 ^ 7 from rfl, fg_pair md k 7 _ hk, fg_pair md k 7 (fg_gk fi h (k + 1)) hk]
    refine fg_sg_congr (fun m hm => ?_)
    by_cases hb : m.testBit k = true
    · simp only [hb, if_true]
    · have hb' : m.testBit k = false := by simpa using hb
      have hs : (m ||| 2 ^ k).testBit k = true := by rw [Nat.testBit_or, Nat.testBit_two_pow]; simp
      have hbk : fg_bt m k = 0 := fg_bt0.mpr hb'
      simp only [hb', Bool.false_eq_true, if_false]
      have z1 : fg_gk fi h k (m ||| 2 ^ k) = 0 := fg_gk_0 (fun q => by
        have := ((fg_cm_iff _ _ _ _).mp q k hk).2 (Nat.le_refl _)
        rcases this with z | z
        · exact hnl z
        · rw [hs] at z; cases z)
      have z2 : fg_gk fi h (k + 1) m = 0 := fg_gk_0 (fun q => by
        have := ((fg_cm_iff _ _ _ _).mp q k hk).1 (by omega)
        rcases this with z | z
        · exact hnl z
        · rw [hc, hbk] at z; exact fg_n01 z.symm)
      rw [z1, z2, fg_op_z, fg_op_0]
      have ho : ∀ v, v ≠ k → (m ||| 2 ^ k).testBit v = m.testBit v := fun v e => by
        rw [Nat.testBit_or, Nat.testBit_two_pow]
        simp [Ne.symm e]
      refine fg_gk_eq ?_ (hext _ _ (fun v hv => ?_))
      · rw [fg_cm_iff, fg_cm_iff]
        constructor
        · intro q v hv
          by_cases e : v = k
          · subst e; exact ⟨fun _ => Or.inr (by rw [fg_bt_self]; exact hc), fun z => by omega⟩
          · refine ⟨fun z => ?_, fun z => ?_⟩
            · rw [fg_bt_or (Ne.symm e)]; exact (q v hv).1 (by omega)
            · rw [ho v e]; exact (q v hv).2 (by omega)
        · intro q v hv
          by_cases e : v = k
          · subst e; exact ⟨fun z => by omega, fun _ => Or.inr hb'⟩
          · refine ⟨fun z => ?_, fun z => ?_⟩
            · have := (q v hv).1 (by omega)
              rw [fg_bt_or (Ne.symm e)] at this; exact this
            · have := (q v hv).2 (by omega)
              rw [ho v e] at this; exact this
      · by_cases e : v = k
        · subst e
          show (if v < v then fg_bt m v else fg_vl fi m v) = (if v < v + 1 then fg_bt (m ||| 2 ^ v) v else fg_vl fi (m ||| 2 ^ v) v)
          rw [if_neg (by omega), if_pos (by omega), fg_bt_self]
          unfold fg_vl
          rw [if_neg hnl, hc]
          exact nI_clamp (by decide)
        · show (if v < k then fg_bt m v else fg_vl fi m v) = (if v < k + 1 then fg_bt (m ||| 2 ^ k) v else fg_vl fi (m ||| 2 ^ k) v)
          have eb := fg_bt_or (m := m) (Ne.symm e)
          by_cases e2 : v < k
          · rw [if_pos e2, if_pos (by omega), eb]
          · rw [if_neg e2, if_neg (by omega)]
            unfold fg_vl
            rw [eb]
/-- the fold over the free variables is the fold over the allowed masks -/
theorem fg_unfix {md : Nat} {fi : Nat → Int32} (hfi : ∀ v, v < 7 → fg_tri (fi v)) {h : (Nat → Nat) → Nat} (hext : ∀ a b : Nat → Nat, (∀ v, v < 7 → a v = b v) → h a = h b) :
    fg_fo md (fg_lf fi 7) (fun m => h (fg_vl fi m)) = fg_sg md (fun m => if fg_al fi m 7 = true then h (fg_bt m) else 0) 128 := by
  have steps : ∀ k, k ≤ 7 → fg_sg md (fg_gk fi h 0) 128 = fg_sg md (fg_gk fi h k) 128 := by
    intro k
    induction k with
    | zero => intro _; rfl
    | succ k ih => intro hk; rw [ih (by omega), fg_unfix_step (by omega) hfi hext]
  have e0 : fg_fo md (fg_lf fi 7) (fun m => h (fg_vl fi m)) = fg_sg md (fg_gk fi h 0) 128 := by
    unfold fg_fo
    refine fg_sg_congr (fun m hm => ?_)
    have hc : (m &&& fg_lf fi 7 = m) ↔ fg_cm fi 0 m 7 = true := by
      rw [fg_cm_iff, fg_sub_tb]
      constructor
      · intro q v hv
        refine ⟨fun z => by omega, fun _ => ?_⟩
        cases hb : m.testBit v with
        | false => exact Or.inr rfl
        | true => exact Or.inl ((fg_lf_tb fi v 7).mp (q v hb)).2
      · intro q v hv
        have hv7 : v < 7 := by
          rcases Nat.lt_or_ge v 7 with z | z
          · exact z
          · have : m.testBit v = false := Nat.testBit_lt_two_pow (Nat.lt_of_lt_of_le hm (Nat.pow_le_pow_right (n := 2) (by decide) z))
            rw [this] at hv; cases hv
        rcases (q v hv7).2 (by omega) with z | z
        · exact (fg_lf_tb fi v 7).mpr ⟨hv7, z⟩
        · rw [hv] at z; cases z
    unfold fg_gk
    by_cases q : m &&& fg_lf fi 7 = m
    · rw [if_pos q, if_pos (hc.mp q)]
      refine hext _ _ (fun v hv => ?_)
      simp
    · rw [if_neg q, if_neg (fun z => q (hc.mpr z))]
  rw [e0, steps 7 (by omega)]
  refine fg_sg_congr (fun m hm => ?_)
  have hc : fg_cm fi 7 m 7 = true ↔ fg_al fi m 7 = true := by
    rw [fg_cm_iff, fg_al_iff]
    constructor
    · intro q v hv; exact (q v hv).1 hv
    · intro q v hv; exact ⟨fun _ => q v hv, fun z => by omega⟩
  unfold fg_gk
  by_cases q : fg_al fi m 7 = true
  · rw [if_pos q, if_pos (hc.mpr q)]
    refine hext _ _ (fun v hv => ?_)
    show (if v < 7 then fg_bt m v else fg_vl fi m v) = fg_bt m v
    rw [if_pos hv]
  · rw [if_neg q, if_neg (fun z => q (hc.mp z))]
/-- what solve(md) works out -/
def fg_Q (md F : Nat) (va we fi : Nat → Int32) : Nat := fg_fo md (fg_lf fi 7) (fun m => fg_hh md F va we (fg_vl fi m))
theorem fg_Q_eq {md F : Nat} {ar va we fi : Nat → Int32} (hf : ∀ f, f < F → fg_fok ar va f) (hfi : ∀ v, v < 7 → fg_tri (fi v)) : fg_Q md F va we fi = fg_sg md (fun m => if fg_al fi m 7 = true then fg_hh md F va we (fg_bt m) else 0) 128 :=
  fg_unfix hfi (fun a b hab => fg_hh_ext hf hab)
/-- the worth of a mask -/
def fg_wo (F : Nat) (va we gi : Nat → Int32) (m : Nat) : Nat := if fg_al gi m 7 = true then fg_hh 0 F va we (fg_bt m) else 0
theorem fg_wq0 {md w : Nat} (h : md ≠ 2) : fg_wq md w = w := by
  unfold fg_wq
  rw [if_neg (fun z => h z.1)]
theorem fg_hh0 {md F : Nat} {va we : Nat → Int32} {a : Nat → Nat} (h : md ≠ 2) : fg_hh md F va we a = fg_hh 0 F va we a := by
  refine fg_pf_congr (fun f hf => ?_)
  rw [fg_wq0 h, fg_wq0 (by decide)]
theorem fg_Q_wo {md F : Nat} {ar va we fi : Nat → Int32} (h : md ≠ 2) (hf : ∀ f, f < F → fg_fok ar va f) (hfi : ∀ v, v < 7 → fg_tri (fi v)) : fg_Q md F va we fi = fg_sg md (fg_wo F va we fi) 128 := by
  rw [fg_Q_eq hf hfi]
  refine fg_sg_congr (fun m hm => ?_)
  unfold fg_wo
  rw [fg_hh0 h]
theorem fg_pf_ind (f : Nat → Nat) : ∀ n, fg_pf (fun t => fg_wq 2 (f t)) n = if 0 < fg_pf (fun t => fg_wq 0 (f t)) n then 1 else 0 := by
  intro n
  induction n with
  | zero => rfl
  | succ n ih =>
    show fg_pf (fun t => fg_wq 2 (f t)) n * fg_wq 2 (f n) = if 0 < fg_pf (fun t => fg_wq 0 (f t)) n * fg_wq 0 (f n) then 1 else 0
    rw [ih, fg_wq0 (md := 0) (w := f n) (by decide)]
    generalize fg_pf (fun t => fg_wq 0 (f t)) n = z
    by_cases h2 : 0 < f n
    · have e : fg_wq 2 (f n) = 1 := by
        unfold fg_wq
        rw [if_pos ⟨rfl, h2⟩]
      rw [e, Nat.mul_one]
      by_cases h1 : 0 < z
      · rw [if_pos h1, if_pos (Nat.mul_pos h1 h2)]
      · have : z = 0 := by omega
        rw [this, Nat.zero_mul]
    · have e0 : f n = 0 := by omega
      have e : fg_wq 2 (f n) = 0 := by
        unfold fg_wq
        rw [if_neg (fun z => h2 z.2), e0]
      rw [e, e0, Nat.mul_zero, Nat.mul_zero]
      rfl
theorem fg_sg_02 (g : Nat → Nat) : ∀ n, fg_sg 2 g n = fg_sg 0 g n := by
  intro n
  induction n with
  | zero => rfl
  | succ n ih =>
    show fg_op 2 (fg_sg 2 g n) (g n) = fg_op 0 (fg_sg 0 g n) (g n)
    rw [ih]
    rfl
theorem fg_Q_cnt {F : Nat} {ar va we fi : Nat → Int32} (hf : ∀ f, f < F → fg_fok ar va f) (hfi : ∀ v, v < 7 → fg_tri (fi v)) : fg_Q 2 F va we fi = fg_sg 0 (fun m => if 0 < fg_wo F va we fi m then 1 else 0) 128 := by
  rw [fg_Q_eq hf hfi, fg_sg_02]
  refine fg_sg_congr (fun m hm => ?_)
  unfold fg_wo fg_hh
  by_cases q : fg_al fi m 7 = true
  · rw [if_pos q, if_pos q, fg_pf_ind]
  · rw [if_neg q, if_neg q]
    rfl
/-! one or two values fixed more -/
theorem fg_upd_tri {fi : Nat → Int32} {v c : Nat} (hc : c ≤ 1) (h : ∀ v, v < 7 → fg_tri (fi v)) : ∀ u, u < 7 → fg_tri (upd fi v (nI c) u) := by
  intro u hu
  by_cases e : u = v
  · subst e
    rw [pk_us]
    rcases (show c = 0 ∨ c = 1 by omega) with z | z
    · rw [z]; exact Or.inr (Or.inl rfl)
    · rw [z]; exact Or.inr (Or.inr rfl)
  · rw [pk_un e]
    exact h u hu
theorem fg_wo_upd {F : Nat} {va we fi : Nat → Int32} {v c m : Nat} (hv : v < 7) (hc : c ≤ 1) (h : fi v < 0 ∨ fi v = nI c) : fg_wo F va we (upd fi v (nI c)) m = if fg_bt m v = c then fg_wo F va we fi m else 0 := by
  have hb := fg_bt_le m v
  have key : fg_al (upd fi v (nI c)) m 7 = true ↔ (fg_bt m v = c ∧ fg_al fi m 7 = true) := by
    rw [fg_al_iff, fg_al_iff]
    constructor
    · intro q
      have h0 := q v hv
      rw [pk_us] at h0
      have e : fg_bt m v = c := by
        rcases h0 with z | z
        · exact absurd z (nI_pos (by omega))
        · exact ((nI_eq (by omega) (by omega)).mp z).symm
      refine ⟨e, fun u hu => ?_⟩
      by_cases eu : u = v
      · subst eu
        rw [e]; exact h
      · have := q u hu
        rw [pk_un eu] at this
        exact this
    · rintro ⟨e, q⟩ u hu
      by_cases eu : u = v
      · subst eu
        rw [pk_us, e]; exact Or.inr rfl
      · rw [pk_un eu]; exact q u hu
  unfold fg_wo
  by_cases q : fg_bt m v = c
  · rw [if_pos q]
    by_cases q2 : fg_al fi m 7 = true
    · rw [if_pos q2, if_pos (key.mpr ⟨q, q2⟩)]
    · rw [if_neg q2, if_neg (fun z => q2 (key.mp z).2)]
  · rw [if_neg q, if_neg (fun z => q (key.mp z).1)]
theorem fg_wo_no {F : Nat} {va we fi : Nat → Int32} {v c m : Nat} (hv : v < 7) (h : ¬ fi v < 0) (h2 : ¬ fi v = nI c) : (if fg_bt m v = c then fg_wo F va we fi m else 0) = 0 := by
  by_cases q : fg_bt m v = c
  · rw [if_pos q]
    unfold fg_wo
    rw [if_neg]
    intro z
    rcases (fg_al_iff fi m 7).mp z v hv with y | y
    · exact h y
    · rw [q] at y; exact h2 y
  · rw [if_neg q]
def fg_s1 (F : Nat) (va we fi : Nat → Int32) (v c : Nat) : Nat := fg_sg 0 (fun m => if fg_bt m v = c then fg_wo F va we fi m else 0) 128
def fg_s2 (F : Nat) (va we fi : Nat → Int32) (a x b y : Nat) : Nat := fg_sg 0 (fun m => if fg_bt m a = x ∧ fg_bt m b = y then fg_wo F va we fi m else 0) 128
theorem fg_s1_yes {F : Nat} {ar va we fi : Nat → Int32} {v c : Nat} (hf : ∀ f, f < F → fg_fok ar va f) (hfi : ∀ v, v < 7 → fg_tri (fi v)) (hv : v < 7) (hc : c ≤ 1) (h : fi v < 0 ∨ fi v = nI c) : fg_Q 0 F va we (upd fi v (nI c)) = fg_s1 F va we fi v c := by
  rw [fg_Q_wo (by decide) hf (fg_upd_tri hc hfi)]
  exact fg_sg_congr (fun m hm => fg_wo_upd hv hc h)
theorem fg_s1_no {F : Nat} {va we fi : Nat → Int32} {v c : Nat} (hv : v < 7) (h : ¬ fi v < 0) (h2 : ¬ fi v = nI c) : fg_s1 F va we fi v c = 0 := by
  unfold fg_s1
  rw [fg_sg_congr (g' := fun _ => 0) (fun m hm => fg_wo_no hv h h2), fg_sg_zero]
theorem fg_s2_yes {F : Nat} {va we fi : Nat → Int32} {a x b y : Nat} (ha : a < 7) (hx : x ≤ 1) (h : fi a < 0 ∨ fi a = nI x) : fg_s1 F va we (upd fi a (nI x)) b y = fg_s2 F va we fi a x b y := by
  refine fg_sg_congr (fun m hm => ?_)
  show (if fg_bt m b = y then fg_wo F va we (upd fi a (nI x)) m else 0) = (if fg_bt m a = x ∧ fg_bt m b = y then fg_wo F va we fi m else 0)
  rw [fg_wo_upd ha hx h]
  by_cases q1 : fg_bt m a = x
  · by_cases q2 : fg_bt m b = y
    · rw [if_pos q2, if_pos q1, if_pos ⟨q1, q2⟩]
    · rw [if_neg q2, if_neg (fun z => q2 z.2)]
  · have q3 : ¬ (fg_bt m a = x ∧ fg_bt m b = y) := fun z => q1 z.1
    rw [if_neg q1, if_neg q3]
    split <;> rfl
theorem fg_s2_no {F : Nat} {va we fi : Nat → Int32} {a x b y : Nat} (ha : a < 7) (h : ¬ fi a < 0) (h2 : ¬ fi a = nI x) : fg_s2 F va we fi a x b y = 0 := by
  unfold fg_s2
  rw [fg_sg_congr (g' := fun _ => 0) (fun m hm => ?_), fg_sg_zero]
  by_cases q : fg_bt m a = x ∧ fg_bt m b = y
  · rw [if_pos q]
    have := fg_wo_no (F := F) (va := va) (we := we) (m := m) ha h h2
    rw [if_pos q.1] at this
    exact this
  · rw [if_neg q]
theorem fg_s2_alike {F : Nat} {va we fi : Nat → Int32} {a b : Nat} : fg_s2 F va we fi a 0 b 0 + fg_s2 F va we fi a 1 b 1 = fg_sg 0 (fun m => if fg_bt m a = fg_bt m b then fg_wo F va we fi m else 0) 128 := by
  have := fg_sg_op 0 (fun m => if fg_bt m a = 0 ∧ fg_bt m b = 0 then fg_wo F va we fi m else 0) (fun m => if fg_bt m a = 1 ∧ fg_bt m b = 1 then fg_wo F va we fi m else 0) 128
  show fg_op 0 (fg_s2 F va we fi a 0 b 0) (fg_s2 F va we fi a 1 b 1) = _
  unfold fg_s2
  rw [← this]
  refine fg_sg_congr (fun m hm => ?_)
  have h1 := fg_bt_le m a
  have h2 := fg_bt_le m b
  rcases (show fg_bt m a = 0 ∨ fg_bt m a = 1 by omega) with q1 | q1 <;> rcases (show fg_bt m b = 0 ∨ fg_bt m b = 1 by omega) with q2 | q2 <;> simp [q1, q2, fg_op]
theorem fg_s2_self {F : Nat} {va we fi : Nat → Int32} {a c : Nat} : fg_s2 F va we fi a c a c = fg_s1 F va we fi a c := by
  refine fg_sg_congr (fun m hm => ?_)
  by_cases q : fg_bt m a = c
  · rw [if_pos q, if_pos ⟨q, q⟩]
  · rw [if_neg q, if_neg (fun z => q z.1)]
/-! greatest values -/
theorem fg_sg_ge {g : Nat → Nat} : ∀ {n m : Nat}, m < n → g m ≤ fg_sg 1 g n := by
  intro n
  induction n with
  | zero => intro m h; omega
  | succ n ih =>
    intro m h
    show g m ≤ max (fg_sg 1 g n) (g n)
    by_cases e : m = n
    · subst e; exact Nat.le_max_right _ _
    · exact Nat.le_trans (ih (show m < n by omega)) (Nat.le_max_left _ _)
theorem fg_sg_le {g : Nat → Nat} {B : Nat} : ∀ {n : Nat}, (∀ m, m < n → g m ≤ B) → fg_sg 1 g n ≤ B := by
  intro n
  induction n with
  | zero => intro _; exact Nat.zero_le _
  | succ n ih =>
    intro h
    show max (fg_sg 1 g n) (g n) ≤ B
    exact Nat.max_le.mpr ⟨ih (fun m hm => h m (by omega)), h n (by omega)⟩
theorem fg_sg_at {g : Nat → Nat} : ∀ {n : Nat}, fg_sg 1 g n = 0 ∨ ∃ m, m < n ∧ g m = fg_sg 1 g n := by
  intro n
  induction n with
  | zero => exact Or.inl rfl
  | succ n ih =>
    show max (fg_sg 1 g n) (g n) = 0 ∨ ∃ m, m < n + 1 ∧ g m = max (fg_sg 1 g n) (g n)
    rcases Nat.le_total (fg_sg 1 g n) (g n) with h | h
    · exact Or.inr ⟨n, by omega, (Nat.max_eq_right h).symm⟩
    · rw [Nat.max_eq_left h]
      rcases ih with q | ⟨m, hm, q⟩
      · exact Or.inl q
      · exact Or.inr ⟨m, by omega, q⟩
/-- the first allowed mask of the greatest worth -/
def fg_ba (F : Nat) (va we gi : Nat → Int32) (M : Nat) : Prop := M < 128 ∧ fg_al gi M 7 = true ∧ fg_wo F va we gi M = fg_sg 1 (fg_wo F va we gi) 128 ∧ ∀ j, j < M → ¬ (fg_al gi j 7 = true ∧ fg_wo F va we gi j = fg_sg 1 (fg_wo F va we gi) 128)
theorem fg_ba_one {F : Nat} {va we gi : Nat → Int32} {M N : Nat} (h1 : fg_ba F va we gi M) (h2 : fg_ba F va we gi N) : M = N := by
  rcases Nat.lt_trichotomy M N with q | q | q
  · exact absurd ⟨h1.2.1, h1.2.2.1⟩ (h2.2.2.2 M q)
  · exact q
  · exact absurd ⟨h2.2.1, h2.2.2.1⟩ (h1.2.2.2 N q)
/-- a mask made of what is given, 0 elsewhere -/
def fg_gm (gi : Nat → Int32) : Nat → Nat
  | 0 => 0
  | v + 1 => if gi v = nI 1 then fg_gm gi v ||| 2 ^ v else fg_gm gi v
theorem fg_gm_tb (gi : Nat → Int32) (i : Nat) : ∀ n, (fg_gm gi n).testBit i = true ↔ (i < n ∧ gi i = nI 1) := by
  intro n
  induction n with
  | zero =>
    unfold fg_gm
    simp
  | succ n ih =>
    unfold fg_gm
    by_cases h : gi n = nI 1
    · rw [if_pos h, Nat.testBit_or, Nat.testBit_two_pow, Bool.or_eq_true, ih]
      constructor
      · rintro (q | q)
        · exact ⟨by omega, q.2⟩
        · have := of_decide_eq_true q
          subst this
          exact ⟨by omega, h⟩
      · rintro ⟨q1, q2⟩
        by_cases hn : n = i
        · exact Or.inr (decide_eq_true hn)
        · exact Or.inl ⟨by omega, q2⟩
    · rw [if_neg h, ih]
      constructor
      · rintro ⟨q1, q2⟩; exact ⟨by omega, q2⟩
      · rintro ⟨q1, q2⟩
        refine ⟨?_, q2⟩
        rcases Nat.lt_or_ge i n with z | z
        · exact z
        · have : i = n := by omega
          subst this
          exact absurd q2 h
theorem fg_gm_al {gi : Nat → Int32} (hg : ∀ v, v < 7 → fg_tri (gi v)) : fg_gm gi 7 < 128 ∧ fg_al gi (fg_gm gi 7) 7 = true := by
  constructor
  · refine Nat.lt_pow_two_of_testBit (n := 7) _ (fun i hi => ?_)
    cases h : (fg_gm gi 7).testBit i with
    | false => rfl
    | true =>
      have := ((fg_gm_tb gi i 7).mp h).1
      omega
  · rw [fg_al_iff]
    intro v hv
    rcases hg v hv with q | q | q
    · left; rw [q]; decide
    · right
      have : fg_bt (fg_gm gi 7) v = 0 := by
        rw [fg_bt0]
        cases h : (fg_gm gi 7).testBit v with
        | false => rfl
        | true => exact absurd (q.symm.trans ((fg_gm_tb gi v 7).mp h).2) fg_n01
      rw [this]; exact q
    · right
      have : fg_bt (fg_gm gi 7) v = 1 := by
        rw [fg_bt1]
        exact (fg_gm_tb gi v 7).mpr ⟨hv, q⟩
      rw [this]; exact q
theorem fg_ba_ex {F : Nat} {va we gi : Nat → Int32} (hg : ∀ v, v < 7 → fg_tri (gi v)) : ∃ M, fg_ba F va we gi M := by
  have hex : ∃ m, m < 128 ∧ fg_al gi m 7 = true ∧ fg_wo F va we gi m = fg_sg 1 (fg_wo F va we gi) 128 := by
    rcases fg_sg_at (g := fg_wo F va we gi) (n := 128) with q | ⟨m, hm, q⟩
    · obtain ⟨h1, h2⟩ := fg_gm_al hg
      refine ⟨_, h1, h2, ?_⟩
      have := fg_sg_ge (g := fg_wo F va we gi) h1
      omega
    · by_cases ha : fg_al gi m 7 = true
      · exact ⟨m, hm, ha, q⟩
      · have h0 : fg_wo F va we gi m = 0 := by unfold fg_wo; rw [if_neg ha]
        obtain ⟨h1, h2⟩ := fg_gm_al hg
        refine ⟨_, h1, h2, ?_⟩
        have := fg_sg_ge (g := fg_wo F va we gi) h1
        omega
  obtain ⟨M, hM, hmin⟩ := pk_least (fun m => m < 128 ∧ fg_al gi m 7 = true ∧ fg_wo F va we gi m = fg_sg 1 (fg_wo F va we gi) 128) hex
  exact ⟨M, hM.1, hM.2.1, hM.2.2, fun j hj z => hmin j hj ⟨by omega, z.1, z.2⟩⟩
/-- the greedy choice: with the variables above v as in M, v at 0 keeps the greatest worth just when M has 0 there -/
theorem fg_greedy {F : Nat} {ar va we gi fi : Nat → Int32} {M v : Nat} (hf : ∀ f, f < F → fg_fok ar va f) (hg : ∀ v, v < 7 → fg_tri (gi v)) (hM : fg_ba F va we gi M) (hv : v < 7) (hgv : gi v < 0)
    (hfi : ∀ u, u < 7 → fi u = if u ≤ v then gi u else nI (fg_bt M u)) : fg_Q 1 F va we (upd fi v (nI 0)) = fg_sg 1 (fg_wo F va we gi) 128 ↔ fg_bt M v = 0 := by
  obtain ⟨hM1, hM2, hM3, hM4⟩ := hM
  have hal := (fg_al_iff gi M 7).mp hM2
  have htri : ∀ u, u < 7 → fg_tri (fi u) := by
    intro u hu
    rw [hfi u hu]
    split
    · exact hg u hu
    · have := fg_bt_le M u
      rcases (show fg_bt M u = 0 ∨ fg_bt M u = 1 by omega) with q | q
      · rw [q]; exact Or.inr (Or.inl rfl)
      · rw [q]; exact Or.inr (Or.inr rfl)
  rw [fg_Q_wo (by decide) hf (fg_upd_tri (by decide) htri)]
  have hsub : ∀ m, fg_al (upd fi v (nI 0)) m 7 = true ↔ (fg_bt m v = 0 ∧ (∀ u, u < v → gi u < 0 ∨ gi u = nI (fg_bt m u)) ∧ ∀ u, v < u → u < 7 → fg_bt m u = fg_bt M u) := by
    intro m
    rw [fg_al_iff]
    constructor
    · intro q
      refine ⟨?_, fun u hu => ?_, fun u hu hu7 => ?_⟩
      · have := q v hv
        rw [pk_us] at this
        have hb := fg_bt_le m v
        rcases this with z | z
        · exact absurd z (by decide)
        · exact ((nI_eq (by decide) (by omega)).mp z).symm
      · have := q u (by omega)
        rw [pk_un (by omega), hfi u (by omega), if_pos (by omega)] at this
        exact this
      · have := q u hu7
        rw [pk_un (by omega), hfi u hu7, if_neg (by omega)] at this
        have hb := fg_bt_le M u
        have hb2 := fg_bt_le m u
        rcases this with z | z
        · exact absurd z (nI_pos (by omega))
        · exact ((nI_eq (by omega) (by omega)).mp z).symm
    · rintro ⟨q1, q2, q3⟩ u hu
      rcases Nat.lt_trichotomy u v with z | z | z
      · rw [pk_un (by omega), hfi u hu, if_pos (by omega)]; exact q2 u z
      · subst z; rw [pk_us, q1]; exact Or.inr rfl
      · rw [pk_un (by omega), hfi u hu, if_neg (by omega), q3 u z hu]; exact Or.inr rfl
  have hin : ∀ m, fg_al (upd fi v (nI 0)) m 7 = true → fg_al gi m 7 = true := by
    intro m q
    obtain ⟨q1, q2, q3⟩ := (hsub m).mp q
    rw [fg_al_iff]
    intro u hu
    rcases Nat.lt_trichotomy u v with z | z | z
    · exact q2 u z
    · subst z; exact Or.inl hgv
    · rw [q3 u z hu]; exact hal u hu
  have hwo : ∀ m, fg_al (upd fi v (nI 0)) m 7 = true → fg_wo F va we (upd fi v (nI 0)) m = fg_wo F va we gi m := by
    intro m q
    unfold fg_wo
    rw [if_pos q, if_pos (hin m q)]
  have hle : fg_sg 1 (fg_wo F va we (upd fi v (nI 0))) 128 ≤ fg_sg 1 (fg_wo F va we gi) 128 := by
    refine fg_sg_le (fun m hm => ?_)
    by_cases q : fg_al (upd fi v (nI 0)) m 7 = true
    · rw [hwo m q]; exact fg_sg_ge hm
    · unfold fg_wo
      rw [if_neg q]
      exact Nat.zero_le _
  constructor
  · intro hB
    have hb := fg_bt_le M v
    rcases (show fg_bt M v = 0 ∨ fg_bt M v = 1 by omega) with q | q
    · exact q
    · exfalso
      have hMt : M.testBit v = true := fg_bt1.mp q
      have hlow : ∀ m, m < 128 → fg_al (upd fi v (nI 0)) m 7 = true → m < M := by
        intro m hm z
        obtain ⟨z1, z2, z3⟩ := (hsub m).mp z
        refine fg_lt_tb (fg_bt0.mp z1) hMt (fun j hj => ?_)
        by_cases hj7 : j < 7
        · have := z3 j hj hj7
          rw [fg_bt_tb, fg_bt_tb] at this
          cases h1 : m.testBit j <;> cases h2 : M.testBit j <;> simp [h1, h2] at this ⊢
        · have e1 : m.testBit j = false := Nat.testBit_lt_two_pow (Nat.lt_of_lt_of_le hm (Nat.pow_le_pow_right (n := 2) (i := 7) (by decide) (by omega)))
          have e2 : M.testBit j = false := Nat.testBit_lt_two_pow (Nat.lt_of_lt_of_le hM1 (Nat.pow_le_pow_right (n := 2) (i := 7) (by decide) (by omega)))
          rw [e1, e2]
      rcases fg_sg_at (g := fg_wo F va we (upd fi v (nI 0))) (n := 128) with z | ⟨m, hm, z⟩
      · have hc : fg_al (upd fi v (nI 0)) (fg_clr M v) 7 = true := by
          rw [hsub]
          have hbt : ∀ u, u ≠ v → fg_bt (fg_clr M v) u = fg_bt M u := fun u hu => by
            rw [fg_bt_tb, fg_bt_tb, fg_clr_tb]
            simp [Ne.symm hu]
          refine ⟨?_, fun u hu => ?_, fun u hu hu7 => hbt u (by omega)⟩
          · rw [fg_bt0, fg_clr_tb]; simp
          · rw [hbt u (by omega)]; exact hal u (by omega)
        have hlt := fg_clr_lt M hM1 v hv
        have h1 := hlow _ hlt hc
        refine hM4 _ h1 ⟨hin _ hc, ?_⟩
        have h2 := fg_sg_ge (g := fg_wo F va we gi) hlt
        omega
      · by_cases ha : fg_al (upd fi v (nI 0)) m 7 = true
        · exact hM4 m (hlow m hm ha) ⟨hin m ha, by rw [← hwo m ha, z, hB]⟩
        · have h0 : fg_wo F va we (upd fi v (nI 0)) m = 0 := by unfold fg_wo; rw [if_neg ha]
          have hc : fg_al (upd fi v (nI 0)) (fg_clr M v) 7 = true := by
            rw [hsub]
            have hbt : ∀ u, u ≠ v → fg_bt (fg_clr M v) u = fg_bt M u := fun u hu => by
              rw [fg_bt_tb, fg_bt_tb, fg_clr_tb]
              simp [Ne.symm hu]
            refine ⟨?_, fun u hu => ?_, fun u hu hu7 => hbt u (by omega)⟩
            · rw [fg_bt0, fg_clr_tb]; simp
            · rw [hbt u (by omega)]; exact hal u (by omega)
          have hlt := fg_clr_lt M hM1 v hv
          have h1 := hlow _ hlt hc
          refine hM4 _ h1 ⟨hin _ hc, ?_⟩
          have h2 := fg_sg_ge (g := fg_wo F va we gi) hlt
          omega
  · intro hb
    refine Nat.le_antisymm hle ?_
    have hc : fg_al (upd fi v (nI 0)) M 7 = true := by
      rw [hsub]
      exact ⟨hb, fun u hu => hal u (by omega), fun u _ _ => rfl⟩
    rw [← hM3, ← hwo M hc]
    exact fg_sg_ge hM1
end
section
/-! WHAT THE WALKS ASK of plain numbers; the rooms and the call facts of FactorGraph's methods -/
theorem fg_cl {x : Int32} (h : ¬ x < 0) : x = nI x.toNatClampNeg := by
  obtain ⟨j, hj, e⟩ := nI_of h
  rw [e, nI_clamp hj]
def fg_en (s : Nat) : Int32 := if s < 128 then nI s else -1
theorem fg_en_lt {s : Nat} (h : s < 128) : fg_en s = nI s := if_pos h
theorem fg_en_neg {s : Nat} : fg_en s < 0 ↔ ¬ s < 128 := by
  unfold fg_en
  split
  · rename_i h
    exact ⟨fun z => absurd z (nI_pos (by omega)), fun z => absurd h z⟩
  · rename_i h
    exact ⟨fun _ => h, fun _ => by decide⟩
/-- the tables as the arrays hold them: S t = 128 for one that is out -/
def fg_tok (n : Nat) (S : Nat → Nat) (T : Nat → Nat → Nat) (sc : Nat → Int32) (ta : Nat → Int64) : Prop := (∀ t, t < n → S t ≤ 128 ∧ sc t = fg_en (S t)) ∧ ∀ t, t < n → S t < 128 → ∀ m, m &&& S t = m → ta (t * 128 + m) = lN (T t m)
theorem fg_and_lt (m : Nat) {s : Nat} (h : s < 128) : m &&& s < 128 := Nat.and_lt_two_pow (n := 7) m h
theorem fg_vl_le {fi : Nat → Int32} {m x : Nat} (h : fg_tri (fi x)) : fg_vl fi m x ≤ 1 := by
  unfold fg_vl
  rcases h with q | q | q
  · rw [if_pos (by rw [q]; decide)]; exact fg_bt_le m x
  · rw [q, if_neg (by decide)]; decide
  · rw [q, if_neg (by decide)]; decide
/-- the way of a factor, slot by slot -/
def fg_wp (va : Nat → Int32) (a : Nat → Nat) (f : Nat) : Nat → Nat
  | 0 => 0
  | i + 1 => fg_wp va a f i ||| fg_sv a (va (f * 3 + i)) * 2 ^ i
theorem fg_wp_3 {va : Nat → Int32} {a : Nat → Nat} {f : Nat} (h : ∀ i, i < 3 → fg_sv a (va (f * 3 + i)) ≤ 1) : fg_wp va a f 3 = fg_wy va a f ∧ fg_wy va a f < 8 := by
  have h0 := h 0 (by decide)
  have h1 := h 1 (by decide)
  have h2 := h 2 (by decide)
  rw [Nat.add_zero] at h0
  unfold fg_wy
  show ((0 ||| fg_sv a (va (f * 3 + 0)) * 2 ^ 0) ||| fg_sv a (va (f * 3 + 1)) * 2 ^ 1) ||| fg_sv a (va (f * 3 + 2)) * 2 ^ 2 = _ ∧ _
  rw [Nat.add_zero]
  generalize fg_sv a (va (f * 3)) = x0 at *
  generalize fg_sv a (va (f * 3 + 1)) = x1 at *
  generalize fg_sv a (va (f * 3 + 2)) = x2 at *
  have : ∀ x0, x0 < 2 → ∀ x1, x1 < 2 → ∀ x2, x2 < 2 → (((0 ||| x0 * 2 ^ 0) ||| x1 * 2 ^ 1) ||| x2 * 2 ^ 2 = x0 + 2 * x1 + 4 * x2 ∧ x0 + 2 * x1 + 4 * x2 < 8) := by decide
  exact this x0 (by omega) x1 (by omega) x2 (by omega)
theorem fg_wp_end {va : Nat → Int32} {a : Nat → Nat} {f k : Nat} (h : ∀ i, i < 3 → k ≤ i → va (f * 3 + i) = -1) (hk : k ≤ 3) : fg_wp va a f k = fg_wp va a f 3 := by
  have step : ∀ i, i < 3 → k ≤ i → fg_wp va a f (i + 1) = fg_wp va a f i := by
    intro i hi hki
    show fg_wp va a f i ||| fg_sv a (va (f * 3 + i)) * 2 ^ i = fg_wp va a f i
    rw [h i hi hki, fg_sv_m1, Nat.zero_mul, Nat.or_zero]
  rcases (show k = 0 ∨ k = 1 ∨ k = 2 ∨ k = 3 by omega) with q | q | q | q
  · subst q; rw [step 2 (by omega) (by omega), step 1 (by omega) (by omega), step 0 (by omega) (by omega)]
  · subst q; rw [step 2 (by omega) (by omega), step 1 (by omega) (by omega)]
  · subst q; rw [step 2 (by omega) (by omega)]
  · subst q; rfl
theorem fg_sv_le {ar va fi : Nat → Int32} {f m : Nat} (h : fg_fok ar va f) (hfi : ∀ v, v < 7 → fg_tri (fi v)) : ∀ i, i < 3 → fg_sv (fg_vl fi m) (va (f * 3 + i)) ≤ 1 := by
  intro i hi
  rcases fg_fok_slot h hi with q | ⟨x, hx, q⟩
  · rw [q, fg_sv_m1]; omega
  · rw [q, fg_sv_n _ (by omega)]; exact fg_vl_le (hfi x hx)
/-- the free variables of a factor -/
def fg_sp (fi va : Nat → Int32) (f : Nat) : Nat → Nat
  | 0 => 0
  | i + 1 => if va (f * 3 + i) < 0 then fg_sp fi va f i else if fi (va (f * 3 + i)).toNatClampNeg < 0 then fg_sp fi va f i ||| 2 ^ (va (f * 3 + i)).toNatClampNeg else fg_sp fi va f i
theorem fg_sp_lt {ar fi va : Nat → Int32} {f : Nat} (h : fg_fok ar va f) : ∀ i, i ≤ 3 → fg_sp fi va f i < 128 := by
  intro i
  induction i with
  | zero => intro _; exact (by decide : (0 : Nat) < 128)
  | succ i ih =>
    intro hi
    have h1 := ih (by omega)
    unfold fg_sp
    split
    · exact h1
    · split
      · rcases fg_fok_slot h (show i < 3 by omega) with q | ⟨x, hx, q⟩
        · rename_i z _; exact absurd (by rw [q]; decide) z
        · rw [q, nI_clamp (by omega)]
          exact Nat.or_lt_two_pow (n := 7) h1 (Nat.pow_lt_pow_right (by decide) hx)
      · exact h1
theorem fg_sp_end {ar fi va : Nat → Int32} {f k : Nat} (h : ∀ i, i < 3 → k ≤ i → va (f * 3 + i) = -1) (hk : k ≤ 3) : fg_sp fi va f k = fg_sp fi va f 3 := by
  have step : ∀ i, i < 3 → k ≤ i → fg_sp fi va f (i + 1) = fg_sp fi va f i := by
    intro i hi hki
    conv => lhs; unfold fg_sp
    rw [if_pos (by rw [h i hi hki]; decide)]
  rcases (show k = 0 ∨ k = 1 ∨ k = 2 ∨ k = 3 by omega) with q | q | q | q
  · subst q; rw [step 2 (by omega) (by omega), step 1 (by omega) (by omega), step 0 (by omega) (by omega)]
  · subst q; rw [step 2 (by omega) (by omega), step 1 (by omega) (by omega)]
  · subst q; rw [step 2 (by omega) (by omega)]
  · subst q; rfl
theorem fg_sp_has {fi va : Nat → Int32} {f i x : Nat} (hx : x < 7) (hv : va (f * 3 + i) = nI x) (hfx : fi x < 0) : ∀ n, i < n → (fg_sp fi va f n).testBit x = true := by
  intro n
  induction n with
  | zero => intro h; omega
  | succ n ih =>
    intro h
    unfold fg_sp
    by_cases e : i = n
    · subst e
      rw [hv, if_neg (nI_pos (by omega)), nI_clamp (by omega), if_pos hfx, Nat.testBit_or, Nat.testBit_two_pow]
      simp
    · have h1 := ih (by omega)
      split
      · exact h1
      · split
        · rw [Nat.testBit_or, h1, Bool.true_or]
        · exact h1
theorem fg_sp_in {fi va : Nat → Int32} {f x : Nat} : ∀ n, (fg_sp fi va f n).testBit x = true → fi x < 0 := by
  intro n
  induction n with
  | zero => intro h; unfold fg_sp at h; simp at h
  | succ n ih =>
    intro h
    unfold fg_sp at h
    split at h
    · exact ih h
    · split at h
      · rename_i z
        rw [Nat.testBit_or, Nat.testBit_two_pow] at h
        rcases Bool.or_eq_true _ _ ▸ h with q | q
        · exact ih q
        · have := of_decide_eq_true q
          rw [← this]; exact z
      · exact ih h
/-- a factor's weight sees of a mask what its table's variables show -/
theorem fg_wt_sp {ar va we fi : Nat → Int32} {f m : Nat} (h : fg_fok ar va f) : fg_wt va we (fg_vl fi (m &&& fg_sp fi va f 3)) f = fg_wt va we (fg_vl fi m) f := by
  have key : ∀ i, i < 3 → fg_sv (fg_vl fi (m &&& fg_sp fi va f 3)) (va (f * 3 + i)) = fg_sv (fg_vl fi m) (va (f * 3 + i)) := by
    intro i hi
    rcases fg_fok_slot h hi with q | ⟨x, hx, q⟩
    · rw [q, fg_sv_m1, fg_sv_m1]
    · rw [q, fg_sv_n _ (by omega), fg_sv_n _ (by omega)]
      unfold fg_vl
      by_cases z : fi x < 0
      · rw [if_pos z, if_pos z, fg_bt_tb, fg_bt_tb, Nat.testBit_and, fg_sp_has hx q z 3 hi, Bool.and_true]
      · rw [if_neg z, if_neg z]
  have h0 := key 0 (by decide)
  have h1 := key 1 (by decide)
  have h2 := key 2 (by decide)
  rw [Nat.add_zero] at h0
  unfold fg_wt fg_wy
  rw [h0, h1, h2]
end
section
abbrev fg_rm_X0_bad : Room := { frames := 0, cells := 0, slots := 0, locals := 0 }
theorem fg_md_X0_bad : yX0_bad.cls ≠ "java/lang/invoke/MethodHandle" ∧ yX0_bad.cls ≠ "java/lang/invoke/VarHandle" ∧ (parseMethodDescriptor yX0_bad.desc).map (fun d => d.parameters.length) = some 1 := by decide +kernel
abbrev fg_rm_X0_valueIn : Room := { frames := 0, cells := 0, slots := 0, locals := 0 }
theorem fg_md_X0_valueIn : yX0_valueIn.cls = RX0 ∧ yX0_valueIn.cls ≠ "java/lang/invoke/MethodHandle" ∧ yX0_valueIn.cls ≠ "java/lang/invoke/VarHandle" ∧ (parseMethodDescriptor yX0_valueIn.desc).map (fun d => d.parameters.length) = some 2 := by decide +kernel
abbrev fg_rm_X0_weightIn : Room := { frames := 1, cells := 0, slots := 0, locals := 22 }
theorem fg_md_X0_weightIn : yX0_weightIn.cls = RX0 ∧ yX0_weightIn.cls ≠ "java/lang/invoke/MethodHandle" ∧ yX0_weightIn.cls ≠ "java/lang/invoke/VarHandle" ∧ (parseMethodDescriptor yX0_weightIn.desc).map (fun d => d.parameters.length) = some 2 := by decide +kernel
abbrev fg_rm_X0_bits : Room := { frames := 0, cells := 0, slots := 0, locals := 0 }
theorem fg_md_X0_bits : yX0_bits.cls ≠ "java/lang/invoke/MethodHandle" ∧ yX0_bits.cls ≠ "java/lang/invoke/VarHandle" ∧ (parseMethodDescriptor yX0_bits.desc).map (fun d => d.parameters.length) = some 1 := by decide +kernel
abbrev fg_rm_X0_neighbours : Room := { frames := 0, cells := 0, slots := 0, locals := 0 }
theorem fg_md_X0_neighbours : yX0_neighbours.cls = RX0 ∧ yX0_neighbours.cls ≠ "java/lang/invoke/MethodHandle" ∧ yX0_neighbours.cls ≠ "java/lang/invoke/VarHandle" ∧ (parseMethodDescriptor yX0_neighbours.desc).map (fun d => d.parameters.length) = some 1 := by decide +kernel
abbrev fg_rm_X0_cheapest : Room := { frames := 1, cells := 0, slots := 0, locals := 23 }
theorem fg_md_X0_cheapest : yX0_cheapest.cls = RX0 ∧ yX0_cheapest.cls ≠ "java/lang/invoke/MethodHandle" ∧ yX0_cheapest.cls ≠ "java/lang/invoke/VarHandle" ∧ (parseMethodDescriptor yX0_cheapest.desc).map (fun d => d.parameters.length) = some 1 := by decide +kernel
abbrev fg_rm_X0_product : Room := { frames := 0, cells := 0, slots := 0, locals := 0 }
theorem fg_md_X0_product : yX0_product.cls = RX0 ∧ yX0_product.cls ≠ "java/lang/invoke/MethodHandle" ∧ yX0_product.cls ≠ "java/lang/invoke/VarHandle" ∧ (parseMethodDescriptor yX0_product.desc).map (fun d => d.parameters.length) = some 2 := by decide +kernel
section FGX1
variable {l : Launch} {D : va_G} {h : Nat → Nat} {dA dL : ClassId} {F n : Nat} {fa : Int32} {ar va we gi fi : Nat → Int32} {tb : Int32} {sc : Nat → Int32} {ta : Nat → Int64} {S : Nat → Nat} {T : Nat → Nat → Nat}
theorem fg_bad_a {x : Int32} (h : ¬ x < nI 7) : (7 : Int32) ≤ x := Int32.not_lt.mp h
theorem fg_bad_b {x : Int32} (h : x < nI 7) (h2 : (7 : Int32) ≤ x) : False := Int32.not_lt.mpr h2 h
set_option maxHeartbeats 4000000 in
set_option maxRecDepth 100000 in
/-- bad(x): 1 outside 0 .. 6 -/
theorem fg_X_bad {x : Int32} : fg_Ri l yX0_bad cX0_bad 1 .boolean fg_rm_X0_bad D [.int x] [] [] (fun r => r = if x < 0 ∨ 7 ≤ x then 1 else 0) := by
  refine fg_Ri_of (own := RX0) (by decide) rfl (Nat.le_of_ble_eq_true rfl) (fun v hv => by rw [hv]; split <;> rfl) ?_
  intro p e s m args below meth c ls A Q hC hP hK hl hA hS ret
  obtain ⟨hx, hb, hr, hts, hown, hlocks, hml⟩ := hC
  have hl : lv_has ls 1 [(0, .int x)] := hl
  refine lv_iload_n hx hb dX0_bad_0 rfl (lv_at hl 0 rfl) ?_
  refine lv_if_lt (tgt := 10) hx hb dX0_bad_1 (by decide) (fun hc => ?_) (fun hc => ?_)
  · refine lv_iconst (v := nI 1) hx hb dX0_bad_10 (by decide) ?_
    refine lv_goto (tgt := 15) hx hb dX0_bad_11 (by decide) ?_
    exact ret _ _ _ _ _ dX0_bad_15 hS (by rw [if_pos (Or.inl hc)]; rfl)
  · refine lv_iload_n hx hb dX0_bad_4 rfl (lv_at hl 0 rfl) ?_
    refine lv_bipush (v := nI 7) hx hb dX0_bad_5 (by decide) ?_
    refine lv_icmp_lt (tgt := 14) hx hb dX0_bad_7 (by decide) (fun hc2 => ?_) (fun hc2 => ?_)
    · refine lv_iconst (v := nI 0) hx hb dX0_bad_14 (by decide) ?_
      exact ret _ _ _ _ _ dX0_bad_15 hS (by rw [if_neg (fun z => z.elim hc (fun y => fg_bad_b hc2 y))]; rfl)
    · refine lv_iconst (v := nI 1) hx hb dX0_bad_10 (by decide) ?_
      refine lv_goto (tgt := 15) hx hb dX0_bad_11 (by decide) ?_
      exact ret _ _ _ _ _ dX0_bad_15 hS (by rw [if_pos (Or.inr (fg_bad_a hc2))]; rfl)

set_option maxHeartbeats 4000000 in
set_option maxRecDepth 100000 in
/-- valueIn(mask, v) -/
theorem fg_X_valueIn {mk v : Nat} (hmk : mk < 2 ^ 31) (hv : v < 7) : fg_Ri l yX0_valueIn cX0_valueIn 3 .int fg_rm_X0_valueIn D [.ref (h 0), .int (nI mk), .int (nI v)] (fg_wX h dA dL fa ar va we gi fi tb sc ta) (fg_tX dA dL) (fun r => r = nI (fg_vl fi mk v)) := by
  refine fg_Ri_of (own := RX0) (by decide) rfl (Nat.le_of_ble_eq_true rfl) (fun _ _ => rfl) ?_
  intro p e s m args below meth c ls A Q hC hP hK hl hA hS ret
  obtain ⟨hx, hb, hr, hts, hown, hlocks, hml⟩ := hC
  have hl : lv_has ls 3 [(0, .ref (h 0)), (1, .int (nI mk)), (2, .int (nI v))] := hl
  refine lv_aload_n hx hb dX0_valueIn_0 rfl (lv_at hl 0 rfl) ?_
  refine gx_fixed hx hb hts hown hK hP dX0_valueIn_1 ?_
  refine lv_iload_n hx hb dX0_valueIn_4 rfl (lv_at hl 2 rfl) ?_
  refine lx_fixed hx hb hK hP hv dX0_valueIn_5 ?_
  refine lv_if_lt (tgt := 18) hx hb dX0_valueIn_6 (by decide) (fun hc => ?_) (fun hc => ?_)
  · refine lv_iload_n hx hb dX0_valueIn_18 rfl (lv_at hl 1 rfl) ?_
    refine lv_iload_n hx hb dX0_valueIn_19 rfl (lv_at hl 2 rfl) ?_
    refine fg_ishr hmk (by omega) hx hb dX0_valueIn_20 ?_
    refine lv_iconst (v := nI 1) hx hb dX0_valueIn_21 (by decide) ?_
    refine fg_ibt hx hb dX0_valueIn_22 ?_
    exact ret _ _ _ _ _ dX0_valueIn_23 hS (by unfold fg_vl; rw [if_pos hc])
  · refine lv_aload_n hx hb dX0_valueIn_9 rfl (lv_at hl 0 rfl) ?_
    refine gx_fixed hx hb hts hown hK hP dX0_valueIn_10 ?_
    refine lv_iload_n hx hb dX0_valueIn_13 rfl (lv_at hl 2 rfl) ?_
    refine lx_fixed hx hb hK hP hv dX0_valueIn_14 ?_
    refine lv_goto (tgt := 23) hx hb dX0_valueIn_15 (by decide) ?_
    exact ret _ _ _ _ _ dX0_valueIn_23 hS (by unfold fg_vl; rw [if_neg hc]; exact fg_cl hc)

set_option maxHeartbeats 4000000 in
set_option maxRecDepth 100000 in
/-- weightIn(f, mask) -/
theorem fg_X_weightIn {mk f : Nat} (hmk : mk < 2 ^ 31) (hf7 : f < 7) (hf : fg_fok ar va f) (hfi : ∀ v, v < 7 → fg_tri (fi v)) : fg_Ri l yX0_weightIn cX0_weightIn 5 .int fg_rm_X0_weightIn D [.ref (h 0), .int (nI f), .int (nI mk)] (fg_wX h dA dL fa ar va we gi fi tb sc ta) (fg_tX dA dL) (fun r => r = we (f * 8 + fg_wy va (fg_vl fi mk) f)) := by
  refine fg_Ri_of (own := RX0) (by decide) rfl (Nat.le_of_ble_eq_true rfl) (fun _ _ => rfl) ?_
  intro p e s m args below meth c ls A Q hC hP hK hl hA hS ret
  obtain ⟨hx, hb, hr, hts, hown, hlocks, hml⟩ := hC
  have hl : lv_has ls 5 [(0, .ref (h 0)), (1, .int (nI f)), (2, .int (nI mk))] := hl
  obtain ⟨k, hk1, hk3, hak, hsl⟩ := id hf
  have hle := fg_sv_le (m := mk) hf hfi
  have loop : ∀ (n i : Nat), i ≤ k → k < i + n → ∀ (H : Heap) (locs : List Loc), va_P D vwCl (fg_wX h dA dL fa ar va we gi fi tb sc ta) H → va_S A s.heap H locs → ∀ (ls : Array Slot), lv_has ls 5 [(0, .ref (h 0)), (1, .int (nI f)), (2, .int (nI mk)), (3, .int (nI (fg_wp va (fg_vl fi mk) f i))), (4, .int (nI i))] → W p l e fg_rm_X0_weightIn s m args below meth c H locs 0 0 Q (F0 m 5 ls []) := by
    intro n
    induction n with
    | zero => intro i h1 h2; exact absurd h2 (by omega)
    | succ n ih =>
      intro i hi hn H locs hP hS ls hl
      refine lv_iload hx hb dX0_weightIn_5 (lv_at hl 4 rfl) ?_
      refine lv_aload_n hx hb dX0_weightIn_7 rfl (lv_at hl 0 rfl) ?_
      refine gx_arity hx hb hts hown hK hP dX0_weightIn_8 ?_
      refine lv_iload_n hx hb dX0_weightIn_11 rfl (lv_at hl 1 rfl) ?_
      refine lx_arity hx hb hK hP (by omega) dX0_weightIn_12 ?_
      refine fg_top (y := nI k) hak ?_
      refine fg_ige (tgt := 44) hx hb dX0_weightIn_13 (by decide) (by omega) (by omega) (fun hc => ?_) (fun hc => ?_)
      · have hik : i = k := by omega
        subst hik
        obtain ⟨hw3, hw8⟩ := fg_wp_3 hle
        rw [fg_wp_end (fun j hj z => (hsl j hj).2 z) hk3, hw3] at hl
        refine lv_aload_n hx hb dX0_weightIn_44 rfl (lv_at hl 0 rfl) ?_
        refine gx_weights hx hb hts hown hK hP dX0_weightIn_45 ?_
        refine lv_iload_n hx hb dX0_weightIn_48 rfl (lv_at hl 1 rfl) ?_
        refine lv_bipush (v := nI 8) hx hb dX0_weightIn_49 (by decide) ?_
        refine fg_imul hx hb dX0_weightIn_51 ?_
        refine lv_iload_n hx hb dX0_weightIn_52 rfl (lv_at hl 3 rfl) ?_
        refine fg_iadd hx hb dX0_weightIn_53 ?_
        refine lx_weights hx hb hK hP (by omega) dX0_weightIn_54 ?_
        exact ret _ _ _ _ _ dX0_weightIn_55 hS rfl
      · obtain ⟨x, hx7, hvx⟩ := (hsl i (by omega)).1 hc
        refine lv_iload_n hx hb dX0_weightIn_16 rfl (lv_at hl 3 rfl) ?_
        refine lv_aload_n hx hb dX0_weightIn_17 rfl (lv_at hl 0 rfl) ?_
        refine lv_iload_n hx hb dX0_weightIn_18 rfl (lv_at hl 2 rfl) ?_
        refine lv_aload_n hx hb dX0_weightIn_19 rfl (lv_at hl 0 rfl) ?_
        refine gx_variables hx hb hts hown hK hP dX0_weightIn_20 ?_
        refine lv_iload_n hx hb dX0_weightIn_23 rfl (lv_at hl 1 rfl) ?_
        refine lv_iconst (v := nI 3) hx hb dX0_weightIn_24 (by decide) ?_
        refine fg_imul hx hb dX0_weightIn_25 ?_
        refine lv_iload hx hb dX0_weightIn_26 (lv_at hl 4 rfl) ?_
        refine fg_iadd hx hb dX0_weightIn_28 ?_
        refine lx_variables hx hb hK hP (by omega) dX0_weightIn_29 ?_
        refine fg_top (y := nI x) hvx ?_
        refine fg_cVi (a := h 0) (As := [.int (nI mk), .int (nI x)]) (rest := [.int (nI (fg_wp va (fg_vl fi mk) f i))]) (ci := 0) (q := (RX0, TX0, 9)) ⟨hx, hb, hml, hown, hts⟩ (fg_X_valueIn (l := l) hmk hx7) (cwV 2 hts (lw_V q96 q98 qs4 q17 q99) rfl rfl rfl fg_md_X0_valueIn ⟨Nat.le_of_ble_eq_true rfl, Nat.le_of_ble_eq_true rfl⟩) rfl rfl hK hP hP hS hA rfl hl.1 rfl (Nat.le_of_ble_eq_true rfl) dX0_weightIn_30 ⟨Nat.zero_le _, Nat.zero_le _⟩ (fun r H locs hr1 hP hS => ?_)
        subst hr1
        have hv1 : fg_vl fi mk x ≤ 1 := fg_vl_le (hfi x hx7)
        have hv2 : fg_vl fi mk x * 2 ^ i < 2 ^ 32 := by
          have h2 : (2 : Nat) ^ i ≤ 2 ^ 3 := Nat.pow_le_pow_right (by decide) (by omega)
          exact Nat.lt_of_le_of_lt (Nat.mul_le_mul hv1 h2) (by decide)
        refine lv_iload hx hb dX0_weightIn_33 (lv_at hl 4 rfl) ?_
        refine fg_ishl (by omega) hv2 hx hb dX0_weightIn_35 ?_
        refine fg_ior hx hb dX0_weightIn_36 ?_
        refine lv_istore_n (lv' := [(3, .int (nI ((fg_wp va (fg_vl fi mk) f i) ||| ((fg_vl fi mk x) * 2 ^ i)))), (0, .ref (h 0)), (1, .int (nI f)), (2, .int (nI mk)), (4, .int (nI i))]) hx hb dX0_weightIn_37 rfl hl (by decide) rfl (fun ls hl => ?_)
        have ew : fg_wp va (fg_vl fi mk) f i ||| fg_vl fi mk x * 2 ^ i = fg_wp va (fg_vl fi mk) f (i + 1) := by
          show _ = fg_wp va (fg_vl fi mk) f i ||| fg_sv (fg_vl fi mk) (va (f * 3 + i)) * 2 ^ i
          rw [hvx, fg_sv_n _ (by omega)]
        rw [ew] at hl
        refine lv_iinc (v := nI (i + 1)) (lv' := [(4, .int (nI (i + 1))), (3, .int (nI (fg_wp va (fg_vl fi mk) f (i + 1)))), (0, .ref (h 0)), (1, .int (nI f)), (2, .int (nI mk))]) hx hb dX0_weightIn_38 hl (k := 4) rfl (fg_inc _) (by decide) rfl (fun ls hl => ?_)
        refine lv_goto (tgt := 5) hx hb dX0_weightIn_41 (by decide) ?_
        exact ih (i + 1) (by omega) (by omega) _ _ hP hS ls (lv_sub hl [2, 3, 4, 1, 0] rfl)
  refine lv_iconst (v := nI 0) hx hb dX0_weightIn_0 (by decide) ?_
  refine lv_istore_n (lv' := [(3, .int (nI 0)), (0, .ref (h 0)), (1, .int (nI f)), (2, .int (nI mk))]) hx hb dX0_weightIn_1 rfl hl (by decide) rfl (fun ls hl => ?_)
  refine lv_iconst (v := nI 0) hx hb dX0_weightIn_2 (by decide) ?_
  refine lv_istore (lv' := [(4, .int (nI 0)), (3, .int (nI 0)), (0, .ref (h 0)), (1, .int (nI f)), (2, .int (nI mk))]) hx hb dX0_weightIn_3 hl (by decide) rfl (fun ls hl => ?_)
  exact loop (k + 1) 0 (by omega) (by omega) _ _ hP hS ls (lv_sub hl [2, 3, 4, 1, 0] rfl)

set_option maxHeartbeats 4000000 in
set_option maxRecDepth 100000 in
/-- bits(set): at most 7 -/
theorem fg_X_bits {st : Nat} (hst : st < 2 ^ 31) : fg_Ri l yX0_bits cX0_bits 3 .int fg_rm_X0_bits D [.int (nI st)] [] [] (fun r => ∃ k, k ≤ 7 ∧ r = nI k) := by
  refine fg_Ri_of (own := RX0) (by decide) rfl (Nat.le_of_ble_eq_true rfl) (fun _ _ => rfl) ?_
  intro p e s m args below meth c ls A Q hC hP hK hl hA hS ret
  obtain ⟨hx, hb, hr, hts, hown, hlocks, hml⟩ := hC
  have hl : lv_has ls 3 [(0, .int (nI st))] := hl
  have loop : ∀ (n i k : Nat), i ≤ 7 → 7 < i + n → k ≤ i → ∀ (ls : Array Slot), lv_has ls 3 [(0, .int (nI st)), (1, .int (nI k)), (2, .int (nI i))] → W p l e fg_rm_X0_bits s m args below meth c s.heap [] 0 0 Q (F0 m 4 ls []) := by
    intro n
    induction n with
    | zero => intro i k h1 h2; exact absurd h2 (by omega)
    | succ n ih =>
      intro i k hi hn hki ls hl
      refine lv_iload_n hx hb dX0_bits_4 rfl (lv_at hl 2 rfl) ?_
      refine lv_bipush (v := nI 7) hx hb dX0_bits_5 (by decide) ?_
      refine fg_ige (tgt := 24) hx hb dX0_bits_7 (by decide) (by omega) (by omega) (fun hc => ?_) (fun hc => ?_)
      · refine lv_iload_n hx hb dX0_bits_24 rfl (lv_at hl 1 rfl) ?_
        exact ret _ _ _ _ _ dX0_bits_25 hS ⟨k, by omega, rfl⟩
      · have hb1 := fg_bt_le st i
        refine lv_iload_n hx hb dX0_bits_10 rfl (lv_at hl 1 rfl) ?_
        refine lv_iload_n hx hb dX0_bits_11 rfl (lv_at hl 0 rfl) ?_
        refine lv_iload_n hx hb dX0_bits_12 rfl (lv_at hl 2 rfl) ?_
        refine fg_ishr hst (by omega) hx hb dX0_bits_13 ?_
        refine lv_iconst (v := nI 1) hx hb dX0_bits_14 (by decide) ?_
        refine fg_ibt hx hb dX0_bits_15 ?_
        refine fg_iadd hx hb dX0_bits_16 ?_
        refine lv_istore_n (lv' := [(1, .int (nI (k + (fg_bt st i)))), (0, .int (nI st)), (2, .int (nI i))]) hx hb dX0_bits_17 rfl hl (by decide) rfl (fun ls hl => ?_)
        refine lv_iinc (v := nI (i + 1)) (lv' := [(2, .int (nI (i + 1))), (1, .int (nI (k + (fg_bt st i)))), (0, .int (nI st))]) hx hb dX0_bits_18 hl (k := 2) rfl (fg_inc _) (by decide) rfl (fun ls hl => ?_)
        refine lv_goto (tgt := 4) hx hb dX0_bits_21 (by decide) ?_
        exact ih (i + 1) _ (by omega) (by omega) (by omega) ls (lv_sub hl [2, 1, 0] rfl)
  refine lv_iconst (v := nI 0) hx hb dX0_bits_0 (by decide) ?_
  refine lv_istore_n (lv' := [(1, .int (nI 0)), (0, .int (nI st))]) hx hb dX0_bits_1 rfl hl (by decide) rfl (fun ls hl => ?_)
  refine lv_iconst (v := nI 0) hx hb dX0_bits_2 (by decide) ?_
  refine lv_istore_n (lv' := [(2, .int (nI 0)), (1, .int (nI 0)), (0, .int (nI st))]) hx hb dX0_bits_3 rfl hl (by decide) rfl (fun ls hl => ?_)
  exact loop 8 0 0 (by omega) (by omega) (by omega) ls (lv_sub hl [2, 1, 0] rfl)

set_option maxHeartbeats 4000000 in
set_option maxRecDepth 100000 in
/-- neighbours(v) -/
theorem fg_X_neighbours {v : Nat} (hv : v < 7) (hn : n ≤ 16) (hsc : ∀ t, t < n → S t ≤ 128 ∧ sc t = fg_en (S t)) : fg_Ri l yX0_neighbours cX0_neighbours 4 .int fg_rm_X0_neighbours D [.ref (h 0), .int (nI v)] (fg_wX h dA dL fa ar va we gi fi (nI n) sc ta) (fg_tX dA dL) (fun r => r = nI (fg_nb S v n)) := by
  refine fg_Ri_of (own := RX0) (by decide) rfl (Nat.le_of_ble_eq_true rfl) (fun _ _ => rfl) ?_
  intro p e s m args below meth c ls A Q hC hP hK hl hA hS ret
  obtain ⟨hx, hb, hr, hts, hown, hlocks, hml⟩ := hC
  have hl : lv_has ls 4 [(0, .ref (h 0)), (1, .int (nI v))] := hl
  have loop : ∀ (k t : Nat), t ≤ n → n < t + k → ∀ (ls : Array Slot), lv_has ls 4 [(0, .ref (h 0)), (1, .int (nI v)), (2, .int (nI (fg_nb S v t))), (3, .int (nI t))] → W p l e fg_rm_X0_neighbours s m args below meth c s.heap [] 0 0 Q (F0 m 6 ls []) := by
    intro k
    induction k with
    | zero => intro t h1 h2; exact absurd h2 (by omega)
    | succ k ih =>
      intro t ht hk ls hl
      refine lv_iload_n hx hb dX0_neighbours_6 rfl (lv_at hl 3 rfl) ?_
      refine lv_aload_n hx hb dX0_neighbours_7 rfl (lv_at hl 0 rfl) ?_
      refine gx_tables hx hb hts hown hK hP dX0_neighbours_8 ?_
      refine fg_ige (tgt := 52) hx hb dX0_neighbours_11 (by decide) (by omega) (by omega) (fun hc => ?_) (fun hc => ?_)
      · have htn : t = n := by omega
        subst htn
        refine lv_iload_n hx hb dX0_neighbours_52 rfl (lv_at hl 2 rfl) ?_
        exact ret _ _ _ _ _ dX0_neighbours_53 hS rfl
      · obtain ⟨hs1, hs2⟩ := hsc t (by omega)
        refine lv_aload_n hx hb dX0_neighbours_14 rfl (lv_at hl 0 rfl) ?_
        refine gx_scope hx hb hts hown hK hP dX0_neighbours_15 ?_
        refine lv_iload_n hx hb dX0_neighbours_18 rfl (lv_at hl 3 rfl) ?_
        refine lx_scope hx hb hK hP (by omega) dX0_neighbours_19 ?_
        refine fg_top (y := fg_en (S t)) hs2 ?_
        refine lv_if_lt (tgt := 46) hx hb dX0_neighbours_20 (by decide) (fun hc1 => ?_) (fun hc1 => ?_)
        · have h128 : S t = 128 := by have := fg_en_neg.mp hc1; omega
          have en : fg_nb S v t = fg_nb S v (t + 1) := by
            show _ = if (S t).testBit v = true then fg_nb S v t ||| S t else fg_nb S v t
            rw [h128, fg_128 hv]
            rfl
          rw [en] at hl
          refine lv_iinc (v := nI (t + 1)) (lv' := [(3, .int (nI (t + 1))), (0, .ref (h 0)), (1, .int (nI v)), (2, .int (nI (fg_nb S v (t + 1))))]) hx hb dX0_neighbours_46 hl (k := 3) rfl (fg_inc _) (by decide) rfl (fun ls hl => ?_)
          refine lv_goto (tgt := 6) hx hb dX0_neighbours_49 (by decide) ?_
          exact ih (t + 1) (by omega) (by omega) ls (lv_sub hl [1, 2, 3, 0] rfl)
        · have hlt : S t < 128 := by
            rcases Nat.lt_or_ge (S t) 128 with z | z
            · exact z
            · exact absurd (fg_en_neg.mpr (by omega)) hc1
          rw [fg_en_lt hlt] at hs2
          refine lv_aload_n hx hb dX0_neighbours_23 rfl (lv_at hl 0 rfl) ?_
          refine gx_scope hx hb hts hown hK hP dX0_neighbours_24 ?_
          refine lv_iload_n hx hb dX0_neighbours_27 rfl (lv_at hl 3 rfl) ?_
          refine lx_scope hx hb hK hP (by omega) dX0_neighbours_28 ?_
          refine fg_top (y := nI (S t)) hs2 ?_
          refine lv_iload_n hx hb dX0_neighbours_29 rfl (lv_at hl 1 rfl) ?_
          refine fg_ishr (by omega) (by omega) hx hb dX0_neighbours_30 ?_
          refine lv_iconst (v := nI 1) hx hb dX0_neighbours_31 (by decide) ?_
          refine fg_ibt hx hb dX0_neighbours_32 ?_
          refine lv_iconst (v := nI 1) hx hb dX0_neighbours_33 (by decide) ?_
          have hb1 := fg_bt_le (S t) v
          refine fg_ine (tgt := 46) hx hb dX0_neighbours_34 (by decide) (by omega) (by omega) (fun hc2 => ?_) (fun hc2 => ?_)
          · have en : fg_nb S v t = fg_nb S v (t + 1) := by
              show _ = if (S t).testBit v = true then fg_nb S v t ||| S t else fg_nb S v t
              rw [if_neg (fun z => hc2 (fg_bt1.mpr z))]
            rw [en] at hl
            refine lv_iinc (v := nI (t + 1)) (lv' := [(3, .int (nI (t + 1))), (0, .ref (h 0)), (1, .int (nI v)), (2, .int (nI (fg_nb S v (t + 1))))]) hx hb dX0_neighbours_46 hl (k := 3) rfl (fg_inc _) (by decide) rfl (fun ls hl => ?_)
            refine lv_goto (tgt := 6) hx hb dX0_neighbours_49 (by decide) ?_
            exact ih (t + 1) (by omega) (by omega) ls (lv_sub hl [1, 2, 3, 0] rfl)
          · refine lv_iload_n hx hb dX0_neighbours_37 rfl (lv_at hl 2 rfl) ?_
            refine lv_aload_n hx hb dX0_neighbours_38 rfl (lv_at hl 0 rfl) ?_
            refine gx_scope hx hb hts hown hK hP dX0_neighbours_39 ?_
            refine lv_iload_n hx hb dX0_neighbours_42 rfl (lv_at hl 3 rfl) ?_
            refine lx_scope hx hb hK hP (by omega) dX0_neighbours_43 ?_
            refine fg_top (y := nI (S t)) hs2 ?_
            refine fg_ior hx hb dX0_neighbours_44 ?_
            refine lv_istore_n (lv' := [(2, .int (nI ((fg_nb S v t) ||| (S t)))), (0, .ref (h 0)), (1, .int (nI v)), (3, .int (nI t))]) hx hb dX0_neighbours_45 rfl hl (by decide) rfl (fun ls hl => ?_)
            have en : (fg_nb S v t) ||| (S t) = fg_nb S v (t + 1) := by
              show _ = if (S t).testBit v = true then fg_nb S v t ||| S t else fg_nb S v t
              rw [if_pos (fg_bt1.mp hc2)]
            rw [en] at hl
            refine lv_iinc (v := nI (t + 1)) (lv' := [(3, .int (nI (t + 1))), (2, .int (nI (fg_nb S v (t + 1)))), (0, .ref (h 0)), (1, .int (nI v))]) hx hb dX0_neighbours_46 hl (k := 3) rfl (fg_inc _) (by decide) rfl (fun ls hl => ?_)
            refine lv_goto (tgt := 6) hx hb dX0_neighbours_49 (by decide) ?_
            exact ih (t + 1) (by omega) (by omega) ls (lv_sub hl [2, 3, 1, 0] rfl)
  refine lv_iconst (v := nI 1) hx hb dX0_neighbours_0 (by decide) ?_
  refine lv_iload_n hx hb dX0_neighbours_1 rfl (lv_at hl 1 rfl) ?_
  refine fg_ishl1 hv hx hb dX0_neighbours_2 ?_
  refine lv_istore_n (lv' := [(2, .int (nI (2 ^ v))), (0, .ref (h 0)), (1, .int (nI v))]) hx hb dX0_neighbours_3 rfl hl (by decide) rfl (fun ls hl => ?_)
  refine lv_iconst (v := nI 0) hx hb dX0_neighbours_4 (by decide) ?_
  refine lv_istore_n (lv' := [(3, .int (nI 0)), (2, .int (nI (2 ^ v))), (0, .ref (h 0)), (1, .int (nI v))]) hx hb dX0_neighbours_5 rfl hl (by decide) rfl (fun ls hl => ?_)
  exact loop (n + 1) 0 (by omega) (by omega) ls (lv_sub hl [2, 3, 1, 0] rfl)

set_option maxHeartbeats 4000000 in
set_option maxRecDepth 100000 in
/-- product(v, mask) -/
theorem fg_X_product {v mk : Nat} (hv : v < 7) (hn : n ≤ 16) (htok : fg_tok n S T sc ta) : fg_Rl l yX0_product cX0_product 6 fg_rm_X0_product D [.ref (h 0), .int (nI v), .int (nI mk)] (fg_wX h dA dL fa ar va we gi fi (nI n) sc ta) (fg_tX dA dL) (fun r => r = lN (fg_PV S T v mk n)) := by
  refine fg_Rl_of (own := RX0) (by decide) rfl (Nat.le_of_ble_eq_true rfl) ?_
  intro p e s m args below meth c ls A Q hC hP hK hl hA hS ret
  obtain ⟨hx, hb, hr, hts, hown, hlocks, hml⟩ := hC
  have hl : lv_has ls 6 [(0, .ref (h 0)), (1, .int (nI v)), (2, .int (nI mk))] := hl
  have loop : ∀ (k t : Nat), t ≤ n → n < t + k → ∀ (ls : Array Slot), lv_has ls 6 [(0, .ref (h 0)), (1, .int (nI v)), (2, .int (nI mk)), (3, .long (lN (fg_PV S T v mk t))), (5, .int (nI t))] → W p l e fg_rm_X0_product s m args below meth c s.heap [] 0 0 Q (F0 m 5 ls []) := by
    intro k
    induction k with
    | zero => intro t h1 h2; exact absurd h2 (by omega)
    | succ k ih =>
      intro t ht hk ls hl
      refine lv_iload hx hb dX0_product_5 (lv_at hl 4 rfl) ?_
      refine lv_aload_n hx hb dX0_product_7 rfl (lv_at hl 0 rfl) ?_
      refine gx_tables hx hb hts hown hK hP dX0_product_8 ?_
      refine fg_ige (tgt := 69) hx hb dX0_product_11 (by decide) (by omega) (by omega) (fun hc => ?_) (fun hc => ?_)
      · have htn : t = n := by omega
        subst htn
        refine lv_lload_n hx hb dX0_product_69 rfl (lv_at hl 3 rfl) ?_
        exact ret _ _ _ _ _ dX0_product_70 hS rfl
      · obtain ⟨hs1, hs2⟩ := htok.1 t (by omega)
        refine lv_aload_n hx hb dX0_product_14 rfl (lv_at hl 0 rfl) ?_
        refine gx_scope hx hb hts hown hK hP dX0_product_15 ?_
        refine lv_iload hx hb dX0_product_18 (lv_at hl 4 rfl) ?_
        refine lx_scope hx hb hK hP (by omega) dX0_product_20 ?_
        refine fg_top (y := fg_en (S t)) hs2 ?_
        refine lv_if_lt (tgt := 63) hx hb dX0_product_21 (by decide) (fun hc1 => ?_) (fun hc1 => ?_)
        · have h128 : S t = 128 := by have := fg_en_neg.mp hc1; omega
          have en : fg_PV S T v mk t = fg_PV S T v mk (t + 1) := by
            show _ = fg_PV S T v mk t * (if (S t).testBit v = true then T t (mk &&& S t) else 1)
            rw [h128, fg_128 hv, if_neg (by decide), Nat.mul_one]
          rw [en] at hl
          refine lv_iinc (v := nI (t + 1)) (lv' := [(5, .int (nI (t + 1))), (0, .ref (h 0)), (1, .int (nI v)), (2, .int (nI mk)), (3, .long (lN (fg_PV S T v mk (t + 1))))]) hx hb dX0_product_63 hl (k := 4) rfl (fg_inc _) (by decide) rfl (fun ls hl => ?_)
          refine lv_goto (tgt := 5) hx hb dX0_product_66 (by decide) ?_
          exact ih (t + 1) (by omega) (by omega) ls (lv_sub hl [1, 2, 3, 4, 0] rfl)
        · have hlt : S t < 128 := by
            rcases Nat.lt_or_ge (S t) 128 with z | z
            · exact z
            · exact absurd (fg_en_neg.mpr (by omega)) hc1
          rw [fg_en_lt hlt] at hs2
          refine lv_aload_n hx hb dX0_product_24 rfl (lv_at hl 0 rfl) ?_
          refine gx_scope hx hb hts hown hK hP dX0_product_25 ?_
          refine lv_iload hx hb dX0_product_28 (lv_at hl 4 rfl) ?_
          refine lx_scope hx hb hK hP (by omega) dX0_product_30 ?_
          refine fg_top (y := nI (S t)) hs2 ?_
          refine lv_iload_n hx hb dX0_product_31 rfl (lv_at hl 1 rfl) ?_
          refine fg_ishr (by omega) (by omega) hx hb dX0_product_32 ?_
          refine lv_iconst (v := nI 1) hx hb dX0_product_33 (by decide) ?_
          refine fg_ibt hx hb dX0_product_34 ?_
          refine lv_iconst (v := nI 1) hx hb dX0_product_35 (by decide) ?_
          have hb1 := fg_bt_le (S t) v
          refine fg_ine (tgt := 63) hx hb dX0_product_36 (by decide) (by omega) (by omega) (fun hc2 => ?_) (fun hc2 => ?_)
          · have en : fg_PV S T v mk t = fg_PV S T v mk (t + 1) := by
              show _ = fg_PV S T v mk t * (if (S t).testBit v = true then T t (mk &&& S t) else 1)
              rw [if_neg (fun z => hc2 (fg_bt1.mpr z)), Nat.mul_one]
            rw [en] at hl
            refine lv_iinc (v := nI (t + 1)) (lv' := [(5, .int (nI (t + 1))), (0, .ref (h 0)), (1, .int (nI v)), (2, .int (nI mk)), (3, .long (lN (fg_PV S T v mk (t + 1))))]) hx hb dX0_product_63 hl (k := 4) rfl (fg_inc _) (by decide) rfl (fun ls hl => ?_)
            refine lv_goto (tgt := 5) hx hb dX0_product_66 (by decide) ?_
            exact ih (t + 1) (by omega) (by omega) ls (lv_sub hl [1, 2, 3, 4, 0] rfl)
          · have hml2 : mk &&& S t < 128 := fg_and_lt mk hlt
            refine lv_lload_n hx hb dX0_product_39 rfl (lv_at hl 3 rfl) ?_
            refine lv_aload_n hx hb dX0_product_40 rfl (lv_at hl 0 rfl) ?_
            refine gx_table hx hb hts hown hK hP dX0_product_41 ?_
            refine lv_iload hx hb dX0_product_44 (lv_at hl 4 rfl) ?_
            refine lv_sipush (v := nI 128) hx hb dX0_product_46 (by decide) ?_
            refine fg_imul hx hb dX0_product_49 ?_
            refine lv_iload_n hx hb dX0_product_50 rfl (lv_at hl 2 rfl) ?_
            refine lv_aload_n hx hb dX0_product_51 rfl (lv_at hl 0 rfl) ?_
            refine gx_scope hx hb hts hown hK hP dX0_product_52 ?_
            refine lv_iload hx hb dX0_product_55 (lv_at hl 4 rfl) ?_
            refine lx_scope hx hb hK hP (by omega) dX0_product_57 ?_
            refine fg_top (y := nI (S t)) hs2 ?_
            refine fg_iand hx hb dX0_product_58 ?_
            refine fg_iadd hx hb dX0_product_59 ?_
            refine lx_table hx hb hK hP (by omega) dX0_product_60 ?_
            refine fg_topl (y := lN (T t (mk &&& S t))) (htok.2 t (by omega) hlt _ (by rw [Nat.and_assoc, Nat.and_self])) ?_
            refine fg_lmul hx hb dX0_product_61 ?_
            refine lv_lstore_n (lv' := [(3, .long (lN ((fg_PV S T v mk t) * (T t (mk &&& S t))))), (0, .ref (h 0)), (1, .int (nI v)), (2, .int (nI mk)), (5, .int (nI t))]) hx hb dX0_product_62 rfl hl (by decide) rfl (fun ls hl => ?_)
            have en : (fg_PV S T v mk t) * (T t (mk &&& S t)) = fg_PV S T v mk (t + 1) := by
              show _ = fg_PV S T v mk t * (if (S t).testBit v = true then T t (mk &&& S t) else 1)
              rw [if_pos (fg_bt1.mp hc2)]
            rw [en] at hl
            refine lv_iinc (v := nI (t + 1)) (lv' := [(5, .int (nI (t + 1))), (3, .long (lN (fg_PV S T v mk (t + 1)))), (0, .ref (h 0)), (1, .int (nI v)), (2, .int (nI mk))]) hx hb dX0_product_63 hl (k := 4) rfl (fg_inc _) (by decide) rfl (fun ls hl => ?_)
            refine lv_goto (tgt := 5) hx hb dX0_product_66 (by decide) ?_
            exact ih (t + 1) (by omega) (by omega) ls (lv_sub hl [2, 3, 4, 1, 0] rfl)
  refine lv_lconst (v := lN 1) hx hb dX0_product_0 rfl ?_
  refine lv_lstore_n (lv' := [(3, .long (lN 1)), (0, .ref (h 0)), (1, .int (nI v)), (2, .int (nI mk))]) hx hb dX0_product_1 rfl hl (by decide) rfl (fun ls hl => ?_)
  refine lv_iconst (v := nI 0) hx hb dX0_product_2 (by decide) ?_
  refine lv_istore (lv' := [(5, .int (nI 0)), (3, .long (lN 1)), (0, .ref (h 0)), (1, .int (nI v)), (2, .int (nI mk))]) hx hb dX0_product_3 hl (by decide) rfl (fun ls hl => ?_)
  exact loop (n + 1) 0 (by omega) (by omega) ls (lv_sub hl [2, 3, 4, 1, 0] rfl)

set_option maxHeartbeats 4000000 in
set_option maxRecDepth 100000 in
/-- cheapest(left): a variable that is left -/
theorem fg_X_cheapest {lf : Nat} (hlf : lf < 128) (hlf0 : lf ≠ 0) (hn : n ≤ 16) (hsc : ∀ t, t < n → S t ≤ 128 ∧ sc t = fg_en (S t)) : fg_Ri l yX0_cheapest cX0_cheapest 7 .int fg_rm_X0_cheapest D [.ref (h 0), .int (nI lf)] (fg_wX h dA dL fa ar va we gi fi (nI n) sc ta) (fg_tX dA dL) (fun r => ∃ v, v < 7 ∧ r = nI v ∧ lf.testBit v = true) := by
  refine fg_Ri_of (own := RX0) (by decide) rfl (Nat.le_of_ble_eq_true rfl) (fun _ _ => rfl) ?_
  intro p e s m args below meth c ls A Q hC hP hK hl hA hS ret
  obtain ⟨hx, hb, hr, hts, hown, hlocks, hml⟩ := hC
  have hl : lv_has ls 7 [(0, .ref (h 0)), (1, .int (nI lf))] := hl
  have loop : ∀ (k i ls0 : Nat) (bs : Int32), i ≤ 7 → 7 < i + k → ((bs = -1 ∧ ls0 = 8 ∧ ∀ u, u < i → lf.testBit u = false) ∨ ∃ u, u < i ∧ bs = nI u ∧ lf.testBit u = true ∧ ls0 ≤ 7) → ∀ (H : Heap) (locs : List Loc), va_P D vwCl (fg_wX h dA dL fa ar va we gi fi (nI n) sc ta) H → va_S A s.heap H locs → ∀ (ls : Array Slot), lv_has ls 7 [(0, .ref (h 0)), (1, .int (nI lf)), (2, .int bs), (3, .int (nI ls0)), (4, .int (nI i))] → W p l e fg_rm_X0_cheapest s m args below meth c H locs 0 0 Q (F0 m 8 ls []) := by
    intro k
    induction k with
    | zero => intro i ls0 bs h1 h2; exact absurd h2 (by omega)
    | succ k ih =>
      intro i ls0 bs hi hk hI H locs hP hS ls hl
      have hls8 : ls0 ≤ 8 := by
        rcases hI with ⟨_, z, _⟩ | ⟨_, _, _, _, z⟩ <;> omega
      refine lv_iload hx hb dX0_cheapest_8 (lv_at hl 4 rfl) ?_
      refine lv_bipush (v := nI 7) hx hb dX0_cheapest_10 (by decide) ?_
      refine fg_ige (tgt := 58) hx hb dX0_cheapest_12 (by decide) (by omega) (by omega) (fun hc => ?_) (fun hc => ?_)
      · refine lv_iload_n hx hb dX0_cheapest_58 rfl (lv_at hl 2 rfl) ?_
        refine ret _ _ _ _ _ dX0_cheapest_59 hS ?_
        have hi7 : i = 7 := by omega
        subst hi7
        rcases hI with ⟨_, _, z⟩ | ⟨u, hu, z1, z2, _⟩
        · exfalso
          refine hlf0 (Nat.eq_of_testBit_eq (fun j => ?_))
          rw [Nat.zero_testBit]
          rcases Nat.lt_or_ge j 7 with y | y
          · exact z j y
          · exact Nat.testBit_lt_two_pow (Nat.lt_of_lt_of_le hlf (Nat.pow_le_pow_right (n := 2) (i := 7) (by decide) y))
        · exact ⟨u, hu, z1, z2⟩
      · refine lv_iload_n hx hb dX0_cheapest_15 rfl (lv_at hl 1 rfl) ?_
        refine lv_iload hx hb dX0_cheapest_16 (lv_at hl 4 rfl) ?_
        refine fg_ishr (by omega) (by omega) hx hb dX0_cheapest_18 ?_
        refine lv_iconst (v := nI 1) hx hb dX0_cheapest_19 (by decide) ?_
        refine fg_ibt hx hb dX0_cheapest_20 ?_
        refine lv_iconst (v := nI 1) hx hb dX0_cheapest_21 (by decide) ?_
        have hb1 := fg_bt_le lf i
        refine fg_ine (tgt := 52) hx hb dX0_cheapest_22 (by decide) (by omega) (by omega) (fun hc1 => ?_) (fun hc1 => ?_)
        · refine lv_iinc (v := nI (i + 1)) (lv' := [(4, .int (nI (i + 1))), (0, .ref (h 0)), (1, .int (nI lf)), (2, .int bs), (3, .int (nI ls0))]) hx hb dX0_cheapest_52 hl (k := 4) rfl (fg_inc _) (by decide) rfl (fun ls hl => ?_)
          refine lv_goto (tgt := 8) hx hb dX0_cheapest_55 (by decide) ?_
          refine ih (i + 1) _ _ (by omega) (by omega) ?_ _ _ hP hS ls (lv_sub hl [1, 2, 3, 4, 0] rfl)
          rcases hI with ⟨z1, z2, z3⟩ | ⟨u, hu, z1, z2, z3⟩
          · refine Or.inl ⟨z1, z2, fun u hu => ?_⟩
            by_cases e : u = i
            · subst e; exact fg_bt0.mp (by omega)
            · exact z3 u (by omega)
          · exact Or.inr ⟨u, by omega, z1, z2, z3⟩
        · refine lv_aload_n hx hb dX0_cheapest_25 rfl (lv_at hl 0 rfl) ?_
          refine lv_iload hx hb dX0_cheapest_26 (lv_at hl 4 rfl) ?_
          refine fg_cVi (a := h 0) (As := [.int (nI i)]) (rest := []) (ci := 0) (q := (RX0, TX0, 9)) ⟨hx, hb, hml, hown, hts⟩ (fg_X_neighbours (l := l) hc hn hsc) (cwV 1 hts (lw_V q104 q106 qs6 q17 q107) rfl rfl rfl fg_md_X0_neighbours ⟨Nat.le_of_ble_eq_true rfl, Nat.le_of_ble_eq_true rfl⟩) rfl rfl hK hP hP hS hA rfl hl.1 rfl (Nat.le_of_ble_eq_true rfl) dX0_cheapest_28 ⟨Nat.zero_le _, Nat.zero_le _⟩ (fun r H locs hr1 hP hS => ?_)
          subst hr1
          have hnb : fg_nb S i n < 128 := fg_nb_lt hc (fun t ht => (hsc t ht).1)
          refine lv_istore (lv' := [(5, .int (nI (fg_nb S i n))), (0, .ref (h 0)), (1, .int (nI lf)), (2, .int bs), (3, .int (nI ls0)), (4, .int (nI i))]) hx hb dX0_cheapest_31 hl (by decide) rfl (fun ls hl => ?_)
          refine lv_iload hx hb dX0_cheapest_33 (lv_at hl 0 rfl) ?_
          refine fg_cSi (As := [.int (nI (fg_nb S i n))]) (rest := []) ⟨hx, hb, hml, hown, hts⟩ (fg_X_bits (l := l) (by omega)) (va_cwS 1 hts (lw_S q108 q109 q17 q110) rfl rfl rfl fg_md_X0_bits ⟨Nat.le_of_ble_eq_true rfl, Nat.le_of_ble_eq_true rfl⟩) hK hP hS hA rfl hl.1 rfl (Nat.le_of_ble_eq_true rfl) dX0_cheapest_35 ⟨Nat.zero_le _, Nat.zero_le _⟩ (fun r H locs hr1 hP hS => ?_)
          obtain ⟨b, hb7, rfl⟩ := hr1
          refine lv_istore (lv' := [(6, .int (nI b)), (5, .int (nI (fg_nb S i n))), (0, .ref (h 0)), (1, .int (nI lf)), (2, .int bs), (3, .int (nI ls0)), (4, .int (nI i))]) hx hb dX0_cheapest_38 hl (by decide) rfl (fun ls hl => ?_)
          refine lv_iload hx hb dX0_cheapest_40 (lv_at hl 0 rfl) ?_
          refine lv_iload_n hx hb dX0_cheapest_42 rfl (lv_at hl 5 rfl) ?_
          refine fg_ige (tgt := 52) hx hb dX0_cheapest_43 (by decide) (by omega) (by omega) (fun hc2 => ?_) (fun hc2 => ?_)
          · refine lv_iinc (v := nI (i + 1)) (lv' := [(4, .int (nI (i + 1))), (6, .int (nI b)), (5, .int (nI (fg_nb S i n))), (0, .ref (h 0)), (1, .int (nI lf)), (2, .int bs), (3, .int (nI ls0))]) hx hb dX0_cheapest_52 hl (k := 6) rfl (fg_inc _) (by decide) rfl (fun ls hl => ?_)
            refine lv_goto (tgt := 8) hx hb dX0_cheapest_55 (by decide) ?_
            refine ih (i + 1) _ _ (by omega) (by omega) ?_ _ _ hP hS ls (lv_sub hl [3, 4, 5, 6, 0] rfl)
            rcases hI with ⟨z1, z2, z3⟩ | ⟨u, hu, z1, z2, z3⟩
            · omega
            · exact Or.inr ⟨u, by omega, z1, z2, z3⟩
          · refine lv_iload hx hb dX0_cheapest_46 (lv_at hl 0 rfl) ?_
            refine lv_istore_n (lv' := [(3, .int (nI b)), (6, .int (nI b)), (5, .int (nI (fg_nb S i n))), (0, .ref (h 0)), (1, .int (nI lf)), (2, .int bs), (4, .int (nI i))]) hx hb dX0_cheapest_48 rfl hl (by decide) rfl (fun ls hl => ?_)
            refine lv_iload hx hb dX0_cheapest_49 (lv_at hl 6 rfl) ?_
            refine lv_istore_n (lv' := [(2, .int (nI i)), (3, .int (nI b)), (6, .int (nI b)), (5, .int (nI (fg_nb S i n))), (0, .ref (h 0)), (1, .int (nI lf)), (4, .int (nI i))]) hx hb dX0_cheapest_51 rfl hl (by decide) rfl (fun ls hl => ?_)
            refine lv_iinc (v := nI (i + 1)) (lv' := [(4, .int (nI (i + 1))), (2, .int (nI i)), (3, .int (nI b)), (6, .int (nI b)), (5, .int (nI (fg_nb S i n))), (0, .ref (h 0)), (1, .int (nI lf))]) hx hb dX0_cheapest_52 hl (k := 6) rfl (fg_inc _) (by decide) rfl (fun ls hl => ?_)
            refine lv_goto (tgt := 8) hx hb dX0_cheapest_55 (by decide) ?_
            refine ih (i + 1) _ _ (by omega) (by omega) ?_ _ _ hP hS ls (lv_sub hl [5, 6, 1, 2, 0] rfl)
            exact Or.inr ⟨i, by omega, rfl, fg_bt1.mp hc1, hb7⟩
  refine lv_iconst (v := -1) hx hb dX0_cheapest_0 (by decide) ?_
  refine lv_istore_n (lv' := [(2, .int (-1)), (0, .ref (h 0)), (1, .int (nI lf))]) hx hb dX0_cheapest_1 rfl hl (by decide) rfl (fun ls hl => ?_)
  refine lv_bipush (v := nI 8) hx hb dX0_cheapest_2 (by decide) ?_
  refine lv_istore_n (lv' := [(3, .int (nI 8)), (2, .int (-1)), (0, .ref (h 0)), (1, .int (nI lf))]) hx hb dX0_cheapest_4 rfl hl (by decide) rfl (fun ls hl => ?_)
  refine lv_iconst (v := nI 0) hx hb dX0_cheapest_5 (by decide) ?_
  refine lv_istore (lv' := [(4, .int (nI 0)), (3, .int (nI 8)), (2, .int (-1)), (0, .ref (h 0)), (1, .int (nI lf))]) hx hb dX0_cheapest_6 hl (by decide) rfl (fun ls hl => ?_)
  exact loop 8 0 8 (-1) (by omega) (by omega) (Or.inl ⟨rfl, rfl, fun u hu => by omega⟩) _ _ hP hS ls (lv_sub hl [3, 4, 2, 1, 0] rfl)

end FGX1
end
section
/-! WHAT loadTables, takeOut and solve ask of plain numbers -/
abbrev fg_S0 (fi va : Nat → Int32) : Nat → Nat := fun f => fg_sp fi va f 3
abbrev fg_T0 (md : Nat) (va we fi : Nat → Int32) : Nat → Nat → Nat := fun f m => fg_wq md (fg_wt va we (fg_vl fi m) f)
theorem fg_wt_we {ar va we fi : Nat → Int32} {f m : Nat} (hf7 : f < 7) (h : fg_fok ar va f) (hw : ∀ k, k < 56 → ∃ w, w ≤ 9 ∧ we k = nI w) (hfi : ∀ v, v < 7 → fg_tri (fi v)) : we (f * 8 + fg_wy va (fg_vl fi m) f) = nI (fg_wt va we (fg_vl fi m) f) ∧ fg_wt va we (fg_vl fi m) f ≤ 9 := by
  have h8 := (fg_wp_3 (fg_sv_le (m := m) h hfi)).2
  obtain ⟨w, hw9, e⟩ := hw (f * 8 + fg_wy va (fg_vl fi m) f) (by omega)
  unfold fg_wt
  rw [e, nI_clamp (by omega)]
  exact ⟨rfl, hw9⟩
theorem fg_wq_le {md w : Nat} (h : w ≤ 9) : fg_wq md w ≤ 9 := by
  unfold fg_wq
  split
  · omega
  · exact h
/-- one table more -/
theorem fg_tok_add {f : Nat} {S : Nat → Nat} {T : Nat → Nat → Nat} {sc sc' : Nat → Int32} {ta ta' : Nat → Int64} (h : fg_tok f S T sc ta) (hs : S f < 128) (h1 : sc' f = nI (S f)) (h2 : ∀ t, t < f → sc' t = sc t) (h3 : ∀ j, j < f * 128 → ta' j = ta j) (h4 : ∀ m, m < 128 → m &&& S f = m → ta' (f * 128 + m) = lN (T f m)) : fg_tok (f + 1) S T sc' ta' := by
  refine ⟨fun t ht => ?_, fun t ht hl m hm => ?_⟩
  · by_cases e : t = f
    · subst e
      exact ⟨by omega, by rw [h1, fg_en_lt hs]⟩
    · obtain ⟨a, b⟩ := h.1 t (by omega)
      exact ⟨a, by rw [h2 t (by omega), b]⟩
  · have hm128 : m < 128 := by rw [← hm]; exact fg_and_lt m hl
    by_cases e : t = f
    · subst e
      exact h4 m hm128 hm
    · rw [h3 _ (by omega)]
      exact h.2 t (by omega) hl m hm
theorem fg_tok_ta {n : Nat} {S : Nat → Nat} {T : Nat → Nat → Nat} {sc : Nat → Int32} {ta ta' : Nat → Int64} (h : fg_tok n S T sc ta) (h3 : ∀ j, j < n * 128 → ta' j = ta j) : fg_tok n S T sc ta' := by
  refine ⟨h.1, fun t ht hl m hm => ?_⟩
  have hm128 : m < 128 := by rw [← hm]; exact fg_and_lt m hl
  rw [h3 _ (by omega)]
  exact h.2 t ht hl m hm
/-- what takeOut leaves -/
def fg_out (md n v : Nat) (S : Nat → Nat) (T : Nat → Nat → Nat) (S' : Nat → Nat) (T' : Nat → Nat → Nat) : Prop := (∀ t, t < n → S' t = if (S t).testBit v = true then 128 else S t) ∧ S' n = fg_clr (fg_nb S v n) v ∧ (∀ t, t < n → ∀ m, T' t m = T t m) ∧ ∀ m, m &&& S' n = m → T' n m = fg_op md (fg_PV S T v m n) (fg_PV S T v (m ||| 2 ^ v) n)
abbrev fg_oS (n v : Nat) (S : Nat → Nat) : Nat → Nat := fun t => if t = n then fg_clr (fg_nb S v n) v else if (S t).testBit v = true then 128 else S t
abbrev fg_oT (md n v : Nat) (S : Nat → Nat) (T : Nat → Nat → Nat) : Nat → Nat → Nat := fun t m => if t = n then fg_op md (fg_PV S T v m n) (fg_PV S T v (m ||| 2 ^ v) n) else T t m
theorem fg_out_ok (md n v : Nat) (S : Nat → Nat) (T : Nat → Nat → Nat) : fg_out md n v S T (fg_oS n v S) (fg_oT md n v S T) := by
  refine ⟨fun t ht => ?_, ?_, fun t ht m => ?_, fun m _ => ?_⟩
  · show (if t = n then _ else _) = _
    rw [if_neg (by omega)]
  · show (if n = n then _ else _) = _
    rw [if_pos rfl]
  · show (if t = n then _ else _) = _
    rw [if_neg (by omega)]
  · show (if n = n then _ else _) = _
    rw [if_pos rfl]
theorem fg_out_tok {md n v : Nat} {S : Nat → Nat} {T : Nat → Nat → Nat} {sc sc' : Nat → Int32} {ta ta' : Nat → Int64} (hv : v < 7) (h : fg_tok n S T sc ta) (h1 : sc' n = nI (fg_clr (fg_nb S v n) v)) (h2 : ∀ t, t < n → sc' t = if (S t).testBit v = true then -1 else sc t)
    (h3 : ∀ j, j < n * 128 → ta' j = ta j) (h4 : ∀ m, m < 128 → m &&& fg_clr (fg_nb S v n) v = m → ta' (n * 128 + m) = lN (fg_op md (fg_PV S T v m n) (fg_PV S T v (m ||| 2 ^ v) n))) : fg_tok (n + 1) (fg_oS n v S) (fg_oT md n v S T) sc' ta' := by
  have hnb := fg_nb_lt hv (fun t ht => (h.1 t ht).1)
  have hov := fg_clr_lt _ hnb v hv
  refine ⟨fun t ht => ?_, fun t ht hl m hm => ?_⟩
  · by_cases e : t = n
    · subst e
      simp only [fg_oS, if_true]
      exact ⟨by omega, by rw [h1, fg_en_lt hov]⟩
    · obtain ⟨a, b⟩ := h.1 t (by omega)
      simp only [fg_oS, if_neg e]
      rw [h2 t (by omega)]
      by_cases z : (S t).testBit v = true
      · rw [if_pos z, if_pos z]
        exact ⟨Nat.le_refl _, by decide⟩
      · rw [if_neg z, if_neg z]
        exact ⟨a, b⟩
  · have hm128 : m < 128 := by rw [← hm]; exact fg_and_lt m hl
    by_cases e : t = n
    · subst e
      simp only [fg_oS, if_true] at hm
      simp only [fg_oT, if_true]
      exact h4 m hm128 hm
    · simp only [fg_oS, if_neg e] at hm hl
      simp only [fg_oT, if_neg e]
      rw [h3 _ (by omega)]
      by_cases z : (S t).testBit v = true
      · rw [if_pos z] at hl; omega
      · rw [if_neg z] at hm hl
        exact h.2 t (by omega) hl m hm
def fg_pc (m : Nat) : Nat := fg_bt m 0 + fg_bt m 1 + fg_bt m 2 + fg_bt m 3 + fg_bt m 4 + fg_bt m 5 + fg_bt m 6
theorem fg_pc_clr : ∀ m, m < 128 → ∀ v, v < 7 → m.testBit v = true → fg_pc (fg_clr m v) + 1 = fg_pc m := by decide +kernel
theorem fg_pc_0 : ∀ m, m < 128 → fg_pc m = 0 → m = 0 := by decide +kernel
theorem fg_pc_le : ∀ m, m < 128 → fg_pc m ≤ 7 := by decide +kernel
/-- solve's state between two variables: n tables, lf left, V the answer -/
def fg_mid (md n lf V : Nat) (S : Nat → Nat) (T : Nat → Nat → Nat) : Prop := (∀ t, t < n → S t ≤ 128 ∧ (S t < 128 → S t &&& lf = S t)) ∧ fg_fo md lf (fun m => fg_PA S T m n) = V ∧ (md = 1 → fg_Bd S T n)
theorem fg_mid_0 {md F : Nat} {ar va we gi fi : Nat → Int32} (hI : fg_inv F ar va we gi) (hfi : ∀ v, v < 7 → fg_tri (fi v)) : fg_mid md F (fg_lf fi 7) (fg_Q md F va we fi) (fg_S0 fi va) (fg_T0 md va we fi) := by
  obtain ⟨hF, hf, hw, -⟩ := hI
  refine ⟨fun t ht => ?_, ?_, fun _ => ?_⟩
  · have := fg_sp_lt (fi := fi) (hf t ht) 3 (Nat.le_refl _)
    refine ⟨by show fg_sp fi va t 3 ≤ 128; omega, fun _ => ?_⟩
    rw [fg_sub_tb]
    intro i hi
    have h1 : i < 7 := by
      rcases Nat.lt_or_ge i 7 with z | z
      · exact z
      · have : (fg_sp fi va t 3).testBit i = false := Nat.testBit_lt_two_pow (Nat.lt_of_lt_of_le this (Nat.pow_le_pow_right (n := 2) (i := 7) (by decide) z))
        rw [show fg_S0 fi va t = fg_sp fi va t 3 from rfl, this] at hi; cases hi
    exact (fg_lf_tb fi i 7).mpr ⟨h1, fg_sp_in 3 hi⟩
  · unfold fg_Q
    refine fg_fo_congr (fun m hm _ => ?_)
    unfold fg_PA fg_hh
    refine fg_pf_congr (fun f hff => ?_)
    have := fg_sp_lt (fi := fi) (hf f hff) 3 (Nat.le_refl _)
    show (if fg_sp fi va f 3 < 128 then fg_wq md (fg_wt va we (fg_vl fi (m &&& fg_sp fi va f 3)) f) else 1) = _
    rw [if_pos this, fg_wt_sp (hf f hff)]
  · intro μ _
    refine Nat.le_trans (fg_pf_le (g := fun _ => 9) (fun f hff => ?_)) ?_
    · have := (fg_wt_we (m := μ f) (show f < 7 by omega) (hf f hff) hw hfi).2
      split
      · refine Nat.max_le.mpr ⟨by decide, fg_wq_le this⟩
      · decide
    · rw [fg_pf_c]
      exact Nat.pow_le_pow_right (by decide) hF
theorem fg_mid_step {md n lf V v : Nat} {S S' : Nat → Nat} {T T' : Nat → Nat → Nat} (hlf : lf < 128) (hv : v < 7) (hl : lf.testBit v = true) (h : fg_mid md n lf V S T) (ho : fg_out md n v S T S' T') : fg_mid md (n + 1) (fg_clr lf v) V S' T' := by
  obtain ⟨h1, h2, h3⟩ := h
  obtain ⟨o1, o2, o3, o4⟩ := ho
  have hS : ∀ t, t < n → S t ≤ 128 := fun t ht => (h1 t ht).1
  have hnb := fg_nb_lt hv hS
  have hov : S' n < 128 := by rw [o2]; exact fg_clr_lt _ hnb v hv
  refine ⟨fun t ht => ?_, ?_, fun e => ?_⟩
  · by_cases e : t = n
    · subst e
      refine ⟨by omega, fun _ => ?_⟩
      rw [o2, fg_sub_tb]
      intro i hi
      rw [fg_clr_tb] at hi ⊢
      obtain ⟨q1, q2⟩ := Bool.and_eq_true _ _ ▸ hi
      rw [q2, Bool.and_true]
      rcases fg_nb_in q1 with z | ⟨u, hu, u1, u2⟩
      · rw [z]; exact hl
      · have hu128 : S u < 128 := by
          rcases Nat.lt_or_eq_of_le (hS u hu) with q | q
          · exact q
          · rw [q, fg_128 hv] at u1; cases u1
        exact fg_sub_tb.mp ((h1 u hu).2 hu128) i u2
    · have ht' : t < n := by omega
      rw [o1 t ht']
      by_cases z : (S t).testBit v = true
      · rw [if_pos z]; exact ⟨Nat.le_refl _, fun y => by omega⟩
      · rw [if_neg z]
        refine ⟨hS t ht', fun y => ?_⟩
        have hs := fg_sub_tb.mp ((h1 t ht').2 y)
        rw [fg_sub_tb]
        intro i hi
        rw [fg_clr_tb, hs i hi]
        have hne : v ≠ i := by intro q; subst q; exact z hi
        simp [hne]
  · rw [← h2, fg_fo_out hv hl]
    refine fg_fo_congr (fun m hm hs => ?_)
    refine fg_elim hv hS o1 o2 o3 o4 m ?_
    cases hb : m.testBit v with
    | false => rfl
    | true =>
      have := fg_sub_tb.mp hs v hb
      rw [fg_clr_tb] at this
      simp at this
  · subst e
    exact fg_Bd_step hv hS o1 hov o3 o4 (h3 rfl)
theorem fg_mid_end {md n V : Nat} {S : Nat → Nat} {T : Nat → Nat → Nat} (h : fg_mid md n 0 V S T) : fg_pf (fun t => if S t = 0 then T t 0 else 1) n = V := by
  obtain ⟨h1, h2, -⟩ := h
  rw [fg_fo_0] at h2
  rw [← h2]
  unfold fg_PA
  refine fg_pf_congr (fun t ht => ?_)
  by_cases e : S t = 0
  · rw [if_pos e, if_pos (by omega), Nat.zero_and]
  · rw [if_neg e, if_neg]
    intro z
    have := (h1 t ht).2 z
    rw [Nat.and_zero] at this
    exact e this.symm
theorem fg_en_0 {s : Nat} : fg_en s = 0 ↔ s = 0 := by
  unfold fg_en
  split
  · rename_i h
    rw [← nI_0, nI_eq (by omega) (by decide)]
  · rename_i h
    constructor
    · intro z; exact absurd z (by decide)
    · intro z; omega
theorem fg_upd_back {f : Nat → Int32} {k : Nat} {x : Int32} : upd (upd f k x) k (f k) = f := by
  funext j
  by_cases e : j = k
  · subst e; rw [pk_us]
  · rw [pk_un e, pk_un e]
theorem fg_max_lN {a b : Nat} (ha : a ≤ 9 ^ 7) (hb : b ≤ 9 ^ 7) : lN a ≤ lN b ↔ a ≤ b := pk_lLE (Nat.lt_of_le_of_lt ha (by decide)) (Nat.lt_of_le_of_lt hb (by decide))
end
section
abbrev fg_rm_X0_loadTables : Room := { frames := 2, cells := 0, slots := 0, locals := 46 }
theorem fg_md_X0_loadTables : yX0_loadTables.cls = RX0 ∧ yX0_loadTables.cls ≠ "java/lang/invoke/MethodHandle" ∧ yX0_loadTables.cls ≠ "java/lang/invoke/VarHandle" ∧ (parseMethodDescriptor yX0_loadTables.desc).map (fun d => d.parameters.length) = some 1 := by decide +kernel
abbrev fg_rm_X0_takeOut : Room := { frames := 1, cells := 0, slots := 0, locals := 25 }
theorem fg_md_X0_takeOut : yX0_takeOut.cls = RX0 ∧ yX0_takeOut.cls ≠ "java/lang/invoke/MethodHandle" ∧ yX0_takeOut.cls ≠ "java/lang/invoke/VarHandle" ∧ (parseMethodDescriptor yX0_takeOut.desc).map (fun d => d.parameters.length) = some 2 := by decide +kernel
abbrev fg_rm_X0_solve : Room := { frames := 3, cells := 0, slots := 0, locals := 70 }
theorem fg_md_X0_solve : yX0_solve.cls = RX0 ∧ yX0_solve.cls ≠ "java/lang/invoke/MethodHandle" ∧ yX0_solve.cls ≠ "java/lang/invoke/VarHandle" ∧ (parseMethodDescriptor yX0_solve.desc).map (fun d => d.parameters.length) = some 1 := by decide +kernel
section FGX2
variable {l : Launch} {D : va_G} {h : Nat → Nat} {dA dL : ClassId} {F n : Nat} {fa : Int32} {ar va we gi fi : Nat → Int32} {tb : Int32} {sc : Nat → Int32} {ta : Nat → Int64} {S : Nat → Nat} {T : Nat → Nat → Nat}
set_option maxHeartbeats 4000000 in
set_option maxRecDepth 100000 in
/-- loadTables(mode): a table a factor -/
theorem fg_X_loadTables {md : Nat} (hmd : md ≤ 2) (hI : fg_inv F ar va we gi) (hfi : ∀ v, v < 7 → fg_tri (fi v)) : fg_Mv l yX0_loadTables cX0_loadTables 5 fg_rm_X0_loadTables D [.ref (h 0), .int (nI md)] (fg_wX h dA dL (nI F) ar va we gi fi tb sc ta) (fg_tX dA dL) (fun u : (Nat → Int32) × (Nat → Int64) => fg_tok F (fg_S0 fi va) (fg_T0 md va we fi) u.1 u.2) (fun u => fg_wX h dA dL (nI F) ar va we gi fi (nI F) u.1 u.2) := by
  refine fg_Mv_of (own := RX0) (by decide) rfl (Nat.le_of_ble_eq_true rfl) ?_
  intro p e s m args below meth c ls A Q hC hP hK hD hl hA hS ret
  obtain ⟨hx, hb, hr, hts, hown, hlocks, hml⟩ := hC
  have hl : lv_has ls 5 [(0, .ref (h 0)), (1, .int (nI md))] := hl
  obtain ⟨hF, hff, hww, -⟩ := id hI
  have loop : ∀ (k f : Nat), f ≤ F → F < f + k → ∀ (sc : Nat → Int32) (ta : Nat → Int64), fg_tok f (fg_S0 fi va) (fg_T0 md va we fi) sc ta → ∀ (H : Heap) (locs : List Loc), va_P D vwCl (fg_wX h dA dL (nI F) ar va we gi fi (nI F) sc ta) H → va_D A (fg_wX h dA dL (nI F) ar va we gi fi (nI F) sc ta) → va_S A s.heap H locs → ∀ (ls : Array Slot), lv_has ls 5 [(0, .ref (h 0)), (1, .int (nI md)), (2, .int (nI f))] → W p l e fg_rm_X0_loadTables s m args below meth c H locs 0 0 Q (F0 m 10 ls []) := by
    intro k
    induction k with
    | zero => intro f h1 h2; exact absurd h2 (by omega)
    | succ k ih =>
      intro f hf hk sc ta htok H locs hP hD hS ls hl
      refine lv_iload_n hx hb dX0_loadTables_10 rfl (lv_at hl 2 rfl) ?_
      refine lv_aload_n hx hb dX0_loadTables_11 rfl (lv_at hl 0 rfl) ?_
      refine gx_factors hx hb hts hown hK hP dX0_loadTables_12 ?_
      refine fg_ige (tgt := 149) hx hb dX0_loadTables_15 (by decide) (by omega) (by omega) (fun hc => ?_) (fun hc => ?_)
      · have hfF : f = F := by omega
        subst hfF
        exact ret (sc, ta) _ _ _ _ dX0_loadTables_149 hS htok hP hD
      · have hok := hff f hc
        have hsp := fg_sp_lt (fi := fi) hok 3 (Nat.le_refl _)
        have loop2 : ∀ (sc1 : Nat → Int32), sc1 f = nI (fg_sp fi va f 3) → (∀ t, t < f → sc1 t = sc t) → ∀ (k2 mk : Nat), mk ≤ 128 → 128 < mk + k2 → ∀ (ta2 : Nat → Int64), (∀ j, j < f * 128 → ta2 j = ta j) → (∀ m, m < mk → m &&& fg_sp fi va f 3 = m → ta2 (f * 128 + m) = lN (fg_T0 md va we fi f m)) → ∀ (H : Heap) (locs : List Loc), va_P D vwCl (fg_wX h dA dL (nI F) ar va we gi fi (nI F) sc1 ta2) H → va_D A (fg_wX h dA dL (nI F) ar va we gi fi (nI F) sc1 ta2) → va_S A s.heap H locs → ∀ (ls : Array Slot), lv_has ls 5 [(0, .ref (h 0)), (1, .int (nI md)), (2, .int (nI f)), (3, .int (nI mk))] → W p l e fg_rm_X0_loadTables s m args below meth c H locs 0 0 Q (F0 m 80 ls []) := by
          intro sc1 hs1 hs2 k2
          induction k2 with
          | zero => intro mk h1 h2; exact absurd h2 (by omega)
          | succ k2 ih2 =>
            intro mk hmk hk2 ta2 h3 h4 H locs hP hD hS ls hl
            refine lv_iload_n hx hb dX0_loadTables_80 rfl (lv_at hl 3 rfl) ?_
            refine lv_sipush (v := nI 128) hx hb dX0_loadTables_81 (by decide) ?_
            refine fg_ige (tgt := 143) hx hb dX0_loadTables_84 (by decide) (by omega) (by omega) (fun hc2 => ?_) (fun hc2 => ?_)
            · refine lv_iinc (v := nI (f + 1)) (lv' := [(2, .int (nI (f + 1))), (0, .ref (h 0)), (1, .int (nI md)), (3, .int (nI mk))]) hx hb dX0_loadTables_143 hl (k := 2) rfl (fg_inc _) (by decide) rfl (fun ls hl => ?_)
              refine lv_goto (tgt := 10) hx hb dX0_loadTables_146 (by decide) ?_
              exact ih (f + 1) (by omega) (by omega) sc1 ta2 (fg_tok_add htok hsp hs1 hs2 h3 (fun m hm z => h4 m (by omega) z)) _ _ hP hD hS ls (lv_sub hl [1, 2, 0] rfl)
            · refine lv_iload_n hx hb dX0_loadTables_87 rfl (lv_at hl 3 rfl) ?_
              refine lv_aload_n hx hb dX0_loadTables_88 rfl (lv_at hl 0 rfl) ?_
              refine gx_scope hx hb hts hown hK hP dX0_loadTables_89 ?_
              refine lv_iload_n hx hb dX0_loadTables_92 rfl (lv_at hl 2 rfl) ?_
              refine lx_scope hx hb hK hP (by omega) dX0_loadTables_93 ?_
              refine fg_top (y := nI (fg_sp fi va f 3)) hs1 ?_
              refine lv_iconst (v := -1) hx hb dX0_loadTables_94 (by decide) ?_
              refine lv_ixor hx hb dX0_loadTables_95 ?_
              refine lv_iand hx hb dX0_loadTables_96 ?_
              refine lv_if_ne (tgt := 137) hx hb dX0_loadTables_97 (by decide) (fun hc3 => ?_) (fun hc3 => ?_)
              · refine lv_iinc (v := nI (mk + 1)) (lv' := [(3, .int (nI (mk + 1))), (0, .ref (h 0)), (1, .int (nI md)), (2, .int (nI f))]) hx hb dX0_loadTables_137 hl (k := 3) rfl (fg_inc _) (by decide) rfl (fun ls hl => ?_)
                refine lv_goto (tgt := 80) hx hb dX0_loadTables_140 (by decide) ?_
                refine ih2 (mk + 1) (by omega) (by omega) ta2 h3 (fun m hm z => ?_) _ _ hP hD hS ls (lv_sub hl [1, 2, 3, 0] rfl)
                by_cases e : m = mk
                · subst e
                  exact absurd ((fg_sub0 m (by omega) _ hsp).mpr z) hc3
                · exact h4 m (by omega) z
              · obtain ⟨hw1, hw9⟩ := fg_wt_we (m := mk) (show f < 7 by omega) hok hww hfi
                refine lv_aload_n hx hb dX0_loadTables_100 rfl (lv_at hl 0 rfl) ?_
                refine lv_iload_n hx hb dX0_loadTables_101 rfl (lv_at hl 2 rfl) ?_
                refine lv_iload_n hx hb dX0_loadTables_102 rfl (lv_at hl 3 rfl) ?_
                refine fg_cVi (a := h 0) (As := [.int (nI f), .int (nI mk)]) (rest := []) (ci := 0) (q := (RX0, TX0, 9)) ⟨hx, hb, hml, hown, hts⟩ (fg_X_weightIn (l := l) (by omega) (by omega) hok hfi) (cwV 2 hts (lw_V q92 q94 qs3 q17 q95) rfl rfl rfl fg_md_X0_weightIn ⟨Nat.le_of_ble_eq_true rfl, Nat.le_of_ble_eq_true rfl⟩) rfl rfl hK hP hP hS hA rfl hl.1 rfl (Nat.le_of_ble_eq_true rfl) dX0_loadTables_103 ⟨Nat.zero_le _, Nat.zero_le _⟩ (fun r H locs hr1 hP hS => ?_)
                subst hr1
                refine fg_top (y := nI (fg_wt va we (fg_vl fi mk) f)) hw1 ?_
                refine lv_istore (lv' := [(4, .int (nI (fg_wt va we (fg_vl fi mk) f))), (0, .ref (h 0)), (1, .int (nI md)), (2, .int (nI f)), (3, .int (nI mk))]) hx hb dX0_loadTables_106 hl (by decide) rfl (fun ls hl => ?_)
                refine lv_aload_n hx hb dX0_loadTables_108 rfl (lv_at hl 1 rfl) ?_
                refine gx_table hx hb hts hown hK hP dX0_loadTables_109 ?_
                refine lv_iload_n hx hb dX0_loadTables_112 rfl (lv_at hl 3 rfl) ?_
                refine lv_sipush (v := nI 128) hx hb dX0_loadTables_113 (by decide) ?_
                refine fg_imul hx hb dX0_loadTables_116 ?_
                refine lv_iload_n hx hb dX0_loadTables_117 rfl (lv_at hl 4 rfl) ?_
                refine fg_iadd hx hb dX0_loadTables_118 ?_
                refine lv_iload_n hx hb dX0_loadTables_119 rfl (lv_at hl 2 rfl) ?_
                refine lv_iconst (v := nI 2) hx hb dX0_loadTables_120 (by decide) ?_
                refine fg_ine (tgt := 133) hx hb dX0_loadTables_121 (by decide) (by omega) (by omega) (fun hc4 => ?_) (fun hc4 => ?_)
                · refine lv_iload hx hb dX0_loadTables_133 (lv_at hl 0 rfl) ?_
                  refine lv_i2l (v := lN (fg_wt va we (fg_vl fi mk) f)) hx hb dX0_loadTables_135 (nI_l (by omega)) ?_
                  refine fg_topl (y := lN (fg_T0 md va we fi f mk)) (by show lN _ = lN (fg_wq md _); rw [fg_wq0 hc4]) ?_
                  refine sx_table hx hb hK hP hD hS (by omega) dX0_loadTables_136 (fun H locs hP hD hS => ?_)
                  refine lv_iinc (v := nI (mk + 1)) (lv' := [(3, .int (nI (mk + 1))), (4, .int (nI (fg_wt va we (fg_vl fi mk) f))), (0, .ref (h 0)), (1, .int (nI md)), (2, .int (nI f))]) hx hb dX0_loadTables_137 hl (k := 4) rfl (fg_inc _) (by decide) rfl (fun ls hl => ?_)
                  refine lv_goto (tgt := 80) hx hb dX0_loadTables_140 (by decide) ?_
                  refine ih2 (mk + 1) (by omega) (by omega) _ (fun j hj => ?_) (fun m hm z => ?_) _ _ hP hD hS ls (lv_sub hl [2, 3, 4, 0] rfl)
                  · rw [pk_uLn (by omega)]
                    exact h3 j hj
                  · by_cases e : m = mk
                    · subst e
                      rw [pk_uLs]
                    · rw [pk_uLn (by omega)]
                      exact h4 m (by omega) z
                · refine lv_iload hx hb dX0_loadTables_124 (lv_at hl 0 rfl) ?_
                  refine lv_if_le (tgt := 133) hx hb dX0_loadTables_126 (by decide) (fun hc5 => ?_) (fun hc5 => ?_)
                  · have hw0 : fg_wt va we (fg_vl fi mk) f = 0 := by
                      rw [← nI_0] at hc5
                      have := (nI_leI (by omega) (by decide)).mp hc5
                      omega
                    refine lv_iload hx hb dX0_loadTables_133 (lv_at hl 0 rfl) ?_
                    refine lv_i2l (v := lN (fg_wt va we (fg_vl fi mk) f)) hx hb dX0_loadTables_135 (nI_l (by omega)) ?_
                    refine fg_topl (y := lN (fg_T0 md va we fi f mk)) (by show lN _ = lN (fg_wq md _); unfold fg_wq; rw [if_neg (fun z => by omega)]) ?_
                    refine sx_table hx hb hK hP hD hS (by omega) dX0_loadTables_136 (fun H locs hP hD hS => ?_)
                    refine lv_iinc (v := nI (mk + 1)) (lv' := [(3, .int (nI (mk + 1))), (4, .int (nI (fg_wt va we (fg_vl fi mk) f))), (0, .ref (h 0)), (1, .int (nI md)), (2, .int (nI f))]) hx hb dX0_loadTables_137 hl (k := 4) rfl (fg_inc _) (by decide) rfl (fun ls hl => ?_)
                    refine lv_goto (tgt := 80) hx hb dX0_loadTables_140 (by decide) ?_
                    refine ih2 (mk + 1) (by omega) (by omega) _ (fun j hj => ?_) (fun m hm z => ?_) _ _ hP hD hS ls (lv_sub hl [2, 3, 4, 0] rfl)
                    · rw [pk_uLn (by omega)]
                      exact h3 j hj
                    · by_cases e : m = mk
                      · subst e
                        rw [pk_uLs]
                      · rw [pk_uLn (by omega)]
                        exact h4 m (by omega) z
                  · have hw0 : 0 < fg_wt va we (fg_vl fi mk) f := by
                      rw [← nI_0] at hc5
                      exact Nat.pos_of_ne_zero (fun z => hc5 ((nI_leI (by omega) (by decide)).mpr (by omega)))
                    refine lv_lconst (v := lN 1) hx hb dX0_loadTables_129 rfl ?_
                    refine lv_goto (tgt := 136) hx hb dX0_loadTables_130 (by decide) ?_
                    refine fg_topl (y := lN (fg_T0 md va we fi f mk)) (by show lN _ = lN (fg_wq md _); unfold fg_wq; rw [if_pos ⟨hc4, hw0⟩]) ?_
                    refine sx_table hx hb hK hP hD hS (by omega) dX0_loadTables_136 (fun H locs hP hD hS => ?_)
                    refine lv_iinc (v := nI (mk + 1)) (lv' := [(3, .int (nI (mk + 1))), (4, .int (nI (fg_wt va we (fg_vl fi mk) f))), (0, .ref (h 0)), (1, .int (nI md)), (2, .int (nI f))]) hx hb dX0_loadTables_137 hl (k := 4) rfl (fg_inc _) (by decide) rfl (fun ls hl => ?_)
                    refine lv_goto (tgt := 80) hx hb dX0_loadTables_140 (by decide) ?_
                    refine ih2 (mk + 1) (by omega) (by omega) _ (fun j hj => ?_) (fun m hm z => ?_) _ _ hP hD hS ls (lv_sub hl [2, 3, 4, 0] rfl)
                    · rw [pk_uLn (by omega)]
                      exact h3 j hj
                    · by_cases e : m = mk
                      · subst e
                        rw [pk_uLs]
                      · rw [pk_uLn (by omega)]
                        exact h4 m (by omega) z
        obtain ⟨a, ha1, ha3, hak, hsl⟩ := id hok
        have loop1 : ∀ (k1 i : Nat), i ≤ a → a < i + k1 → ∀ (sc1 : Nat → Int32), sc1 f = nI (fg_sp fi va f i) → (∀ t, t < f → sc1 t = sc t) → ∀ (H : Heap) (locs : List Loc), va_P D vwCl (fg_wX h dA dL (nI F) ar va we gi fi (nI F) sc1 ta) H → va_D A (fg_wX h dA dL (nI F) ar va we gi fi (nI F) sc1 ta) → va_S A s.heap H locs → ∀ (ls : Array Slot), lv_has ls 5 [(0, .ref (h 0)), (1, .int (nI md)), (2, .int (nI f)), (3, .int (nI i))] → W p l e fg_rm_X0_loadTables s m args below meth c H locs 0 0 Q (F0 m 27 ls []) := by
          intro k1
          induction k1 with
          | zero => intro i h1 h2; exact absurd h2 (by omega)
          | succ k1 ih1 =>
            intro i hi hk1 sc1 hs1 hs2 H locs hP hD hS ls hl
            refine lv_iload_n hx hb dX0_loadTables_27 rfl (lv_at hl 3 rfl) ?_
            refine lv_aload_n hx hb dX0_loadTables_28 rfl (lv_at hl 0 rfl) ?_
            refine gx_arity hx hb hts hown hK hP dX0_loadTables_29 ?_
            refine lv_iload_n hx hb dX0_loadTables_32 rfl (lv_at hl 2 rfl) ?_
            refine lx_arity hx hb hK hP (by omega) dX0_loadTables_33 ?_
            refine fg_top (y := nI a) hak ?_
            refine fg_ige (tgt := 78) hx hb dX0_loadTables_34 (by decide) (by omega) (by omega) (fun hc1 => ?_) (fun hc1 => ?_)
            · have hia : i = a := by omega
              subst hia
              rw [fg_sp_end (ar := ar) (fun j hj z => (hsl j hj).2 z) ha3] at hs1
              refine lv_iconst (v := nI 0) hx hb dX0_loadTables_78 (by decide) ?_
              refine lv_istore_n (lv' := [(3, .int (nI 0)), (0, .ref (h 0)), (1, .int (nI md)), (2, .int (nI f))]) hx hb dX0_loadTables_79 rfl hl (by decide) rfl (fun ls hl => ?_)
              exact loop2 sc1 hs1 hs2 129 0 (by omega) (by omega) ta (fun j _ => rfl) (fun m hm => absurd hm (by omega)) _ _ hP hD hS ls (lv_sub hl [1, 2, 3, 0] rfl)
            · obtain ⟨x, hx7, hvx⟩ := (hsl i (by omega)).1 hc1
              have hspi := fg_sp_lt (fi := fi) hok i (by omega)
              refine lv_aload_n hx hb dX0_loadTables_37 rfl (lv_at hl 0 rfl) ?_
              refine gx_variables hx hb hts hown hK hP dX0_loadTables_38 ?_
              refine lv_iload_n hx hb dX0_loadTables_41 rfl (lv_at hl 2 rfl) ?_
              refine lv_iconst (v := nI 3) hx hb dX0_loadTables_42 (by decide) ?_
              refine fg_imul hx hb dX0_loadTables_43 ?_
              refine lv_iload_n hx hb dX0_loadTables_44 rfl (lv_at hl 3 rfl) ?_
              refine fg_iadd hx hb dX0_loadTables_45 ?_
              refine lx_variables hx hb hK hP (by omega) dX0_loadTables_46 ?_
              refine fg_top (y := nI x) hvx ?_
              refine lv_istore (lv' := [(4, .int (nI x)), (0, .ref (h 0)), (1, .int (nI md)), (2, .int (nI f)), (3, .int (nI i))]) hx hb dX0_loadTables_47 hl (by decide) rfl (fun ls hl => ?_)
              refine lv_aload_n hx hb dX0_loadTables_49 rfl (lv_at hl 1 rfl) ?_
              refine gx_fixed hx hb hts hown hK hP dX0_loadTables_50 ?_
              refine lv_iload hx hb dX0_loadTables_53 (lv_at hl 0 rfl) ?_
              refine lx_fixed hx hb hK hP (by omega) dX0_loadTables_55 ?_
              refine lv_if_ge (tgt := 72) hx hb dX0_loadTables_56 (by decide) (fun hc6 => ?_) (fun hc6 => ?_)
              · refine lv_iinc (v := nI (i + 1)) (lv' := [(3, .int (nI (i + 1))), (4, .int (nI x)), (0, .ref (h 0)), (1, .int (nI md)), (2, .int (nI f))]) hx hb dX0_loadTables_72 hl (k := 4) rfl (fg_inc _) (by decide) rfl (fun ls hl => ?_)
                refine lv_goto (tgt := 27) hx hb dX0_loadTables_75 (by decide) ?_
                refine ih1 (i + 1) (by omega) (by omega) sc1 ?_ hs2 _ _ hP hD hS ls (lv_sub hl [2, 3, 4, 0] rfl)
                rw [hs1]
                conv => rhs; unfold fg_sp
                rw [hvx, if_neg (nI_pos (by omega)), nI_clamp (by omega), if_neg (Int32.not_lt.mpr hc6)]
              · refine lv_aload_n hx hb dX0_loadTables_59 rfl (lv_at hl 1 rfl) ?_
                refine gx_scope hx hb hts hown hK hP dX0_loadTables_60 ?_
                refine lv_iload_n hx hb dX0_loadTables_63 rfl (lv_at hl 3 rfl) ?_
                refine lv_dup2_11 hx hb dX0_loadTables_64 rfl rfl ?_
                refine lx_scope hx hb hK hP (by omega) dX0_loadTables_65 ?_
                refine fg_top (y := nI (fg_sp fi va f i)) hs1 ?_
                refine lv_iconst (v := nI 1) hx hb dX0_loadTables_66 (by decide) ?_
                refine lv_iload hx hb dX0_loadTables_67 (lv_at hl 0 rfl) ?_
                refine fg_ishl1 hx7 hx hb dX0_loadTables_69 ?_
                refine fg_ior hx hb dX0_loadTables_70 ?_
                refine sx_scope hx hb hK hP hD hS (by omega) dX0_loadTables_71 (fun H locs hP hD hS => ?_)
                refine lv_iinc (v := nI (i + 1)) (lv' := [(3, .int (nI (i + 1))), (4, .int (nI x)), (0, .ref (h 0)), (1, .int (nI md)), (2, .int (nI f))]) hx hb dX0_loadTables_72 hl (k := 4) rfl (fg_inc _) (by decide) rfl (fun ls hl => ?_)
                refine lv_goto (tgt := 27) hx hb dX0_loadTables_75 (by decide) ?_
                refine ih1 (i + 1) (by omega) (by omega) _ ?_ (fun t ht => ?_) _ _ hP hD hS ls (lv_sub hl [2, 3, 4, 0] rfl)
                · rw [pk_us]
                  conv => rhs; unfold fg_sp
                  rw [hvx, if_neg (nI_pos (by omega)), nI_clamp (by omega), if_pos (Int32.not_le.mp hc6)]
                · rw [pk_un (by omega)]
                  exact hs2 t ht
        refine lv_aload_n hx hb dX0_loadTables_18 rfl (lv_at hl 0 rfl) ?_
        refine gx_scope hx hb hts hown hK hP dX0_loadTables_19 ?_
        refine lv_iload_n hx hb dX0_loadTables_22 rfl (lv_at hl 2 rfl) ?_
        refine lv_iconst (v := nI 0) hx hb dX0_loadTables_23 (by decide) ?_
        refine sx_scope hx hb hK hP hD hS (by omega) dX0_loadTables_24 (fun H locs hP hD hS => ?_)
        refine lv_iconst (v := nI 0) hx hb dX0_loadTables_25 (by decide) ?_
        refine lv_istore_n (lv' := [(3, .int (nI 0)), (0, .ref (h 0)), (1, .int (nI md)), (2, .int (nI f))]) hx hb dX0_loadTables_26 rfl hl (by decide) rfl (fun ls hl => ?_)
        exact loop1 (a + 1) 0 (by omega) (by omega) _ pk_us (fun t ht => pk_un (by omega)) _ _ hP hD hS ls (lv_sub hl [1, 2, 3, 0] rfl)
  refine lv_aload_n hx hb dX0_loadTables_0 rfl (lv_at hl 0 rfl) ?_
  refine lv_aload_n hx hb dX0_loadTables_1 rfl (lv_at hl 0 rfl) ?_
  refine gx_factors hx hb hts hown hK hP dX0_loadTables_2 ?_
  refine px_tables hx hb hts hown hK hP hD hS dX0_loadTables_5 (fun H locs hP hD hS => ?_)
  refine lv_iconst (v := nI 0) hx hb dX0_loadTables_8 (by decide) ?_
  refine lv_istore_n (lv' := [(2, .int (nI 0)), (0, .ref (h 0)), (1, .int (nI md))]) hx hb dX0_loadTables_9 rfl hl (by decide) rfl (fun ls hl => ?_)
  exact loop (F + 1) 0 (by omega) (by omega) sc ta ⟨fun t ht => absurd ht (by omega), fun t ht => absurd ht (by omega)⟩ _ _ hP hD hS ls (lv_sub hl [1, 2, 0] rfl)

set_option maxHeartbeats 4000000 in
set_option maxRecDepth 100000 in
/-- takeOut(v, mode): one table more, those of v out -/
theorem fg_X_takeOut {md v : Nat} (hmd : md ≤ 2) (hv : v < 7) (hn : n ≤ 15) (htok : fg_tok n S T sc ta) (hBd : md = 1 → fg_Bd S T n) : fg_Mv l yX0_takeOut cX0_takeOut 12 fg_rm_X0_takeOut D [.ref (h 0), .int (nI v), .int (nI md)] (fg_wX h dA dL fa ar va we gi fi (nI n) sc ta) (fg_tX dA dL) (fun u : (Nat → Int32) × (Nat → Int64) => fg_tok (n + 1) (fg_oS n v S) (fg_oT md n v S T) u.1 u.2) (fun u => fg_wX h dA dL fa ar va we gi fi (nI (n + 1)) u.1 u.2) := by
  refine fg_Mv_of (own := RX0) (by decide) rfl (Nat.le_of_ble_eq_true rfl) ?_
  intro p e s m args below meth c ls A Q hC hP hK hD hl hA hS ret
  obtain ⟨hx, hb, hr, hts, hown, hlocks, hml⟩ := hC
  have hl : lv_has ls 12 [(0, .ref (h 0)), (1, .int (nI v)), (2, .int (nI md))] := hl
  have hnb : fg_nb S v n < 128 := fg_nb_lt hv (fun t ht => (htok.1 t ht).1)
  obtain ⟨ov, hov⟩ : ∃ z, z = fg_clr (fg_nb S v n) v := ⟨_, rfl⟩
  have hov7 : ov < 128 := by rw [hov]; exact fg_clr_lt _ hnb v hv
  have loopB : ∀ (ta1 : Nat → Int64), (∀ j, j < n * 128 → ta1 j = ta j) → (∀ m, m < 128 → m &&& ov = m → ta1 (n * 128 + m) = lN (fg_op md (fg_PV S T v m n) (fg_PV S T v (m ||| 2 ^ v) n))) → ∀ (k t : Nat), t ≤ n → n < t + k → ∀ (sc1 : Nat → Int32), (∀ u, u < t → sc1 u = if (S u).testBit v = true then -1 else sc u) → (∀ u, t ≤ u → sc1 u = sc u) → ∀ (H : Heap) (locs : List Loc), va_P D vwCl (fg_wX h dA dL fa ar va we gi fi (nI n) sc1 ta1) H → va_D A (fg_wX h dA dL fa ar va we gi fi (nI n) sc1 ta1) → va_S A s.heap H locs → ∀ (ls : Array Slot), lv_has ls 12 [(0, .ref (h 0)), (1, .int (nI v)), (3, .int (nI ov)), (4, .int (nI n)), (5, .int (nI t))] → W p l e fg_rm_X0_takeOut s m args below meth c H locs 0 0 Q (F0 m 114 ls []) := by
    intro ta1 h3 h4 k
    induction k with
    | zero => intro t h1 h2; exact absurd h2 (by omega)
    | succ k ih =>
      intro t ht hk sc1 hs1 hs2 H locs hP hD hS ls hl
      refine lv_iload hx hb dX0_takeOut_114 (lv_at hl 4 rfl) ?_
      refine lv_aload_n hx hb dX0_takeOut_116 rfl (lv_at hl 0 rfl) ?_
      refine gx_tables hx hb hts hown hK hP dX0_takeOut_117 ?_
      refine fg_ige (tgt := 162) hx hb dX0_takeOut_120 (by decide) (by omega) (by omega) (fun hc => ?_) (fun hc => ?_)
      · have htn : t = n := by omega
        subst htn
        refine lv_aload_n hx hb dX0_takeOut_162 rfl (lv_at hl 0 rfl) ?_
        refine gx_scope hx hb hts hown hK hP dX0_takeOut_163 ?_
        refine lv_iload hx hb dX0_takeOut_166 (lv_at hl 3 rfl) ?_
        refine lv_iload_n hx hb dX0_takeOut_168 rfl (lv_at hl 2 rfl) ?_
        refine sx_scope hx hb hK hP hD hS (by omega) dX0_takeOut_169 (fun H locs hP hD hS => ?_)
        refine lv_aload_n hx hb dX0_takeOut_170 rfl (lv_at hl 0 rfl) ?_
        refine lv_dup hx hb dX0_takeOut_171 rfl ?_
        refine gx_tables hx hb hts hown hK hP dX0_takeOut_172 ?_
        refine lv_iconst (v := nI 1) hx hb dX0_takeOut_175 (by decide) ?_
        refine fg_iadd hx hb dX0_takeOut_176 ?_
        refine px_tables hx hb hts hown hK hP hD hS dX0_takeOut_177 (fun H locs hP hD hS => ?_)
        refine ret (upd sc1 t (nI ov), ta1) _ _ _ _ dX0_takeOut_180 hS ?_ hP hD
        refine fg_out_tok hv htok ?_ (fun u hu => ?_) h3 (fun m hm z => h4 m hm (by rw [hov]; exact z))
        · show upd sc1 t (nI ov) t = _
          rw [pk_us, hov]
        · show upd sc1 t (nI ov) u = _
          rw [pk_un (by omega)]
          exact hs1 u hu
      · obtain ⟨hz1, hz2⟩ := htok.1 t hc
        have hst : sc1 t = fg_en (S t) := by rw [hs2 t (Nat.le_refl _), hz2]
        refine lv_aload_n hx hb dX0_takeOut_123 rfl (lv_at hl 0 rfl) ?_
        refine gx_scope hx hb hts hown hK hP dX0_takeOut_124 ?_
        refine lv_iload hx hb dX0_takeOut_127 (lv_at hl 4 rfl) ?_
        refine lx_scope hx hb hK hP (by omega) dX0_takeOut_129 ?_
        refine fg_top (y := fg_en (S t)) hst ?_
        refine lv_if_lt (tgt := 156) hx hb dX0_takeOut_130 (by decide) (fun hc1 => ?_) (fun hc1 => ?_)
        · have h128 : S t = 128 := by have := fg_en_neg.mp hc1; omega
          refine lv_iinc (v := nI (t + 1)) (lv' := [(5, .int (nI (t + 1))), (0, .ref (h 0)), (1, .int (nI v)), (3, .int (nI ov)), (4, .int (nI n))]) hx hb dX0_takeOut_156 hl (k := 4) rfl (fg_inc _) (by decide) rfl (fun ls hl => ?_)
          refine lv_goto (tgt := 114) hx hb dX0_takeOut_159 (by decide) ?_
          refine ih (t + 1) (by omega) (by omega) sc1 (fun u hu => ?_) (fun u hu => hs2 u (by omega)) _ _ hP hD hS ls (lv_sub hl [1, 2, 3, 4, 0] rfl)
          by_cases e : u = t
          · subst e
            rw [if_neg (by rw [h128, fg_128 hv]; decide)]
            exact hs2 u (Nat.le_refl _)
          · exact hs1 u (by omega)
        · have hlt : S t < 128 := by
            rcases Nat.lt_or_ge (S t) 128 with z | z
            · exact z
            · exact absurd (fg_en_neg.mpr (by omega)) hc1
          rw [fg_en_lt hlt] at hst
          refine lv_aload_n hx hb dX0_takeOut_133 rfl (lv_at hl 0 rfl) ?_
          refine gx_scope hx hb hts hown hK hP dX0_takeOut_134 ?_
          refine lv_iload hx hb dX0_takeOut_137 (lv_at hl 4 rfl) ?_
          refine lx_scope hx hb hK hP (by omega) dX0_takeOut_139 ?_
          refine fg_top (y := nI (S t)) hst ?_
          refine lv_iload_n hx hb dX0_takeOut_140 rfl (lv_at hl 1 rfl) ?_
          refine fg_ishr (by omega) (by omega) hx hb dX0_takeOut_141 ?_
          refine lv_iconst (v := nI 1) hx hb dX0_takeOut_142 (by decide) ?_
          refine fg_ibt hx hb dX0_takeOut_143 ?_
          refine lv_iconst (v := nI 1) hx hb dX0_takeOut_144 (by decide) ?_
          have hb1 := fg_bt_le (S t) v
          refine fg_ine (tgt := 156) hx hb dX0_takeOut_145 (by decide) (by omega) (by omega) (fun hc2 => ?_) (fun hc2 => ?_)
          · refine lv_iinc (v := nI (t + 1)) (lv' := [(5, .int (nI (t + 1))), (0, .ref (h 0)), (1, .int (nI v)), (3, .int (nI ov)), (4, .int (nI n))]) hx hb dX0_takeOut_156 hl (k := 4) rfl (fg_inc _) (by decide) rfl (fun ls hl => ?_)
            refine lv_goto (tgt := 114) hx hb dX0_takeOut_159 (by decide) ?_
            refine ih (t + 1) (by omega) (by omega) sc1 (fun u hu => ?_) (fun u hu => hs2 u (by omega)) _ _ hP hD hS ls (lv_sub hl [1, 2, 3, 4, 0] rfl)
            by_cases e : u = t
            · subst e
              rw [if_neg (fun z => hc2 (fg_bt1.mpr z))]
              exact hs2 u (Nat.le_refl _)
            · exact hs1 u (by omega)
          · refine lv_aload_n hx hb dX0_takeOut_148 rfl (lv_at hl 0 rfl) ?_
            refine gx_scope hx hb hts hown hK hP dX0_takeOut_149 ?_
            refine lv_iload hx hb dX0_takeOut_152 (lv_at hl 4 rfl) ?_
            refine lv_iconst (v := -1) hx hb dX0_takeOut_154 (by decide) ?_
            refine sx_scope hx hb hK hP hD hS (by omega) dX0_takeOut_155 (fun H locs hP hD hS => ?_)
            refine lv_iinc (v := nI (t + 1)) (lv' := [(5, .int (nI (t + 1))), (0, .ref (h 0)), (1, .int (nI v)), (3, .int (nI ov)), (4, .int (nI n))]) hx hb dX0_takeOut_156 hl (k := 4) rfl (fg_inc _) (by decide) rfl (fun ls hl => ?_)
            refine lv_goto (tgt := 114) hx hb dX0_takeOut_159 (by decide) ?_
            refine ih (t + 1) (by omega) (by omega) _ (fun u hu => ?_) (fun u hu => ?_) _ _ hP hD hS ls (lv_sub hl [1, 2, 3, 4, 0] rfl)
            · by_cases e : u = t
              · subst e
                rw [pk_us, if_pos (fg_bt1.mp hc2)]
              · rw [pk_un (by omega)]
                exact hs1 u (by omega)
            · rw [pk_un (by omega)]
              exact hs2 u (by omega)
  have loopA : ∀ (k mk : Nat), mk ≤ 128 → 128 < mk + k → ∀ (ta1 : Nat → Int64), (∀ j, j < n * 128 → ta1 j = ta j) → (∀ m, m < mk → m &&& ov = m → ta1 (n * 128 + m) = lN (fg_op md (fg_PV S T v m n) (fg_PV S T v (m ||| 2 ^ v) n))) → ∀ (H : Heap) (locs : List Loc), va_P D vwCl (fg_wX h dA dL fa ar va we gi fi (nI n) sc ta1) H → va_D A (fg_wX h dA dL fa ar va we gi fi (nI n) sc ta1) → va_S A s.heap H locs → ∀ (ls : Array Slot), lv_has ls 12 [(0, .ref (h 0)), (1, .int (nI v)), (2, .int (nI md)), (3, .int (nI ov)), (4, .int (nI n)), (5, .int (nI mk))] → W p l e fg_rm_X0_takeOut s m args below meth c H locs 0 0 Q (F0 m 21 ls []) := by
    intro k
    induction k with
    | zero => intro mk h1 h2; exact absurd h2 (by omega)
    | succ k ih =>
      intro mk hmk hk ta1 h3 h4 H locs hP hD hS ls hl
      refine lv_iload hx hb dX0_takeOut_21 (lv_at hl 5 rfl) ?_
      refine lv_sipush (v := nI 128) hx hb dX0_takeOut_23 (by decide) ?_
      refine fg_ige (tgt := 111) hx hb dX0_takeOut_26 (by decide) (by omega) (by omega) (fun hc => ?_) (fun hc => ?_)
      · refine lv_iconst (v := nI 0) hx hb dX0_takeOut_111 (by decide) ?_
        refine lv_istore (lv' := [(5, .int (nI 0)), (0, .ref (h 0)), (1, .int (nI v)), (2, .int (nI md)), (3, .int (nI ov)), (4, .int (nI n))]) hx hb dX0_takeOut_112 hl (by decide) rfl (fun ls hl => ?_)
        exact loopB ta1 h3 (fun m hm z => h4 m (by omega) z) (n + 1) 0 (by omega) (by omega) sc (fun u hu => absurd hu (by omega)) (fun u _ => rfl) _ _ hP hD hS ls (lv_sub hl [1, 2, 4, 5, 0] rfl)
      · refine lv_iload hx hb dX0_takeOut_29 (lv_at hl 5 rfl) ?_
        refine lv_iload_n hx hb dX0_takeOut_31 rfl (lv_at hl 3 rfl) ?_
        refine lv_iconst (v := -1) hx hb dX0_takeOut_32 (by decide) ?_
        refine lv_ixor hx hb dX0_takeOut_33 ?_
        refine lv_iand hx hb dX0_takeOut_34 ?_
        refine lv_if_ne (tgt := 105) hx hb dX0_takeOut_35 (by decide) (fun hc1 => ?_) (fun hc1 => ?_)
        · refine lv_iinc (v := nI (mk + 1)) (lv' := [(5, .int (nI (mk + 1))), (0, .ref (h 0)), (1, .int (nI v)), (2, .int (nI md)), (3, .int (nI ov)), (4, .int (nI n))]) hx hb dX0_takeOut_105 hl (k := 5) rfl (fg_inc _) (by decide) rfl (fun ls hl => ?_)
          refine lv_goto (tgt := 21) hx hb dX0_takeOut_108 (by decide) ?_
          refine ih (mk + 1) (by omega) (by omega) ta1 h3 (fun m hm z => ?_) _ _ hP hD hS ls (lv_sub hl [1, 2, 3, 4, 5, 0] rfl)
          by_cases e : m = mk
          · subst e
            exact absurd ((fg_sub0 m (by omega) _ hov7).mpr z) hc1
          · exact h4 m (by omega) z
        · have htk := fg_tok_ta htok h3
          refine lv_aload_n hx hb dX0_takeOut_38 rfl (lv_at hl 0 rfl) ?_
          refine lv_iload_n hx hb dX0_takeOut_39 rfl (lv_at hl 1 rfl) ?_
          refine lv_iload hx hb dX0_takeOut_40 (lv_at hl 5 rfl) ?_
          refine fg_cVl (a := h 0) (As := [.int (nI v), .int (nI mk)]) (rest := []) (ci := 0) (q := (RX0, TX0, 9)) ⟨hx, hb, hml, hown, hts⟩ (fg_X_product (l := l) hv (show n ≤ 16 by omega) htk) (cwV 2 hts (lw_V q115 q117 qs8 q17 q118) rfl rfl rfl fg_md_X0_product ⟨Nat.le_of_ble_eq_true rfl, Nat.le_of_ble_eq_true rfl⟩) rfl rfl hK hP hP hS hA rfl hl.1 rfl (Nat.le_of_ble_eq_true rfl) dX0_takeOut_42 ⟨Nat.zero_le _, Nat.zero_le _⟩ (fun r H locs hr1 hP hS => ?_)
          subst hr1
          refine lv_lstore (lv' := [(6, .long (lN (fg_PV S T v mk n))), (0, .ref (h 0)), (1, .int (nI v)), (2, .int (nI md)), (3, .int (nI ov)), (4, .int (nI n)), (5, .int (nI mk))]) hx hb dX0_takeOut_45 hl (by decide) rfl (fun ls hl => ?_)
          refine lv_aload_n hx hb dX0_takeOut_47 rfl (lv_at hl 1 rfl) ?_
          refine lv_iload_n hx hb dX0_takeOut_48 rfl (lv_at hl 2 rfl) ?_
          refine lv_iload hx hb dX0_takeOut_49 (lv_at hl 6 rfl) ?_
          refine lv_iconst (v := nI 1) hx hb dX0_takeOut_51 (by decide) ?_
          refine lv_iload_n hx hb dX0_takeOut_52 rfl (lv_at hl 2 rfl) ?_
          refine fg_ishl1 hv hx hb dX0_takeOut_53 ?_
          refine fg_ior hx hb dX0_takeOut_54 ?_
          refine fg_cVl (a := h 0) (As := [.int (nI v), .int (nI (mk ||| (2 ^ v)))]) (rest := []) (ci := 0) (q := (RX0, TX0, 9)) ⟨hx, hb, hml, hown, hts⟩ (fg_X_product (l := l) hv (show n ≤ 16 by omega) htk) (cwV 2 hts (lw_V q115 q117 qs8 q17 q118) rfl rfl rfl fg_md_X0_product ⟨Nat.le_of_ble_eq_true rfl, Nat.le_of_ble_eq_true rfl⟩) rfl rfl hK hP hP hS hA rfl hl.1 rfl (Nat.le_of_ble_eq_true rfl) dX0_takeOut_55 ⟨Nat.zero_le _, Nat.zero_le _⟩ (fun r H locs hr1 hP hS => ?_)
          subst hr1
          refine lv_lstore (lv' := [(8, .long (lN (fg_PV S T v (mk ||| 2 ^ v) n))), (6, .long (lN (fg_PV S T v mk n))), (0, .ref (h 0)), (1, .int (nI v)), (2, .int (nI md)), (3, .int (nI ov)), (4, .int (nI n)), (5, .int (nI mk))]) hx hb dX0_takeOut_58 hl (by decide) rfl (fun ls hl => ?_)
          refine lv_lload hx hb dX0_takeOut_60 (lv_at hl 1 rfl) ?_
          refine lv_lload hx hb dX0_takeOut_62 (lv_at hl 0 rfl) ?_
          refine fg_ladd hx hb dX0_takeOut_64 ?_
          refine lv_lstore (lv' := [(10, .long (lN ((fg_PV S T v mk n) + (fg_PV S T v (mk ||| 2 ^ v) n)))), (8, .long (lN (fg_PV S T v (mk ||| 2 ^ v) n))), (6, .long (lN (fg_PV S T v mk n))), (0, .ref (h 0)), (1, .int (nI v)), (2, .int (nI md)), (3, .int (nI ov)), (4, .int (nI n)), (5, .int (nI mk))]) hx hb dX0_takeOut_65 hl (by decide) rfl (fun ls hl => ?_)
          refine lv_iload_n hx hb dX0_takeOut_67 rfl (lv_at hl 5 rfl) ?_
          refine lv_iconst (v := nI 1) hx hb dX0_takeOut_68 (by decide) ?_
          refine fg_ine (tgt := 89) hx hb dX0_takeOut_69 (by decide) (by omega) (by omega) (fun hc2 => ?_) (fun hc2 => ?_)
          · refine lv_aload_n hx hb dX0_takeOut_89 rfl (lv_at hl 3 rfl) ?_
            refine gx_table hx hb hts hown hK hP dX0_takeOut_90 ?_
            refine lv_iload hx hb dX0_takeOut_93 (lv_at hl 7 rfl) ?_
            refine lv_sipush (v := nI 128) hx hb dX0_takeOut_95 (by decide) ?_
            refine fg_imul hx hb dX0_takeOut_98 ?_
            refine lv_iload hx hb dX0_takeOut_99 (lv_at hl 8 rfl) ?_
            refine fg_iadd hx hb dX0_takeOut_101 ?_
            refine lv_lload hx hb dX0_takeOut_102 (lv_at hl 0 rfl) ?_
            refine fg_topl (y := lN (fg_op md (fg_PV S T v mk n) (fg_PV S T v (mk ||| 2 ^ v) n))) (by unfold fg_op; rw [if_neg hc2]) ?_
            refine sx_table hx hb hK hP hD hS (by omega) dX0_takeOut_104 (fun H locs hP hD hS => ?_)
            refine lv_iinc (v := nI (mk + 1)) (lv' := [(5, .int (nI (mk + 1))), (10, .long (lN ((fg_PV S T v mk n) + (fg_PV S T v (mk ||| 2 ^ v) n)))), (8, .long (lN (fg_PV S T v (mk ||| 2 ^ v) n))), (6, .long (lN (fg_PV S T v mk n))), (0, .ref (h 0)), (1, .int (nI v)), (2, .int (nI md)), (3, .int (nI ov)), (4, .int (nI n))]) hx hb dX0_takeOut_105 hl (k := 8) rfl (fg_inc _) (by decide) rfl (fun ls hl => ?_)
            refine lv_goto (tgt := 21) hx hb dX0_takeOut_108 (by decide) ?_
            refine ih (mk + 1) (by omega) (by omega) _ (fun j hj => ?_) (fun m hm z => ?_) _ _ hP hD hS ls (lv_sub hl [4, 5, 6, 7, 8, 0] rfl)
            · rw [pk_uLn (by omega)]
              exact h3 j hj
            · by_cases e : m = mk
              · subst e
                rw [pk_uLs]
              · rw [pk_uLn (by omega)]
                exact h4 m (by omega) z
          · have hb0 := fg_PV_bd hv (fun t ht => (htok.1 t ht).1) (hBd hc2) mk
            have hb1 := fg_PV_bd hv (fun t ht => (htok.1 t ht).1) (hBd hc2) (mk ||| 2 ^ v)
            refine lv_lload hx hb dX0_takeOut_72 (lv_at hl 2 rfl) ?_
            refine lv_lload hx hb dX0_takeOut_74 (lv_at hl 1 rfl) ?_
            refine W.lcmp hx hb dX0_takeOut_76 ?_
            refine lv_if_le (tgt := 85) hx hb dX0_takeOut_77 (by decide) (fun hc3 => ?_) (fun hc3 => ?_)
            · have hle := (fg_max_lN hb0 hb1).mp ((lg_cmp_le _ _).mp hc3)
              refine lv_lload hx hb dX0_takeOut_85 (lv_at hl 1 rfl) ?_
              refine lv_lstore (lv' := [(10, .long (lN (fg_PV S T v (mk ||| 2 ^ v) n))), (8, .long (lN (fg_PV S T v (mk ||| 2 ^ v) n))), (6, .long (lN (fg_PV S T v mk n))), (0, .ref (h 0)), (1, .int (nI v)), (2, .int (nI md)), (3, .int (nI ov)), (4, .int (nI n)), (5, .int (nI mk))]) hx hb dX0_takeOut_87 hl (by decide) rfl (fun ls hl => ?_)
              refine lv_aload_n hx hb dX0_takeOut_89 rfl (lv_at hl 3 rfl) ?_
              refine gx_table hx hb hts hown hK hP dX0_takeOut_90 ?_
              refine lv_iload hx hb dX0_takeOut_93 (lv_at hl 7 rfl) ?_
              refine lv_sipush (v := nI 128) hx hb dX0_takeOut_95 (by decide) ?_
              refine fg_imul hx hb dX0_takeOut_98 ?_
              refine lv_iload hx hb dX0_takeOut_99 (lv_at hl 8 rfl) ?_
              refine fg_iadd hx hb dX0_takeOut_101 ?_
              refine lv_lload hx hb dX0_takeOut_102 (lv_at hl 0 rfl) ?_
              refine fg_topl (y := lN (fg_op md (fg_PV S T v mk n) (fg_PV S T v (mk ||| 2 ^ v) n))) (by unfold fg_op; rw [if_pos hc2, Nat.max_eq_right hle]) ?_
              refine sx_table hx hb hK hP hD hS (by omega) dX0_takeOut_104 (fun H locs hP hD hS => ?_)
              refine lv_iinc (v := nI (mk + 1)) (lv' := [(5, .int (nI (mk + 1))), (10, .long (lN (fg_PV S T v (mk ||| 2 ^ v) n))), (8, .long (lN (fg_PV S T v (mk ||| 2 ^ v) n))), (6, .long (lN (fg_PV S T v mk n))), (0, .ref (h 0)), (1, .int (nI v)), (2, .int (nI md)), (3, .int (nI ov)), (4, .int (nI n))]) hx hb dX0_takeOut_105 hl (k := 8) rfl (fg_inc _) (by decide) rfl (fun ls hl => ?_)
              refine lv_goto (tgt := 21) hx hb dX0_takeOut_108 (by decide) ?_
              refine ih (mk + 1) (by omega) (by omega) _ (fun j hj => ?_) (fun m hm z => ?_) _ _ hP hD hS ls (lv_sub hl [4, 5, 6, 7, 8, 0] rfl)
              · rw [pk_uLn (by omega)]
                exact h3 j hj
              · by_cases e : m = mk
                · subst e
                  rw [pk_uLs]
                · rw [pk_uLn (by omega)]
                  exact h4 m (by omega) z
            · have hle : ¬ fg_PV S T v mk n ≤ fg_PV S T v (mk ||| 2 ^ v) n := fun z => hc3 ((lg_cmp_le _ _).mpr ((fg_max_lN hb0 hb1).mpr z))
              refine lv_lload hx hb dX0_takeOut_80 (lv_at hl 2 rfl) ?_
              refine lv_goto (tgt := 87) hx hb dX0_takeOut_82 (by decide) ?_
              refine lv_lstore (lv' := [(10, .long (lN (fg_PV S T v mk n))), (8, .long (lN (fg_PV S T v (mk ||| 2 ^ v) n))), (6, .long (lN (fg_PV S T v mk n))), (0, .ref (h 0)), (1, .int (nI v)), (2, .int (nI md)), (3, .int (nI ov)), (4, .int (nI n)), (5, .int (nI mk))]) hx hb dX0_takeOut_87 hl (by decide) rfl (fun ls hl => ?_)
              refine lv_aload_n hx hb dX0_takeOut_89 rfl (lv_at hl 3 rfl) ?_
              refine gx_table hx hb hts hown hK hP dX0_takeOut_90 ?_
              refine lv_iload hx hb dX0_takeOut_93 (lv_at hl 7 rfl) ?_
              refine lv_sipush (v := nI 128) hx hb dX0_takeOut_95 (by decide) ?_
              refine fg_imul hx hb dX0_takeOut_98 ?_
              refine lv_iload hx hb dX0_takeOut_99 (lv_at hl 8 rfl) ?_
              refine fg_iadd hx hb dX0_takeOut_101 ?_
              refine lv_lload hx hb dX0_takeOut_102 (lv_at hl 0 rfl) ?_
              refine fg_topl (y := lN (fg_op md (fg_PV S T v mk n) (fg_PV S T v (mk ||| 2 ^ v) n))) (by unfold fg_op; rw [if_pos hc2, Nat.max_eq_left (by omega)]) ?_
              refine sx_table hx hb hK hP hD hS (by omega) dX0_takeOut_104 (fun H locs hP hD hS => ?_)
              refine lv_iinc (v := nI (mk + 1)) (lv' := [(5, .int (nI (mk + 1))), (10, .long (lN (fg_PV S T v mk n))), (8, .long (lN (fg_PV S T v (mk ||| 2 ^ v) n))), (6, .long (lN (fg_PV S T v mk n))), (0, .ref (h 0)), (1, .int (nI v)), (2, .int (nI md)), (3, .int (nI ov)), (4, .int (nI n))]) hx hb dX0_takeOut_105 hl (k := 8) rfl (fg_inc _) (by decide) rfl (fun ls hl => ?_)
              refine lv_goto (tgt := 21) hx hb dX0_takeOut_108 (by decide) ?_
              refine ih (mk + 1) (by omega) (by omega) _ (fun j hj => ?_) (fun m hm z => ?_) _ _ hP hD hS ls (lv_sub hl [4, 5, 6, 7, 8, 0] rfl)
              · rw [pk_uLn (by omega)]
                exact h3 j hj
              · by_cases e : m = mk
                · subst e
                  rw [pk_uLs]
                · rw [pk_uLn (by omega)]
                  exact h4 m (by omega) z
  refine lv_aload_n hx hb dX0_takeOut_0 rfl (lv_at hl 0 rfl) ?_
  refine lv_iload_n hx hb dX0_takeOut_1 rfl (lv_at hl 1 rfl) ?_
  refine fg_cVi (a := h 0) (As := [.int (nI v)]) (rest := []) (ci := 0) (q := (RX0, TX0, 9)) ⟨hx, hb, hml, hown, hts⟩ (fg_X_neighbours (l := l) hv (show n ≤ 16 by omega) htok.1) (cwV 1 hts (lw_V q104 q106 qs6 q17 q107) rfl rfl rfl fg_md_X0_neighbours ⟨Nat.le_of_ble_eq_true rfl, Nat.le_of_ble_eq_true rfl⟩) rfl rfl hK hP hP hS hA rfl hl.1 rfl (Nat.le_of_ble_eq_true rfl) dX0_takeOut_2 ⟨Nat.zero_le _, Nat.zero_le _⟩ (fun r H locs hr1 hP hS => ?_)
  subst hr1
  refine lv_iconst (v := nI 1) hx hb dX0_takeOut_5 (by decide) ?_
  refine lv_iload_n hx hb dX0_takeOut_6 rfl (lv_at hl 1 rfl) ?_
  refine fg_ishl1 hv hx hb dX0_takeOut_7 ?_
  refine lv_iconst (v := -1) hx hb dX0_takeOut_8 (by decide) ?_
  refine lv_ixor hx hb dX0_takeOut_9 ?_
  refine lv_iand hx hb dX0_takeOut_10 ?_
  refine fg_top (y := nI ov) (by rw [hov]; exact fg_nclr _ hnb v hv) ?_
  refine lv_istore_n (lv' := [(3, .int (nI ov)), (0, .ref (h 0)), (1, .int (nI v)), (2, .int (nI md))]) hx hb dX0_takeOut_11 rfl hl (by decide) rfl (fun ls hl => ?_)
  refine lv_aload_n hx hb dX0_takeOut_12 rfl (lv_at hl 1 rfl) ?_
  refine gx_tables hx hb hts hown hK hP dX0_takeOut_13 ?_
  refine lv_istore (lv' := [(4, .int (nI n)), (3, .int (nI ov)), (0, .ref (h 0)), (1, .int (nI v)), (2, .int (nI md))]) hx hb dX0_takeOut_16 hl (by decide) rfl (fun ls hl => ?_)
  refine lv_iconst (v := nI 0) hx hb dX0_takeOut_18 (by decide) ?_
  refine lv_istore (lv' := [(5, .int (nI 0)), (4, .int (nI n)), (3, .int (nI ov)), (0, .ref (h 0)), (1, .int (nI v)), (2, .int (nI md))]) hx hb dX0_takeOut_19 hl (by decide) rfl (fun ls hl => ?_)
  exact loopA 129 0 (by omega) (by omega) ta (fun j _ => rfl) (fun m hm => absurd hm (by omega)) _ _ hP hD hS ls (lv_sub hl [3, 4, 5, 2, 1, 0] rfl)

set_option maxHeartbeats 4000000 in
set_option maxRecDepth 100000 in
/-- solve(mode) -/
theorem fg_X_solve {md : Nat} (hmd : md ≤ 2) (hI : fg_inv F ar va we gi) (hfi : ∀ v, v < 7 → fg_tri (fi v)) : fg_Ml l yX0_solve cX0_solve 6 fg_rm_X0_solve D [.ref (h 0), .int (nI md)] (fg_wX h dA dL (nI F) ar va we gi fi tb sc ta) (fg_tX dA dL) (fun (r : Int64) (_ : Int32 × (Nat → Int32) × (Nat → Int64)) => r = lN (fg_Q md F va we fi)) (fun u => fg_wX h dA dL (nI F) ar va we gi fi u.1 u.2.1 u.2.2) := by
  refine fg_Ml_of (own := RX0) (by decide) rfl (Nat.le_of_ble_eq_true rfl) ?_
  intro p e s m args below meth c ls A Q hC hP hK hD hl hA hS ret
  obtain ⟨hx, hb, hr, hts, hown, hlocks, hml⟩ := hC
  have hl : lv_has ls 6 [(0, .ref (h 0)), (1, .int (nI md))] := hl
  obtain ⟨hF, -⟩ := id hI
  generalize hV : fg_Q md F va we fi = V at ret
  have fin : ∀ (n : Nat) (S : Nat → Nat) (T : Nat → Nat → Nat) (sc : Nat → Int32) (ta : Nat → Int64), n ≤ 14 → fg_tok n S T sc ta → fg_mid md n 0 V S T → ∀ (H : Heap) (locs : List Loc), va_P D vwCl (fg_wX h dA dL (nI F) ar va we gi fi (nI n) sc ta) H → va_D A (fg_wX h dA dL (nI F) ar va we gi fi (nI n) sc ta) → va_S A s.heap H locs → ∀ (ls : Array Slot), lv_has ls 6 [(0, .ref (h 0))] → W p l e fg_rm_X0_solve s m args below meth c H locs 0 0 Q (F0 m 77 ls []) := by
    intro n S T sc ta hn htok hmid H locs hP hD hS ls hl
    have loop3 : ∀ (k t : Nat), t ≤ n → n < t + k → ∀ (ls : Array Slot), lv_has ls 6 [(0, .ref (h 0)), (3, .long (lN (fg_pf (fun t => if S t = 0 then T t 0 else 1) t))), (5, .int (nI t))] → W p l e fg_rm_X0_solve s m args below meth c H locs 0 0 Q (F0 m 82 ls []) := by
      intro k
      induction k with
      | zero => intro t h1 h2; exact absurd h2 (by omega)
      | succ k ih =>
        intro t ht hk ls hl
        refine lv_iload hx hb dX0_solve_82 (lv_at hl 2 rfl) ?_
        refine lv_aload_n hx hb dX0_solve_84 rfl (lv_at hl 0 rfl) ?_
        refine gx_tables hx hb hts hown hK hP dX0_solve_85 ?_
        refine fg_ige (tgt := 121) hx hb dX0_solve_88 (by decide) (by omega) (by omega) (fun hc => ?_) (fun hc => ?_)
        · have htn : t = n := by omega
          subst htn
          refine lv_lload_n hx hb dX0_solve_121 rfl (lv_at hl 1 rfl) ?_
          exact ret _ (nI t, sc, ta) _ _ _ _ dX0_solve_122 hS (by rw [fg_mid_end hmid]) hP hD
        · obtain ⟨hs1, hs2⟩ := htok.1 t hc
          refine lv_aload_n hx hb dX0_solve_91 rfl (lv_at hl 0 rfl) ?_
          refine gx_scope hx hb hts hown hK hP dX0_solve_92 ?_
          refine lv_iload hx hb dX0_solve_95 (lv_at hl 2 rfl) ?_
          refine lx_scope hx hb hK hP (by omega) dX0_solve_97 ?_
          refine fg_top (y := fg_en (S t)) hs2 ?_
          refine lv_if_ne (tgt := 115) hx hb dX0_solve_98 (by decide) (fun hc1 => ?_) (fun hc1 => ?_)
          · have en : fg_pf (fun t => if S t = 0 then T t 0 else 1) t = fg_pf (fun t => if S t = 0 then T t 0 else 1) (t + 1) := by
              show _ = fg_pf (fun t => if S t = 0 then T t 0 else 1) t * (if S t = 0 then T t 0 else 1)
              rw [if_neg (fun z => hc1 (fg_en_0.mpr z)), Nat.mul_one]
            rw [en] at hl
            refine lv_iinc (v := nI (t + 1)) (lv' := [(5, .int (nI (t + 1))), (0, .ref (h 0)), (3, .long (lN (fg_pf (fun t => if S t = 0 then T t 0 else 1) (t + 1))))]) hx hb dX0_solve_115 hl (k := 2) rfl (fg_inc _) (by decide) rfl (fun ls hl => ?_)
            refine lv_goto (tgt := 82) hx hb dX0_solve_118 (by decide) ?_
            exact ih (t + 1) (by omega) (by omega) ls (lv_sub hl [1, 2, 0] rfl)
          · have hz := fg_en_0.mp hc1
            have hta0 : ta (t * 128) = lN (T t 0) := htok.2 t hc (by omega) 0 (Nat.zero_and _)
            refine lv_lload_n hx hb dX0_solve_101 rfl (lv_at hl 1 rfl) ?_
            refine lv_aload_n hx hb dX0_solve_102 rfl (lv_at hl 0 rfl) ?_
            refine gx_table hx hb hts hown hK hP dX0_solve_103 ?_
            refine lv_iload hx hb dX0_solve_106 (lv_at hl 2 rfl) ?_
            refine lv_sipush (v := nI 128) hx hb dX0_solve_108 (by decide) ?_
            refine fg_imul hx hb dX0_solve_111 ?_
            refine lx_table hx hb hK hP (by omega) dX0_solve_112 ?_
            refine fg_topl (y := lN (T t 0)) hta0 ?_
            refine fg_lmul hx hb dX0_solve_113 ?_
            refine lv_lstore_n (lv' := [(3, .long (lN ((fg_pf (fun t => if S t = 0 then T t 0 else 1) t) * (T t 0)))), (0, .ref (h 0)), (5, .int (nI t))]) hx hb dX0_solve_114 rfl hl (by decide) rfl (fun ls hl => ?_)
            have en : (fg_pf (fun t => if S t = 0 then T t 0 else 1) t) * (T t 0) = fg_pf (fun t => if S t = 0 then T t 0 else 1) (t + 1) := by
              show _ = fg_pf (fun t => if S t = 0 then T t 0 else 1) t * (if S t = 0 then T t 0 else 1)
              rw [if_pos hz]
            rw [en] at hl
            refine lv_iinc (v := nI (t + 1)) (lv' := [(5, .int (nI (t + 1))), (3, .long (lN (fg_pf (fun t => if S t = 0 then T t 0 else 1) (t + 1)))), (0, .ref (h 0))]) hx hb dX0_solve_115 hl (k := 2) rfl (fg_inc _) (by decide) rfl (fun ls hl => ?_)
            refine lv_goto (tgt := 82) hx hb dX0_solve_118 (by decide) ?_
            exact ih (t + 1) (by omega) (by omega) ls (lv_sub hl [2, 1, 0] rfl)
    refine lv_lconst (v := lN 1) hx hb dX0_solve_77 rfl ?_
    refine lv_lstore_n (lv' := [(3, .long (lN 1)), (0, .ref (h 0))]) hx hb dX0_solve_78 rfl hl (by decide) rfl (fun ls hl => ?_)
    refine lv_iconst (v := nI 0) hx hb dX0_solve_79 (by decide) ?_
    refine lv_istore (lv' := [(5, .int (nI 0)), (3, .long (lN 1)), (0, .ref (h 0))]) hx hb dX0_solve_80 hl (by decide) rfl (fun ls hl => ?_)
    exact loop3 (n + 1) 0 (by omega) (by omega) ls (lv_sub hl [2, 1, 0] rfl)
  have loop2 : ∀ (k i lf n : Nat) (S : Nat → Nat) (T : Nat → Nat → Nat) (sc : Nat → Int32) (ta : Nat → Int64), i ≤ 7 → 7 < i + k → n = F + i → lf < 128 → fg_pc lf + i ≤ 7 → fg_tok n S T sc ta → fg_mid md n lf V S T → ∀ (H : Heap) (locs : List Loc), va_P D vwCl (fg_wX h dA dL (nI F) ar va we gi fi (nI n) sc ta) H → va_D A (fg_wX h dA dL (nI F) ar va we gi fi (nI n) sc ta) → va_S A s.heap H locs → ∀ (ls : Array Slot), lv_has ls 6 [(0, .ref (h 0)), (1, .int (nI md)), (2, .int (nI lf)), (3, .int (nI i))] → W p l e fg_rm_X0_solve s m args below meth c H locs 0 0 Q (F0 m 38 ls []) := by
    intro k
    induction k with
    | zero => intro i lf n S T sc ta h1 h2; exact absurd h2 (by omega)
    | succ k ih =>
      intro i lf n S T sc ta hi hk hn hlf hpc htok hmid H locs hP hD hS ls hl
      refine lv_iload_n hx hb dX0_solve_38 rfl (lv_at hl 3 rfl) ?_
      refine lv_bipush (v := nI 7) hx hb dX0_solve_39 (by decide) ?_
      refine fg_ige (tgt := 77) hx hb dX0_solve_41 (by decide) (by omega) (by omega) (fun hc => ?_) (fun hc => ?_)
      · have hl0 : lf = 0 := fg_pc_0 lf hlf (by omega)
        subst hl0
        exact fin n S T sc ta (by omega) htok hmid _ _ hP hD hS ls (lv_sub hl [0] rfl)
      · refine lv_iload_n hx hb dX0_solve_44 rfl (lv_at hl 2 rfl) ?_
        refine lv_if_eq (tgt := 77) hx hb dX0_solve_45 (by decide) (fun hc1 => ?_) (fun hc1 => ?_)
        · have hl0 : lf = 0 := (nI_eq (by omega) (by decide)).mp (hc1.trans nI_0.symm)
          subst hl0
          exact fin n S T sc ta (by omega) htok hmid _ _ hP hD hS ls (lv_sub hl [0] rfl)
        · have hl0 : lf ≠ 0 := fun z => hc1 (by rw [z]; exact nI_0)
          refine lv_aload_n hx hb dX0_solve_48 rfl (lv_at hl 0 rfl) ?_
          refine lv_iload_n hx hb dX0_solve_49 rfl (lv_at hl 2 rfl) ?_
          refine fg_cVi (a := h 0) (As := [.int (nI lf)]) (rest := []) (ci := 0) (q := (RX0, TX0, 9)) ⟨hx, hb, hml, hown, hts⟩ (fg_X_cheapest (l := l) hlf hl0 (show n ≤ 16 by omega) htok.1) (cwV 1 hts (lw_V q100 q102 qs5 q17 q103) rfl rfl rfl fg_md_X0_cheapest ⟨Nat.le_of_ble_eq_true rfl, Nat.le_of_ble_eq_true rfl⟩) rfl rfl hK hP hP hS hA rfl hl.1 rfl (Nat.le_of_ble_eq_true rfl) dX0_solve_50 ⟨Nat.zero_le _, Nat.zero_le _⟩ (fun r H locs hr1 hP hS => ?_)
          obtain ⟨v, hv, rfl, hvt⟩ := hr1
          refine lv_istore (lv' := [(4, .int (nI v)), (0, .ref (h 0)), (1, .int (nI md)), (2, .int (nI lf)), (3, .int (nI i))]) hx hb dX0_solve_53 hl (by decide) rfl (fun ls hl => ?_)
          refine lv_aload_n hx hb dX0_solve_55 rfl (lv_at hl 1 rfl) ?_
          refine lv_iload hx hb dX0_solve_56 (lv_at hl 0 rfl) ?_
          refine lv_iload_n hx hb dX0_solve_58 rfl (lv_at hl 2 rfl) ?_
          refine fg_wVv (a := h 0) (As := [.int (nI v), .int (nI md)]) (rest := []) (ci := 0) (q := (RX0, TX0, 9)) ⟨hx, hb, hml, hown, hts⟩ (fg_X_takeOut (l := l) hmd hv (show n ≤ 15 by omega) htok hmid.2.2) (cwV 2 hts (lw_V q111 q113 qs7 q17 q114) rfl rfl rfl fg_md_X0_takeOut ⟨Nat.le_of_ble_eq_true rfl, Nat.le_of_ble_eq_true rfl⟩) rfl rfl hK hP hD hS hA rfl hl.1 rfl (Nat.le_of_ble_eq_true rfl) dX0_solve_59 ⟨Nat.zero_le _, Nat.zero_le _⟩ (fun u H locs hu hP hD hS => ?_)
          obtain ⟨sc2, ta2⟩ := u
          have hpc2 := fg_pc_clr lf hlf v hv hvt
          refine lv_iload_n hx hb dX0_solve_62 rfl (lv_at hl 3 rfl) ?_
          refine lv_iconst (v := nI 1) hx hb dX0_solve_63 (by decide) ?_
          refine lv_iload hx hb dX0_solve_64 (lv_at hl 0 rfl) ?_
          refine fg_ishl1 hv hx hb dX0_solve_66 ?_
          refine lv_iconst (v := -1) hx hb dX0_solve_67 (by decide) ?_
          refine lv_ixor hx hb dX0_solve_68 ?_
          refine lv_iand hx hb dX0_solve_69 ?_
          refine fg_top (y := nI (fg_clr lf v)) (fg_nclr lf hlf v hv) ?_
          refine lv_istore_n (lv' := [(2, .int (nI (fg_clr lf v))), (4, .int (nI v)), (0, .ref (h 0)), (1, .int (nI md)), (3, .int (nI i))]) hx hb dX0_solve_70 rfl hl (by decide) rfl (fun ls hl => ?_)
          refine lv_iinc (v := nI (i + 1)) (lv' := [(3, .int (nI (i + 1))), (2, .int (nI (fg_clr lf v))), (4, .int (nI v)), (0, .ref (h 0)), (1, .int (nI md))]) hx hb dX0_solve_71 hl (k := 4) rfl (fg_inc _) (by decide) rfl (fun ls hl => ?_)
          refine lv_goto (tgt := 38) hx hb dX0_solve_74 (by decide) ?_
          exact ih (i + 1) (fg_clr lf v) (n + 1) _ _ sc2 ta2 (by omega) (by omega) (by omega) (fg_clr_lt lf hlf v hv) (by omega) hu (fg_mid_step hlf hv hvt hmid (fg_out_ok md n v S T)) _ _ hP hD hS ls (lv_sub hl [3, 4, 1, 0] rfl)
  refine lv_aload_n hx hb dX0_solve_0 rfl (lv_at hl 0 rfl) ?_
  refine lv_iload_n hx hb dX0_solve_1 rfl (lv_at hl 1 rfl) ?_
  refine fg_wVv (a := h 0) (As := [.int (nI md)]) (rest := []) (ci := 0) (q := (RX0, TX0, 9)) ⟨hx, hb, hml, hown, hts⟩ (fg_X_loadTables (l := l) hmd hI hfi) (cwV 1 hts (lw_V q88 q90 qs2 q17 q91) rfl rfl rfl fg_md_X0_loadTables ⟨Nat.le_of_ble_eq_true rfl, Nat.le_of_ble_eq_true rfl⟩) rfl rfl hK hP hD hS hA rfl hl.1 rfl (Nat.le_of_ble_eq_true rfl) dX0_solve_2 ⟨Nat.zero_le _, Nat.zero_le _⟩ (fun u H locs hu hP hD hS => ?_)
  obtain ⟨sc1, ta1⟩ := u
  have hP : va_P D vwCl (fg_wX h dA dL (nI F) ar va we gi fi (nI F) sc1 ta1) H := hP
  have hD : va_D A (fg_wX h dA dL (nI F) ar va we gi fi (nI F) sc1 ta1) := hD
  have loop1 : ∀ (k i : Nat), i ≤ 7 → 7 < i + k → ∀ (ls : Array Slot), lv_has ls 6 [(0, .ref (h 0)), (1, .int (nI md)), (2, .int (nI (fg_lf fi i))), (3, .int (nI i))] → W p l e fg_rm_X0_solve s m args below meth c H locs 0 0 Q (F0 m 9 ls []) := by
    intro k
    induction k with
    | zero => intro i h1 h2; exact absurd h2 (by omega)
    | succ k ih =>
      intro i hi hk ls hl
      refine lv_iload_n hx hb dX0_solve_9 rfl (lv_at hl 3 rfl) ?_
      refine lv_bipush (v := nI 7) hx hb dX0_solve_10 (by decide) ?_
      refine fg_ige (tgt := 36) hx hb dX0_solve_12 (by decide) (by omega) (by omega) (fun hc => ?_) (fun hc => ?_)
      · have hi7 : i = 7 := by omega
        subst hi7
        refine lv_iconst (v := nI 0) hx hb dX0_solve_36 (by decide) ?_
        refine lv_istore_n (lv' := [(3, .int (nI 0)), (0, .ref (h 0)), (1, .int (nI md)), (2, .int (nI (fg_lf fi 7)))]) hx hb dX0_solve_37 rfl hl (by decide) rfl (fun ls hl => ?_)
        exact loop2 8 0 (fg_lf fi 7) F _ _ sc1 ta1 (by omega) (by omega) (by omega) (fg_lf_lt fi (by omega)) (fg_pc_le _ (fg_lf_lt fi (by omega))) hu (hV ▸ fg_mid_0 hI hfi) _ _ hP hD hS ls (lv_sub hl [1, 2, 3, 0] rfl)
      · refine lv_aload_n hx hb dX0_solve_15 rfl (lv_at hl 0 rfl) ?_
        refine gx_fixed hx hb hts hown hK hP dX0_solve_16 ?_
        refine lv_iload_n hx hb dX0_solve_19 rfl (lv_at hl 3 rfl) ?_
        refine lx_fixed hx hb hK hP (by omega) dX0_solve_20 ?_
        refine lv_if_ge (tgt := 30) hx hb dX0_solve_21 (by decide) (fun hc1 => ?_) (fun hc1 => ?_)
        · have en : fg_lf fi i = fg_lf fi (i + 1) := by
            show _ = if fi i < 0 then fg_lf fi i ||| 2 ^ i else fg_lf fi i
            rw [if_neg (Int32.not_lt.mpr hc1)]
          rw [en] at hl
          refine lv_iinc (v := nI (i + 1)) (lv' := [(3, .int (nI (i + 1))), (0, .ref (h 0)), (1, .int (nI md)), (2, .int (nI (fg_lf fi (i + 1))))]) hx hb dX0_solve_30 hl (k := 3) rfl (fg_inc _) (by decide) rfl (fun ls hl => ?_)
          refine lv_goto (tgt := 9) hx hb dX0_solve_33 (by decide) ?_
          exact ih (i + 1) (by omega) (by omega) ls (lv_sub hl [1, 2, 3, 0] rfl)
        · refine lv_iload_n hx hb dX0_solve_24 rfl (lv_at hl 2 rfl) ?_
          refine lv_iconst (v := nI 1) hx hb dX0_solve_25 (by decide) ?_
          refine lv_iload_n hx hb dX0_solve_26 rfl (lv_at hl 3 rfl) ?_
          refine fg_ishl1 hc hx hb dX0_solve_27 ?_
          refine fg_ior hx hb dX0_solve_28 ?_
          refine lv_istore_n (lv' := [(2, .int (nI ((fg_lf fi i) ||| (2 ^ i)))), (0, .ref (h 0)), (1, .int (nI md)), (3, .int (nI i))]) hx hb dX0_solve_29 rfl hl (by decide) rfl (fun ls hl => ?_)
          have en : (fg_lf fi i) ||| (2 ^ i) = fg_lf fi (i + 1) := by
            show _ = if fi i < 0 then fg_lf fi i ||| 2 ^ i else fg_lf fi i
            rw [if_pos (Int32.not_le.mp hc1)]
          rw [en] at hl
          refine lv_iinc (v := nI (i + 1)) (lv' := [(3, .int (nI (i + 1))), (2, .int (nI (fg_lf fi (i + 1)))), (0, .ref (h 0)), (1, .int (nI md))]) hx hb dX0_solve_30 hl (k := 3) rfl (fg_inc _) (by decide) rfl (fun ls hl => ?_)
          refine lv_goto (tgt := 9) hx hb dX0_solve_33 (by decide) ?_
          exact ih (i + 1) (by omega) (by omega) ls (lv_sub hl [2, 3, 1, 0] rfl)
  refine lv_iconst (v := nI 0) hx hb dX0_solve_5 (by decide) ?_
  refine lv_istore_n (lv' := [(2, .int (nI 0)), (0, .ref (h 0)), (1, .int (nI md))]) hx hb dX0_solve_6 rfl hl (by decide) rfl (fun ls hl => ?_)
  refine lv_iconst (v := nI 0) hx hb dX0_solve_7 (by decide) ?_
  refine lv_istore_n (lv' := [(3, .int (nI 0)), (2, .int (nI 0)), (0, .ref (h 0)), (1, .int (nI md))]) hx hb dX0_solve_8 rfl hl (by decide) rfl (fun ls hl => ?_)
  exact loop1 8 0 (by omega) (by omega) ls (lv_sub hl [2, 3, 1, 0] rfl)

end FGX2
end
section
/-! WHAT THE QUESTIONS ANSWER, as functions of what is given -/
theorem fg_al_ext {fi gi : Nat → Int32} (h : ∀ v, v < 7 → fi v = gi v) (m : Nat) : fg_al fi m 7 = fg_al gi m 7 := by
  rw [Bool.eq_iff_iff, fg_al_iff, fg_al_iff]
  constructor
  · intro q v hv; rw [← h v hv]; exact q v hv
  · intro q v hv; rw [h v hv]; exact q v hv
theorem fg_wo_ext {F : Nat} {va we fi gi : Nat → Int32} (h : ∀ v, v < 7 → fi v = gi v) : fg_wo F va we fi = fg_wo F va we gi := by
  funext m
  unfold fg_wo
  rw [fg_al_ext h]
theorem fg_tri_ext {fi gi : Nat → Int32} (h : ∀ v, v < 7 → fi v = gi v) (hg : ∀ v, v < 7 → fg_tri (gi v)) : ∀ v, v < 7 → fg_tri (fi v) := by
  intro v hv
  rw [h v hv]
  exact hg v hv
theorem fg_s1_ext {F : Nat} {va we fi gi : Nat → Int32} (h : ∀ v, v < 7 → fi v = gi v) (v c : Nat) : fg_s1 F va we fi v c = fg_s1 F va we gi v c := by
  unfold fg_s1
  rw [fg_wo_ext h]
theorem fg_s2_ext {F : Nat} {va we fi gi : Nat → Int32} (h : ∀ v, v < 7 → fi v = gi v) (a x b y : Nat) : fg_s2 F va we fi a x b y = fg_s2 F va we gi a x b y := by
  unfold fg_s2
  rw [fg_wo_ext h]
abbrev fg_bad (x : Int32) : Prop := x < 0 ∨ 7 ≤ x
theorem fg_notbad {x : Int32} (h : ¬ fg_bad x) : ∃ j, j < 7 ∧ x = nI j := by
  rcases pk_ix x (n := 7) (by decide) with q | q | q
  · exact absurd (Or.inl q) h
  · exact absurd (Or.inr q) h
  · exact q
theorem fg_bad_n {j : Nat} (h : j < 7) : ¬ fg_bad (nI j) := by
  intro q
  rcases q with q | q
  · exact nI_pos (by omega) q
  · have := (nI_leI (a := 7) (b := j) (by decide) (by omega)).mp q
    omega
theorem fg_ite0 {P : Prop} [Decidable P] {r : Int32} (h : r = if P then 1 else 0) : r = 0 ↔ ¬ P := by
  by_cases q : P
  · rw [if_pos q] at h
    rw [h]
    exact ⟨fun z => absurd z (by decide), fun z => absurd q z⟩
  · rw [if_neg q] at h
    rw [h]
    exact ⟨fun _ => q, fun _ => rfl⟩
def fg_aTotal (F : Nat) (va we gi : Nat → Int32) : Nat := fg_sg 0 (fg_wo F va we gi) 128
def fg_aBest (F : Nat) (va we gi : Nat → Int32) : Nat := fg_sg 1 (fg_wo F va we gi) 128
def fg_aCount (F : Nat) (va we gi : Nat → Int32) : Nat := fg_sg 0 (fun m => if 0 < fg_wo F va we gi m then 1 else 0) 128
def fg_aShare (F : Nat) (va we gi : Nat → Int32) (x : Int32) : Int64 := if fg_bad x then lN 0 else lN (fg_s1 F va we gi x.toNatClampNeg 1)
def fg_aAlike (F : Nat) (va we gi : Nat → Int32) (x y : Int32) : Int64 := if fg_bad x ∨ fg_bad y then lN 0 else lN (fg_sg 0 (fun m => if fg_bt m x.toNatClampNeg = fg_bt m y.toNatClampNeg then fg_wo F va we gi m else 0) 128)
def fg_aInd (F : Nat) (va we gi : Nat → Int32) (x y : Int32) : Int32 := if fg_bad x ∨ fg_bad y then 1 else if lN (fg_aTotal F va we gi) * lN (fg_s2 F va we gi x.toNatClampNeg 1 y.toNatClampNeg 1) = lN (fg_s1 F va we gi x.toNatClampNeg 1) * lN (fg_s1 F va we gi y.toNatClampNeg 1) then 1 else 0
theorem fg_vl_m1 (m : Nat) : fg_vl (fun _ => -1) m = fg_bt m := by
  funext x
  show (if (-1 : Int32) < 0 then fg_bt m x else _) = fg_bt m x
  rw [if_pos (by decide)]
theorem fg_wo_le {F : Nat} {ar va we gi fi : Nat → Int32} (hI : fg_inv F ar va we gi) (m : Nat) : fg_wo F va we fi m ≤ 9 ^ 7 := by
  obtain ⟨hF, hf, hw, -⟩ := hI
  unfold fg_wo
  split
  · unfold fg_hh
    refine Nat.le_trans (fg_pf_le (g := fun _ => 9) (fun f hff => ?_)) ?_
    · have := (fg_wt_we (fi := fun _ => -1) (m := m) (show f < 7 by omega) (hf f hff) hw (fun v _ => Or.inl rfl)).2
      rw [fg_vl_m1] at this
      exact fg_wq_le this
    · rw [fg_pf_c]
      exact Nat.pow_le_pow_right (by decide) hF
  · exact Nat.zero_le _
theorem fg_best_le {F : Nat} {ar va we gi fi : Nat → Int32} (hI : fg_inv F ar va we gi) : fg_sg 1 (fg_wo F va we fi) 128 ≤ 9 ^ 7 := fg_sg_le (fun m _ => fg_wo_le hI m)
theorem fg_lN_eq {a b : Nat} (ha : a ≤ 9 ^ 7) (hb : b ≤ 9 ^ 7) : lN a = lN b ↔ a = b := pk_lEQ (Nat.lt_of_le_of_lt ha (by decide)) (Nat.lt_of_le_of_lt hb (by decide))
theorem fg_msk : ∀ M, M < 128 → ∀ k, k < 7 → (M / 2 ^ (k + 1) * 2 ^ (k + 1) ||| fg_bt M k * 2 ^ k) = M / 2 ^ k * 2 ^ k := by decide +kernel
theorem fg_msk7 : ∀ M, M < 128 → M / 2 ^ 7 * 2 ^ 7 = 0 := by decide +kernel
end
section
abbrev fg_rm_X0_fixAsGiven : Room := { frames := 0, cells := 0, slots := 0, locals := 0 }
theorem fg_md_X0_fixAsGiven : yX0_fixAsGiven.cls = RX0 ∧ yX0_fixAsGiven.cls ≠ "java/lang/invoke/MethodHandle" ∧ yX0_fixAsGiven.cls ≠ "java/lang/invoke/VarHandle" ∧ (parseMethodDescriptor yX0_fixAsGiven.desc).map (fun d => d.parameters.length) = some 0 := by decide +kernel
abbrev fg_rm_X0_sumWith : Room := { frames := 4, cells := 0, slots := 0, locals := 95 }
theorem fg_md_X0_sumWith : yX0_sumWith.cls = RX0 ∧ yX0_sumWith.cls ≠ "java/lang/invoke/MethodHandle" ∧ yX0_sumWith.cls ≠ "java/lang/invoke/VarHandle" ∧ (parseMethodDescriptor yX0_sumWith.desc).map (fun d => d.parameters.length) = some 2 := by decide +kernel
abbrev fg_rm_X0_sumWithBoth : Room := { frames := 5, cells := 0, slots := 0, locals := 120 }
theorem fg_md_X0_sumWithBoth : yX0_sumWithBoth.cls = RX0 ∧ yX0_sumWithBoth.cls ≠ "java/lang/invoke/MethodHandle" ∧ yX0_sumWithBoth.cls ≠ "java/lang/invoke/VarHandle" ∧ (parseMethodDescriptor yX0_sumWithBoth.desc).map (fun d => d.parameters.length) = some 4 := by decide +kernel
abbrev fg_rm_X0_total : Room := { frames := 4, cells := 0, slots := 0, locals := 95 }
theorem fg_md_X0_total : yX0_total.cls = RX0 ∧ yX0_total.cls ≠ "java/lang/invoke/MethodHandle" ∧ yX0_total.cls ≠ "java/lang/invoke/VarHandle" ∧ (parseMethodDescriptor yX0_total.desc).map (fun d => d.parameters.length) = some 0 := by decide +kernel
abbrev fg_rm_X0_share : Room := { frames := 5, cells := 0, slots := 0, locals := 120 }
theorem fg_md_X0_share : yX0_share.cls = RX0 ∧ yX0_share.cls ≠ "java/lang/invoke/MethodHandle" ∧ yX0_share.cls ≠ "java/lang/invoke/VarHandle" ∧ (parseMethodDescriptor yX0_share.desc).map (fun d => d.parameters.length) = some 1 := by decide +kernel
abbrev fg_rm_X0_alike : Room := { frames := 6, cells := 0, slots := 0, locals := 147 }
theorem fg_md_X0_alike : yX0_alike.cls = RX0 ∧ yX0_alike.cls ≠ "java/lang/invoke/MethodHandle" ∧ yX0_alike.cls ≠ "java/lang/invoke/VarHandle" ∧ (parseMethodDescriptor yX0_alike.desc).map (fun d => d.parameters.length) = some 2 := by decide +kernel
abbrev fg_rm_X0_best : Room := { frames := 4, cells := 0, slots := 0, locals := 95 }
theorem fg_md_X0_best : yX0_best.cls = RX0 ∧ yX0_best.cls ≠ "java/lang/invoke/MethodHandle" ∧ yX0_best.cls ≠ "java/lang/invoke/VarHandle" ∧ (parseMethodDescriptor yX0_best.desc).map (fun d => d.parameters.length) = some 0 := by decide +kernel
abbrev fg_rm_X0_bestAssignment : Room := { frames := 4, cells := 0, slots := 0, locals := 95 }
theorem fg_md_X0_bestAssignment : yX0_bestAssignment.cls = RX0 ∧ yX0_bestAssignment.cls ≠ "java/lang/invoke/MethodHandle" ∧ yX0_bestAssignment.cls ≠ "java/lang/invoke/VarHandle" ∧ (parseMethodDescriptor yX0_bestAssignment.desc).map (fun d => d.parameters.length) = some 0 := by decide +kernel
abbrev fg_rm_X0_possible : Room := { frames := 4, cells := 0, slots := 0, locals := 95 }
theorem fg_md_X0_possible : yX0_possible.cls = RX0 ∧ yX0_possible.cls ≠ "java/lang/invoke/MethodHandle" ∧ yX0_possible.cls ≠ "java/lang/invoke/VarHandle" ∧ (parseMethodDescriptor yX0_possible.desc).map (fun d => d.parameters.length) = some 0 := by decide +kernel
abbrev fg_rm_X0_independent : Room := { frames := 6, cells := 0, slots := 0, locals := 147 }
theorem fg_md_X0_independent : yX0_independent.cls = RX0 ∧ yX0_independent.cls ≠ "java/lang/invoke/MethodHandle" ∧ yX0_independent.cls ≠ "java/lang/invoke/VarHandle" ∧ (parseMethodDescriptor yX0_independent.desc).map (fun d => d.parameters.length) = some 2 := by decide +kernel
section FGX3
variable {l : Launch} {D : va_G} {h : Nat → Nat} {dA dL : ClassId} {F n : Nat} {fa : Int32} {ar va we gi fi : Nat → Int32} {tb : Int32} {sc : Nat → Int32} {ta : Nat → Int64} {S : Nat → Nat} {T : Nat → Nat → Nat}
set_option maxHeartbeats 4000000 in
set_option maxRecDepth 100000 in
/-- fixAsGiven -/
theorem fg_X_fixAsGiven : fg_Mv l yX0_fixAsGiven cX0_fixAsGiven 2 fg_rm_X0_fixAsGiven D [.ref (h 0)] (fg_wX h dA dL fa ar va we gi fi tb sc ta) (fg_tX dA dL) (fun u : Nat → Int32 => ∀ v, v < 7 → u v = gi v) (fun u => fg_wX h dA dL fa ar va we gi u tb sc ta) := by
  refine fg_Mv_of (own := RX0) (by decide) rfl (Nat.le_of_ble_eq_true rfl) ?_
  intro p e s m args below meth c ls A Q hC hP hK hD hl hA hS ret
  obtain ⟨hx, hb, hr, hts, hown, hlocks, hml⟩ := hC
  have hl : lv_has ls 2 [(0, .ref (h 0))] := hl
  have loop : ∀ (k i : Nat), i ≤ 7 → 7 < i + k → ∀ (fi1 : Nat → Int32), (∀ v, v < i → fi1 v = gi v) → ∀ (H : Heap) (locs : List Loc), va_P D vwCl (fg_wX h dA dL fa ar va we gi fi1 tb sc ta) H → va_D A (fg_wX h dA dL fa ar va we gi fi1 tb sc ta) → va_S A s.heap H locs → ∀ (ls : Array Slot), lv_has ls 2 [(0, .ref (h 0)), (1, .int (nI i))] → W p l e fg_rm_X0_fixAsGiven s m args below meth c H locs 0 0 Q (F0 m 2 ls []) := by
    intro k
    induction k with
    | zero => intro i h1 h2; exact absurd h2 (by omega)
    | succ k ih =>
      intro i hi hk fi1 hg H locs hP hD hS ls hl
      refine lv_iload_n hx hb dX0_fixAsGiven_2 rfl (lv_at hl 1 rfl) ?_
      refine lv_bipush (v := nI 7) hx hb dX0_fixAsGiven_3 (by decide) ?_
      refine fg_ige (tgt := 26) hx hb dX0_fixAsGiven_5 (by decide) (by omega) (by omega) (fun hc => ?_) (fun hc => ?_)
      · exact ret fi1 _ _ _ _ dX0_fixAsGiven_26 hS (fun v hv => hg v (by omega)) hP hD
      · refine lv_aload_n hx hb dX0_fixAsGiven_8 rfl (lv_at hl 0 rfl) ?_
        refine gx_fixed hx hb hts hown hK hP dX0_fixAsGiven_9 ?_
        refine lv_iload_n hx hb dX0_fixAsGiven_12 rfl (lv_at hl 1 rfl) ?_
        refine lv_aload_n hx hb dX0_fixAsGiven_13 rfl (lv_at hl 0 rfl) ?_
        refine gx_given hx hb hts hown hK hP dX0_fixAsGiven_14 ?_
        refine lv_iload_n hx hb dX0_fixAsGiven_17 rfl (lv_at hl 1 rfl) ?_
        refine lx_given hx hb hK hP hc dX0_fixAsGiven_18 ?_
        refine sx_fixed hx hb hK hP hD hS hc dX0_fixAsGiven_19 (fun H locs hP hD hS => ?_)
        refine lv_iinc (v := nI (i + 1)) (lv' := [(1, .int (nI (i + 1))), (0, .ref (h 0))]) hx hb dX0_fixAsGiven_20 hl (k := 1) rfl (fg_inc _) (by decide) rfl (fun ls hl => ?_)
        refine lv_goto (tgt := 2) hx hb dX0_fixAsGiven_23 (by decide) ?_
        refine ih (i + 1) (by omega) (by omega) _ (fun v hv => ?_) _ _ hP hD hS ls (lv_sub hl [1, 0] rfl)
        by_cases e : v = i
        · subst e; rw [pk_us]
        · rw [pk_un e]; exact hg v (by omega)
  refine lv_iconst (v := nI 0) hx hb dX0_fixAsGiven_0 (by decide) ?_
  refine lv_istore_n (lv' := [(1, .int (nI 0)), (0, .ref (h 0))]) hx hb dX0_fixAsGiven_1 rfl hl (by decide) rfl (fun ls hl => ?_)
  exact loop 8 0 (by omega) (by omega) fi (fun v hv => absurd hv (by omega)) _ _ hP hD hS ls (lv_sub hl [1, 0] rfl)

set_option maxHeartbeats 4000000 in
set_option maxRecDepth 100000 in
/-- sumWith(v, x) -/
theorem fg_X_sumWith {v x : Nat} (hv : v < 7) (hx1 : x ≤ 1) (hI : fg_inv F ar va we gi) (hfi : ∀ v, v < 7 → fg_tri (fi v)) : fg_Ml l yX0_sumWith cX0_sumWith 6 fg_rm_X0_sumWith D [.ref (h 0), .int (nI v), .int (nI x)] (fg_wX h dA dL (nI F) ar va we gi fi tb sc ta) (fg_tX dA dL) (fun (r : Int64) (_ : Int32 × (Nat → Int32) × (Nat → Int64)) => r = lN (fg_s1 F va we fi v x)) (fun u => fg_wX h dA dL (nI F) ar va we gi fi u.1 u.2.1 u.2.2) := by
  refine fg_Ml_of (own := RX0) (by decide) rfl (Nat.le_of_ble_eq_true rfl) ?_
  intro p e s m args below meth c ls A Q hC hP hK hD hl hA hS ret
  obtain ⟨hx, hb, hr, hts, hown, hlocks, hml⟩ := hC
  have hl : lv_has ls 6 [(0, .ref (h 0)), (1, .int (nI v)), (2, .int (nI x))] := hl
  have tail : (fi v < 0 ∨ fi v = nI x) → W p l e fg_rm_X0_sumWith s m args below meth c s.heap [] 0 0 Q (F0 m 21 ls []) := by
    intro hcx
    refine lv_aload_n hx hb dX0_sumWith_21 rfl (lv_at hl 0 rfl) ?_
    refine gx_fixed hx hb hts hown hK hP dX0_sumWith_22 ?_
    refine lv_iload_n hx hb dX0_sumWith_25 rfl (lv_at hl 1 rfl) ?_
    refine lx_fixed hx hb hK hP hv dX0_sumWith_26 ?_
    refine lv_istore_n (lv' := [(3, .int (fi v)), (0, .ref (h 0)), (1, .int (nI v)), (2, .int (nI x))]) hx hb dX0_sumWith_27 rfl hl (by decide) rfl (fun ls hl => ?_)
    refine lv_aload_n hx hb dX0_sumWith_28 rfl (lv_at hl 1 rfl) ?_
    refine gx_fixed hx hb hts hown hK hP dX0_sumWith_29 ?_
    refine lv_iload_n hx hb dX0_sumWith_32 rfl (lv_at hl 2 rfl) ?_
    refine lv_iload_n hx hb dX0_sumWith_33 rfl (lv_at hl 3 rfl) ?_
    refine sx_fixed hx hb hK hP hD hS hv dX0_sumWith_34 (fun H locs hP hD hS => ?_)
    refine lv_aload_n hx hb dX0_sumWith_35 rfl (lv_at hl 1 rfl) ?_
    refine lv_iconst (v := nI 0) hx hb dX0_sumWith_36 (by decide) ?_
    refine fg_wVl (a := h 0) (As := [.int (nI 0)]) (rest := []) (ci := 0) (q := (RX0, TX0, 9)) ⟨hx, hb, hml, hown, hts⟩ (fg_X_solve (l := l) (md := 0) (by decide) hI (fg_upd_tri hx1 hfi)) (cwV 1 hts (lw_V q84 q86 qs1 q17 q87) rfl rfl rfl fg_md_X0_solve ⟨Nat.le_of_ble_eq_true rfl, Nat.le_of_ble_eq_true rfl⟩) rfl rfl hK hP hD hS hA rfl hl.1 rfl (Nat.le_of_ble_eq_true rfl) dX0_sumWith_37 ⟨Nat.zero_le _, Nat.zero_le _⟩ (fun r u H locs hr1 hP hD hS => ?_)
    subst hr1
    obtain ⟨tb1, sc1, ta1⟩ := u
    have hP : va_P D vwCl (fg_wX h dA dL (nI F) ar va we gi (upd fi v (nI x)) tb1 sc1 ta1) H := hP
    have hD : va_D A (fg_wX h dA dL (nI F) ar va we gi (upd fi v (nI x)) tb1 sc1 ta1) := hD
    refine lv_lstore (lv' := [(4, .long (lN (fg_Q 0 F va we (upd fi v (nI x))))), (3, .int (fi v)), (0, .ref (h 0)), (1, .int (nI v)), (2, .int (nI x))]) hx hb dX0_sumWith_40 hl (by decide) rfl (fun ls hl => ?_)
    refine lv_aload_n hx hb dX0_sumWith_42 rfl (lv_at hl 2 rfl) ?_
    refine gx_fixed hx hb hts hown hK hP dX0_sumWith_43 ?_
    refine lv_iload_n hx hb dX0_sumWith_46 rfl (lv_at hl 3 rfl) ?_
    refine lv_iload_n hx hb dX0_sumWith_47 rfl (lv_at hl 1 rfl) ?_
    refine sx_fixed hx hb hK hP hD hS hv dX0_sumWith_48 (fun H locs hP hD hS => ?_)
    rw [fg_upd_back] at hP hD
    refine lv_lload hx hb dX0_sumWith_49 (lv_at hl 0 rfl) ?_
    exact ret _ (tb1, sc1, ta1) _ _ _ _ dX0_sumWith_51 hS (by rw [fg_s1_yes hI.2.1 hfi hv hx1 hcx]) hP hD
  refine lv_aload_n hx hb dX0_sumWith_0 rfl (lv_at hl 0 rfl) ?_
  refine gx_fixed hx hb hts hown hK hP dX0_sumWith_1 ?_
  refine lv_iload_n hx hb dX0_sumWith_4 rfl (lv_at hl 1 rfl) ?_
  refine lx_fixed hx hb hK hP hv dX0_sumWith_5 ?_
  refine lv_if_lt (tgt := 21) hx hb dX0_sumWith_6 (by decide) (fun hc => ?_) (fun hc => ?_)
  · exact tail (Or.inl hc)
  · refine lv_aload_n hx hb dX0_sumWith_9 rfl (lv_at hl 0 rfl) ?_
    refine gx_fixed hx hb hts hown hK hP dX0_sumWith_10 ?_
    refine lv_iload_n hx hb dX0_sumWith_13 rfl (lv_at hl 1 rfl) ?_
    refine lx_fixed hx hb hK hP hv dX0_sumWith_14 ?_
    refine lv_iload_n hx hb dX0_sumWith_15 rfl (lv_at hl 2 rfl) ?_
    refine lv_icmp_eq (tgt := 21) hx hb dX0_sumWith_16 (by decide) (fun hc2 => ?_) (fun hc2 => ?_)
    · exact tail (Or.inr hc2)
    · refine lv_lconst (v := lN 0) hx hb dX0_sumWith_19 rfl ?_
      exact ret _ (tb, sc, ta) _ _ _ _ dX0_sumWith_20 hS (by rw [fg_s1_no hv hc hc2]) hP hD

set_option maxHeartbeats 4000000 in
set_option maxRecDepth 100000 in
/-- sumWithBoth(v, x, v2, x2) -/
theorem fg_X_sumWithBoth {v x v2 x2 : Nat} (hv : v < 7) (hx1 : x ≤ 1) (hv2 : v2 < 7) (hx2 : x2 ≤ 1) (hI : fg_inv F ar va we gi) (hfi : ∀ v, v < 7 → fg_tri (fi v)) : fg_Ml l yX0_sumWithBoth cX0_sumWithBoth 8 fg_rm_X0_sumWithBoth D [.ref (h 0), .int (nI v), .int (nI x), .int (nI v2), .int (nI x2)] (fg_wX h dA dL (nI F) ar va we gi fi tb sc ta) (fg_tX dA dL) (fun (r : Int64) (_ : Int32 × (Nat → Int32) × (Nat → Int64)) => r = lN (fg_s2 F va we fi v x v2 x2)) (fun u => fg_wX h dA dL (nI F) ar va we gi fi u.1 u.2.1 u.2.2) := by
  refine fg_Ml_of (own := RX0) (by decide) rfl (Nat.le_of_ble_eq_true rfl) ?_
  intro p e s m args below meth c ls A Q hC hP hK hD hl hA hS ret
  obtain ⟨hx, hb, hr, hts, hown, hlocks, hml⟩ := hC
  have hl : lv_has ls 8 [(0, .ref (h 0)), (1, .int (nI v)), (2, .int (nI x)), (3, .int (nI v2)), (4, .int (nI x2))] := hl
  have tail : (fi v < 0 ∨ fi v = nI x) → W p l e fg_rm_X0_sumWithBoth s m args below meth c s.heap [] 0 0 Q (F0 m 21 ls []) := by
    intro hcx
    refine lv_aload_n hx hb dX0_sumWithBoth_21 rfl (lv_at hl 0 rfl) ?_
    refine gx_fixed hx hb hts hown hK hP dX0_sumWithBoth_22 ?_
    refine lv_iload_n hx hb dX0_sumWithBoth_25 rfl (lv_at hl 1 rfl) ?_
    refine lx_fixed hx hb hK hP hv dX0_sumWithBoth_26 ?_
    refine lv_istore (lv' := [(5, .int (fi v)), (0, .ref (h 0)), (1, .int (nI v)), (2, .int (nI x)), (3, .int (nI v2)), (4, .int (nI x2))]) hx hb dX0_sumWithBoth_27 hl (by decide) rfl (fun ls hl => ?_)
    refine lv_aload_n hx hb dX0_sumWithBoth_29 rfl (lv_at hl 1 rfl) ?_
    refine gx_fixed hx hb hts hown hK hP dX0_sumWithBoth_30 ?_
    refine lv_iload_n hx hb dX0_sumWithBoth_33 rfl (lv_at hl 2 rfl) ?_
    refine lv_iload_n hx hb dX0_sumWithBoth_34 rfl (lv_at hl 3 rfl) ?_
    refine sx_fixed hx hb hK hP hD hS hv dX0_sumWithBoth_35 (fun H locs hP hD hS => ?_)
    refine lv_aload_n hx hb dX0_sumWithBoth_36 rfl (lv_at hl 1 rfl) ?_
    refine lv_iload_n hx hb dX0_sumWithBoth_37 rfl (lv_at hl 4 rfl) ?_
    refine lv_iload hx hb dX0_sumWithBoth_38 (lv_at hl 5 rfl) ?_
    refine fg_wVl (a := h 0) (As := [.int (nI v2), .int (nI x2)]) (rest := []) (ci := 0) (q := (RX0, TX0, 9)) ⟨hx, hb, hml, hown, hts⟩ (fg_X_sumWith (l := l) hv2 hx2 hI (fg_upd_tri hx1 hfi)) (cwV 2 hts (lw_V q123 q125 qs9 q17 q126) rfl rfl rfl fg_md_X0_sumWith ⟨Nat.le_of_ble_eq_true rfl, Nat.le_of_ble_eq_true rfl⟩) rfl rfl hK hP hD hS hA rfl hl.1 rfl (Nat.le_of_ble_eq_true rfl) dX0_sumWithBoth_40 ⟨Nat.zero_le _, Nat.zero_le _⟩ (fun r u H locs hr1 hP hD hS => ?_)
    subst hr1
    obtain ⟨tb1, sc1, ta1⟩ := u
    have hP : va_P D vwCl (fg_wX h dA dL (nI F) ar va we gi (upd fi v (nI x)) tb1 sc1 ta1) H := hP
    have hD : va_D A (fg_wX h dA dL (nI F) ar va we gi (upd fi v (nI x)) tb1 sc1 ta1) := hD
    refine lv_lstore (lv' := [(6, .long (lN (fg_s1 F va we (upd fi v (nI x)) v2 x2))), (5, .int (fi v)), (0, .ref (h 0)), (1, .int (nI v)), (2, .int (nI x)), (3, .int (nI v2)), (4, .int (nI x2))]) hx hb dX0_sumWithBoth_43 hl (by decide) rfl (fun ls hl => ?_)
    refine lv_aload_n hx hb dX0_sumWithBoth_45 rfl (lv_at hl 2 rfl) ?_
    refine gx_fixed hx hb hts hown hK hP dX0_sumWithBoth_46 ?_
    refine lv_iload_n hx hb dX0_sumWithBoth_49 rfl (lv_at hl 3 rfl) ?_
    refine lv_iload hx hb dX0_sumWithBoth_50 (lv_at hl 1 rfl) ?_
    refine sx_fixed hx hb hK hP hD hS hv dX0_sumWithBoth_52 (fun H locs hP hD hS => ?_)
    rw [fg_upd_back] at hP hD
    refine lv_lload hx hb dX0_sumWithBoth_53 (lv_at hl 0 rfl) ?_
    exact ret _ (tb1, sc1, ta1) _ _ _ _ dX0_sumWithBoth_55 hS (by rw [fg_s2_yes hv hx1 hcx]) hP hD
  refine lv_aload_n hx hb dX0_sumWithBoth_0 rfl (lv_at hl 0 rfl) ?_
  refine gx_fixed hx hb hts hown hK hP dX0_sumWithBoth_1 ?_
  refine lv_iload_n hx hb dX0_sumWithBoth_4 rfl (lv_at hl 1 rfl) ?_
  refine lx_fixed hx hb hK hP hv dX0_sumWithBoth_5 ?_
  refine lv_if_lt (tgt := 21) hx hb dX0_sumWithBoth_6 (by decide) (fun hc => ?_) (fun hc => ?_)
  · exact tail (Or.inl hc)
  · refine lv_aload_n hx hb dX0_sumWithBoth_9 rfl (lv_at hl 0 rfl) ?_
    refine gx_fixed hx hb hts hown hK hP dX0_sumWithBoth_10 ?_
    refine lv_iload_n hx hb dX0_sumWithBoth_13 rfl (lv_at hl 1 rfl) ?_
    refine lx_fixed hx hb hK hP hv dX0_sumWithBoth_14 ?_
    refine lv_iload_n hx hb dX0_sumWithBoth_15 rfl (lv_at hl 2 rfl) ?_
    refine lv_icmp_eq (tgt := 21) hx hb dX0_sumWithBoth_16 (by decide) (fun hc2 => ?_) (fun hc2 => ?_)
    · exact tail (Or.inr hc2)
    · refine lv_lconst (v := lN 0) hx hb dX0_sumWithBoth_19 rfl ?_
      exact ret _ (tb, sc, ta) _ _ _ _ dX0_sumWithBoth_20 hS (by rw [fg_s2_no hv hc hc2]) hP hD

set_option maxHeartbeats 4000000 in
set_option maxRecDepth 100000 in
/-- total() -/
theorem fg_X_total (hI : fg_inv F ar va we gi) : fg_Ml l yX0_total cX0_total 1 fg_rm_X0_total D [.ref (h 0)] (fg_wX h dA dL (nI F) ar va we gi fi tb sc ta) (fg_tX dA dL) (fun (r : Int64) (_ : (Nat → Int32) × Int32 × (Nat → Int32) × (Nat → Int64)) => r = lN (fg_aTotal F va we gi)) (fun u => fg_wX h dA dL (nI F) ar va we gi u.1 u.2.1 u.2.2.1 u.2.2.2) := by
  refine fg_Ml_of (own := RX0) (by decide) rfl (Nat.le_of_ble_eq_true rfl) ?_
  intro p e s m args below meth c ls A Q hC hP hK hD hl hA hS ret
  obtain ⟨hx, hb, hr, hts, hown, hlocks, hml⟩ := hC
  have hl : lv_has ls 1 [(0, .ref (h 0))] := hl
  refine lv_aload_n hx hb dX0_total_0 rfl (lv_at hl 0 rfl) ?_
  refine fg_wVv (a := h 0) (As := []) (rest := []) (ci := 0) (q := (RX0, TX0, 9)) ⟨hx, hb, hml, hown, hts⟩ (fg_X_fixAsGiven (l := l)) (cwV 0 hts (lw_V q80 q82 qs0 q17 q83) rfl rfl rfl fg_md_X0_fixAsGiven ⟨Nat.le_of_ble_eq_true rfl, Nat.le_of_ble_eq_true rfl⟩) rfl rfl hK hP hD hS hA rfl hl.1 rfl (Nat.le_of_ble_eq_true rfl) dX0_total_1 ⟨Nat.zero_le _, Nat.zero_le _⟩ (fun fi1 H locs hfg hP hD hS => ?_)
  have hP : va_P D vwCl (fg_wX h dA dL (nI F) ar va we gi fi1 tb sc ta) H := hP
  have hD : va_D A (fg_wX h dA dL (nI F) ar va we gi fi1 tb sc ta) := hD
  have hfi1 := fg_tri_ext hfg hI.2.2.2
  refine lv_aload_n hx hb dX0_total_4 rfl (lv_at hl 0 rfl) ?_
  refine lv_iconst (v := nI 0) hx hb dX0_total_5 (by decide) ?_
  refine fg_wVl (a := h 0) (As := [.int (nI 0)]) (rest := []) (ci := 0) (q := (RX0, TX0, 9)) ⟨hx, hb, hml, hown, hts⟩ (fg_X_solve (l := l) (md := 0) (by decide) hI hfi1) (cwV 1 hts (lw_V q84 q86 qs1 q17 q87) rfl rfl rfl fg_md_X0_solve ⟨Nat.le_of_ble_eq_true rfl, Nat.le_of_ble_eq_true rfl⟩) rfl rfl hK hP hD hS hA rfl hl.1 rfl (Nat.le_of_ble_eq_true rfl) dX0_total_6 ⟨Nat.zero_le _, Nat.zero_le _⟩ (fun r u H locs hr1 hP hD hS => ?_)
  subst hr1
  obtain ⟨tb1, sc1, ta1⟩ := u
  have hP : va_P D vwCl (fg_wX h dA dL (nI F) ar va we gi fi1 tb1 sc1 ta1) H := hP
  have hD : va_D A (fg_wX h dA dL (nI F) ar va we gi fi1 tb1 sc1 ta1) := hD
  exact ret _ (fi1, tb1, sc1, ta1) _ _ _ _ dX0_total_9 hS (by rw [fg_Q_wo (by decide) hI.2.1 hfi1, fg_wo_ext hfg]; rfl) hP hD

set_option maxHeartbeats 4000000 in
set_option maxRecDepth 100000 in
/-- best() -/
theorem fg_X_best (hI : fg_inv F ar va we gi) : fg_Ml l yX0_best cX0_best 1 fg_rm_X0_best D [.ref (h 0)] (fg_wX h dA dL (nI F) ar va we gi fi tb sc ta) (fg_tX dA dL) (fun (r : Int64) (_ : (Nat → Int32) × Int32 × (Nat → Int32) × (Nat → Int64)) => r = lN (fg_aBest F va we gi)) (fun u => fg_wX h dA dL (nI F) ar va we gi u.1 u.2.1 u.2.2.1 u.2.2.2) := by
  refine fg_Ml_of (own := RX0) (by decide) rfl (Nat.le_of_ble_eq_true rfl) ?_
  intro p e s m args below meth c ls A Q hC hP hK hD hl hA hS ret
  obtain ⟨hx, hb, hr, hts, hown, hlocks, hml⟩ := hC
  have hl : lv_has ls 1 [(0, .ref (h 0))] := hl
  refine lv_aload_n hx hb dX0_best_0 rfl (lv_at hl 0 rfl) ?_
  refine fg_wVv (a := h 0) (As := []) (rest := []) (ci := 0) (q := (RX0, TX0, 9)) ⟨hx, hb, hml, hown, hts⟩ (fg_X_fixAsGiven (l := l)) (cwV 0 hts (lw_V q80 q82 qs0 q17 q83) rfl rfl rfl fg_md_X0_fixAsGiven ⟨Nat.le_of_ble_eq_true rfl, Nat.le_of_ble_eq_true rfl⟩) rfl rfl hK hP hD hS hA rfl hl.1 rfl (Nat.le_of_ble_eq_true rfl) dX0_best_1 ⟨Nat.zero_le _, Nat.zero_le _⟩ (fun fi1 H locs hfg hP hD hS => ?_)
  have hP : va_P D vwCl (fg_wX h dA dL (nI F) ar va we gi fi1 tb sc ta) H := hP
  have hD : va_D A (fg_wX h dA dL (nI F) ar va we gi fi1 tb sc ta) := hD
  have hfi1 := fg_tri_ext hfg hI.2.2.2
  refine lv_aload_n hx hb dX0_best_4 rfl (lv_at hl 0 rfl) ?_
  refine lv_iconst (v := nI 1) hx hb dX0_best_5 (by decide) ?_
  refine fg_wVl (a := h 0) (As := [.int (nI 1)]) (rest := []) (ci := 0) (q := (RX0, TX0, 9)) ⟨hx, hb, hml, hown, hts⟩ (fg_X_solve (l := l) (md := 1) (by decide) hI hfi1) (cwV 1 hts (lw_V q84 q86 qs1 q17 q87) rfl rfl rfl fg_md_X0_solve ⟨Nat.le_of_ble_eq_true rfl, Nat.le_of_ble_eq_true rfl⟩) rfl rfl hK hP hD hS hA rfl hl.1 rfl (Nat.le_of_ble_eq_true rfl) dX0_best_6 ⟨Nat.zero_le _, Nat.zero_le _⟩ (fun r u H locs hr1 hP hD hS => ?_)
  subst hr1
  obtain ⟨tb1, sc1, ta1⟩ := u
  have hP : va_P D vwCl (fg_wX h dA dL (nI F) ar va we gi fi1 tb1 sc1 ta1) H := hP
  have hD : va_D A (fg_wX h dA dL (nI F) ar va we gi fi1 tb1 sc1 ta1) := hD
  exact ret _ (fi1, tb1, sc1, ta1) _ _ _ _ dX0_best_9 hS (by rw [fg_Q_wo (by decide) hI.2.1 hfi1, fg_wo_ext hfg]; rfl) hP hD

set_option maxHeartbeats 4000000 in
set_option maxRecDepth 100000 in
/-- possible() -/
theorem fg_X_possible (hI : fg_inv F ar va we gi) : fg_Mi l yX0_possible cX0_possible 1 .int fg_rm_X0_possible D [.ref (h 0)] (fg_wX h dA dL (nI F) ar va we gi fi tb sc ta) (fg_tX dA dL) (fun (r : Int32) (_ : (Nat → Int32) × Int32 × (Nat → Int32) × (Nat → Int64)) => r = nI (fg_aCount F va we gi)) (fun u => fg_wX h dA dL (nI F) ar va we gi u.1 u.2.1 u.2.2.1 u.2.2.2) := by
  refine fg_Mi_of (own := RX0) (by decide) rfl (Nat.le_of_ble_eq_true rfl) (fun _ _ _ => rfl) ?_
  intro p e s m args below meth c ls A Q hC hP hK hD hl hA hS ret
  obtain ⟨hx, hb, hr, hts, hown, hlocks, hml⟩ := hC
  have hl : lv_has ls 1 [(0, .ref (h 0))] := hl
  refine lv_aload_n hx hb dX0_possible_0 rfl (lv_at hl 0 rfl) ?_
  refine fg_wVv (a := h 0) (As := []) (rest := []) (ci := 0) (q := (RX0, TX0, 9)) ⟨hx, hb, hml, hown, hts⟩ (fg_X_fixAsGiven (l := l)) (cwV 0 hts (lw_V q80 q82 qs0 q17 q83) rfl rfl rfl fg_md_X0_fixAsGiven ⟨Nat.le_of_ble_eq_true rfl, Nat.le_of_ble_eq_true rfl⟩) rfl rfl hK hP hD hS hA rfl hl.1 rfl (Nat.le_of_ble_eq_true rfl) dX0_possible_1 ⟨Nat.zero_le _, Nat.zero_le _⟩ (fun fi1 H locs hfg hP hD hS => ?_)
  have hP : va_P D vwCl (fg_wX h dA dL (nI F) ar va we gi fi1 tb sc ta) H := hP
  have hD : va_D A (fg_wX h dA dL (nI F) ar va we gi fi1 tb sc ta) := hD
  have hfi1 := fg_tri_ext hfg hI.2.2.2
  refine lv_aload_n hx hb dX0_possible_4 rfl (lv_at hl 0 rfl) ?_
  refine lv_iconst (v := nI 2) hx hb dX0_possible_5 (by decide) ?_
  refine fg_wVl (a := h 0) (As := [.int (nI 2)]) (rest := []) (ci := 0) (q := (RX0, TX0, 9)) ⟨hx, hb, hml, hown, hts⟩ (fg_X_solve (l := l) (md := 2) (by decide) hI hfi1) (cwV 1 hts (lw_V q84 q86 qs1 q17 q87) rfl rfl rfl fg_md_X0_solve ⟨Nat.le_of_ble_eq_true rfl, Nat.le_of_ble_eq_true rfl⟩) rfl rfl hK hP hD hS hA rfl hl.1 rfl (Nat.le_of_ble_eq_true rfl) dX0_possible_6 ⟨Nat.zero_le _, Nat.zero_le _⟩ (fun r u H locs hr1 hP hD hS => ?_)
  subst hr1
  obtain ⟨tb1, sc1, ta1⟩ := u
  have hP : va_P D vwCl (fg_wX h dA dL (nI F) ar va we gi fi1 tb1 sc1 ta1) H := hP
  have hD : va_D A (fg_wX h dA dL (nI F) ar va we gi fi1 tb1 sc1 ta1) := hD
  refine lv_l2i (v := nI (fg_Q 2 F va we fi1)) hx hb dX0_possible_9 (lN_i _) ?_
  exact ret _ (fi1, tb1, sc1, ta1) _ _ _ _ dX0_possible_10 hS (by rw [fg_Q_cnt hI.2.1 hfi1, fg_wo_ext hfg]; rfl) hP hD

set_option maxHeartbeats 4000000 in
set_option maxRecDepth 100000 in
/-- share(x) -/
theorem fg_X_share {x : Int32} (hI : fg_inv F ar va we gi) : fg_Ml l yX0_share cX0_share 2 fg_rm_X0_share D [.ref (h 0), .int x] (fg_wX h dA dL (nI F) ar va we gi fi tb sc ta) (fg_tX dA dL) (fun (r : Int64) (_ : (Nat → Int32) × Int32 × (Nat → Int32) × (Nat → Int64)) => r = fg_aShare F va we gi x) (fun u => fg_wX h dA dL (nI F) ar va we gi u.1 u.2.1 u.2.2.1 u.2.2.2) := by
  refine fg_Ml_of (own := RX0) (by decide) rfl (Nat.le_of_ble_eq_true rfl) ?_
  intro p e s m args below meth c ls A Q hC hP hK hD hl hA hS ret
  obtain ⟨hx, hb, hr, hts, hown, hlocks, hml⟩ := hC
  have hl : lv_has ls 2 [(0, .ref (h 0)), (1, .int x)] := hl
  refine lv_iload_n hx hb dX0_share_0 rfl (lv_at hl 1 rfl) ?_
  refine fg_cSi (As := [.int x]) (rest := []) ⟨hx, hb, hml, hown, hts⟩ (fg_X_bad (l := l) (x := x)) (va_cwS 1 hts (lw_S q61 q62 q17 q63) rfl rfl rfl fg_md_X0_bad ⟨Nat.le_of_ble_eq_true rfl, Nat.le_of_ble_eq_true rfl⟩) hK hP hS hA rfl hl.1 rfl (Nat.le_of_ble_eq_true rfl) dX0_share_1 ⟨Nat.zero_le _, Nat.zero_le _⟩ (fun r H locs hr1 hP hS => ?_)
  refine lv_if_eq (tgt := 9) hx hb dX0_share_4 (by decide) (fun hc => ?_) (fun hc => ?_)
  · obtain ⟨j, hj, rfl⟩ := fg_notbad ((fg_ite0 hr1).mp hc)
    refine lv_aload_n hx hb dX0_share_9 rfl (lv_at hl 0 rfl) ?_
    refine fg_wVv (a := h 0) (As := []) (rest := []) (ci := 0) (q := (RX0, TX0, 9)) ⟨hx, hb, hml, hown, hts⟩ (fg_X_fixAsGiven (l := l)) (cwV 0 hts (lw_V q80 q82 qs0 q17 q83) rfl rfl rfl fg_md_X0_fixAsGiven ⟨Nat.le_of_ble_eq_true rfl, Nat.le_of_ble_eq_true rfl⟩) rfl rfl hK hP hD hS hA rfl hl.1 rfl (Nat.le_of_ble_eq_true rfl) dX0_share_10 ⟨Nat.zero_le _, Nat.zero_le _⟩ (fun fi1 H locs hfg hP hD hS => ?_)
    have hP : va_P D vwCl (fg_wX h dA dL (nI F) ar va we gi fi1 tb sc ta) H := hP
    have hD : va_D A (fg_wX h dA dL (nI F) ar va we gi fi1 tb sc ta) := hD
    have hfi1 := fg_tri_ext hfg hI.2.2.2
    refine lv_aload_n hx hb dX0_share_13 rfl (lv_at hl 0 rfl) ?_
    refine lv_iload_n hx hb dX0_share_14 rfl (lv_at hl 1 rfl) ?_
    refine lv_iconst (v := nI 1) hx hb dX0_share_15 (by decide) ?_
    refine fg_wVl (a := h 0) (As := [.int (nI j), .int (nI 1)]) (rest := []) (ci := 0) (q := (RX0, TX0, 9)) ⟨hx, hb, hml, hown, hts⟩ (fg_X_sumWith (l := l) (x := 1) hj (by decide) hI hfi1) (cwV 2 hts (lw_V q123 q125 qs9 q17 q126) rfl rfl rfl fg_md_X0_sumWith ⟨Nat.le_of_ble_eq_true rfl, Nat.le_of_ble_eq_true rfl⟩) rfl rfl hK hP hD hS hA rfl hl.1 rfl (Nat.le_of_ble_eq_true rfl) dX0_share_16 ⟨Nat.zero_le _, Nat.zero_le _⟩ (fun r u H locs hr2 hP hD hS => ?_)
    subst hr2
    obtain ⟨tb1, sc1, ta1⟩ := u
    exact ret _ (fi1, tb1, sc1, ta1) _ _ _ _ dX0_share_19 hS (by unfold fg_aShare; rw [if_neg (fg_bad_n hj), nI_clamp (by omega), fg_s1_ext hfg]) hP hD
  · have hbd : fg_bad x := Decidable.byContradiction (fun z => hc ((fg_ite0 hr1).mpr z))
    refine lv_lconst (v := lN 0) hx hb dX0_share_7 rfl ?_
    exact ret _ (fi, tb, sc, ta) _ _ _ _ dX0_share_8 hS (by unfold fg_aShare; rw [if_pos hbd]) hP hD

set_option maxHeartbeats 4000000 in
set_option maxRecDepth 100000 in
/-- alike(x, y) -/
theorem fg_X_alike {x y : Int32} (hI : fg_inv F ar va we gi) : fg_Ml l yX0_alike cX0_alike 7 fg_rm_X0_alike D [.ref (h 0), .int x, .int y] (fg_wX h dA dL (nI F) ar va we gi fi tb sc ta) (fg_tX dA dL) (fun (r : Int64) (_ : (Nat → Int32) × Int32 × (Nat → Int32) × (Nat → Int64)) => r = fg_aAlike F va we gi x y) (fun u => fg_wX h dA dL (nI F) ar va we gi u.1 u.2.1 u.2.2.1 u.2.2.2) := by
  refine fg_Ml_of (own := RX0) (by decide) rfl (Nat.le_of_ble_eq_true rfl) ?_
  intro p e s m args below meth c ls A Q hC hP hK hD hl hA hS ret
  obtain ⟨hx, hb, hr, hts, hown, hlocks, hml⟩ := hC
  have hl : lv_has ls 7 [(0, .ref (h 0)), (1, .int x), (2, .int y)] := hl
  refine lv_iload_n hx hb dX0_alike_0 rfl (lv_at hl 1 rfl) ?_
  refine fg_cSi (As := [.int x]) (rest := []) ⟨hx, hb, hml, hown, hts⟩ (fg_X_bad (l := l) (x := x)) (va_cwS 1 hts (lw_S q61 q62 q17 q63) rfl rfl rfl fg_md_X0_bad ⟨Nat.le_of_ble_eq_true rfl, Nat.le_of_ble_eq_true rfl⟩) hK hP hS hA rfl hl.1 rfl (Nat.le_of_ble_eq_true rfl) dX0_alike_1 ⟨Nat.zero_le _, Nat.zero_le _⟩ (fun r1 H locs hr1 hP hS => ?_)
  refine lv_if_ne (tgt := 14) hx hb dX0_alike_4 (by decide) (fun hc => ?_) (fun hc => ?_)
  · have hbd : fg_bad x ∨ fg_bad y := Or.inl (Decidable.byContradiction (fun z => hc ((fg_ite0 hr1).mpr z)))
    refine lv_lconst (v := lN 0) hx hb dX0_alike_14 rfl ?_
    exact ret _ (fi, tb, sc, ta) _ _ _ _ dX0_alike_15 hS (by unfold fg_aAlike; rw [if_pos hbd]) hP hD
  · refine lv_iload_n hx hb dX0_alike_7 rfl (lv_at hl 2 rfl) ?_
    refine fg_cSi (As := [.int y]) (rest := []) ⟨hx, hb, hml, hown, hts⟩ (fg_X_bad (l := l) (x := y)) (va_cwS 1 hts (lw_S q61 q62 q17 q63) rfl rfl rfl fg_md_X0_bad ⟨Nat.le_of_ble_eq_true rfl, Nat.le_of_ble_eq_true rfl⟩) hK hP hS hA rfl hl.1 rfl (Nat.le_of_ble_eq_true rfl) dX0_alike_8 ⟨Nat.zero_le _, Nat.zero_le _⟩ (fun r2 H locs hr2 hP hS => ?_)
    refine lv_if_eq (tgt := 16) hx hb dX0_alike_11 (by decide) (fun hc2 => ?_) (fun hc2 => ?_)
    · obtain ⟨i, hi, rfl⟩ := fg_notbad ((fg_ite0 hr1).mp hc)
      obtain ⟨j, hj, rfl⟩ := fg_notbad ((fg_ite0 hr2).mp hc2)
      have hnb : ¬ (fg_bad (nI i) ∨ fg_bad (nI j)) := fun z => z.elim (fg_bad_n hi) (fg_bad_n hj)
      refine lv_aload_n hx hb dX0_alike_16 rfl (lv_at hl 0 rfl) ?_
      refine fg_wVv (a := h 0) (As := []) (rest := []) (ci := 0) (q := (RX0, TX0, 9)) ⟨hx, hb, hml, hown, hts⟩ (fg_X_fixAsGiven (l := l)) (cwV 0 hts (lw_V q80 q82 qs0 q17 q83) rfl rfl rfl fg_md_X0_fixAsGiven ⟨Nat.le_of_ble_eq_true rfl, Nat.le_of_ble_eq_true rfl⟩) rfl rfl hK hP hD hS hA rfl hl.1 rfl (Nat.le_of_ble_eq_true rfl) dX0_alike_17 ⟨Nat.zero_le _, Nat.zero_le _⟩ (fun fi1 H locs hfg hP hD hS => ?_)
      have hP : va_P D vwCl (fg_wX h dA dL (nI F) ar va we gi fi1 tb sc ta) H := hP
      have hD : va_D A (fg_wX h dA dL (nI F) ar va we gi fi1 tb sc ta) := hD
      have hfi1 := fg_tri_ext hfg hI.2.2.2
      refine lv_aload_n hx hb dX0_alike_20 rfl (lv_at hl 0 rfl) ?_
      refine lv_iload_n hx hb dX0_alike_21 rfl (lv_at hl 1 rfl) ?_
      refine lv_iconst (v := nI 0) hx hb dX0_alike_22 (by decide) ?_
      refine lv_iload_n hx hb dX0_alike_23 rfl (lv_at hl 2 rfl) ?_
      refine lv_iconst (v := nI 0) hx hb dX0_alike_24 (by decide) ?_
      refine fg_wVl (a := h 0) (As := [.int (nI i), .int (nI 0), .int (nI j), .int (nI 0)]) (rest := []) (ci := 0) (q := (RX0, TX0, 9)) ⟨hx, hb, hml, hown, hts⟩ (fg_X_sumWithBoth (l := l) (x := 0) (x2 := 0) hi (by decide) hj (by decide) hI hfi1) (cwV 4 hts (lw_V q131 q133 qs10 q17 q134) rfl rfl rfl fg_md_X0_sumWithBoth ⟨Nat.le_of_ble_eq_true rfl, Nat.le_of_ble_eq_true rfl⟩) rfl rfl hK hP hD hS hA rfl hl.1 rfl (Nat.le_of_ble_eq_true rfl) dX0_alike_25 ⟨Nat.zero_le _, Nat.zero_le _⟩ (fun r u H locs hr3 hP hD hS => ?_)
      subst hr3
      obtain ⟨tb1, sc1, ta1⟩ := u
      have hP : va_P D vwCl (fg_wX h dA dL (nI F) ar va we gi fi1 tb1 sc1 ta1) H := hP
      have hD : va_D A (fg_wX h dA dL (nI F) ar va we gi fi1 tb1 sc1 ta1) := hD
      refine lv_lstore_n (lv' := [(3, .long (lN (fg_s2 F va we fi1 i 0 j 0))), (0, .ref (h 0)), (1, .int (nI i)), (2, .int (nI j))]) hx hb dX0_alike_28 rfl hl (by decide) rfl (fun ls hl => ?_)
      refine lv_aload_n hx hb dX0_alike_29 rfl (lv_at hl 1 rfl) ?_
      refine lv_iload_n hx hb dX0_alike_30 rfl (lv_at hl 2 rfl) ?_
      refine lv_iconst (v := nI 1) hx hb dX0_alike_31 (by decide) ?_
      refine lv_iload_n hx hb dX0_alike_32 rfl (lv_at hl 3 rfl) ?_
      refine lv_iconst (v := nI 1) hx hb dX0_alike_33 (by decide) ?_
      refine fg_wVl (a := h 0) (As := [.int (nI i), .int (nI 1), .int (nI j), .int (nI 1)]) (rest := []) (ci := 0) (q := (RX0, TX0, 9)) ⟨hx, hb, hml, hown, hts⟩ (fg_X_sumWithBoth (l := l) (x := 1) (x2 := 1) hi (by decide) hj (by decide) hI hfi1) (cwV 4 hts (lw_V q131 q133 qs10 q17 q134) rfl rfl rfl fg_md_X0_sumWithBoth ⟨Nat.le_of_ble_eq_true rfl, Nat.le_of_ble_eq_true rfl⟩) rfl rfl hK hP hD hS hA rfl hl.1 rfl (Nat.le_of_ble_eq_true rfl) dX0_alike_34 ⟨Nat.zero_le _, Nat.zero_le _⟩ (fun r u H locs hr3 hP hD hS => ?_)
      subst hr3
      obtain ⟨tb2, sc2, ta2⟩ := u
      have hP : va_P D vwCl (fg_wX h dA dL (nI F) ar va we gi fi1 tb2 sc2 ta2) H := hP
      have hD : va_D A (fg_wX h dA dL (nI F) ar va we gi fi1 tb2 sc2 ta2) := hD
      refine lv_lstore (lv' := [(5, .long (lN (fg_s2 F va we fi1 i 1 j 1))), (3, .long (lN (fg_s2 F va we fi1 i 0 j 0))), (0, .ref (h 0)), (1, .int (nI i)), (2, .int (nI j))]) hx hb dX0_alike_37 hl (by decide) rfl (fun ls hl => ?_)
      refine lv_lload_n hx hb dX0_alike_39 rfl (lv_at hl 1 rfl) ?_
      refine lv_lload hx hb dX0_alike_40 (lv_at hl 0 rfl) ?_
      refine fg_ladd hx hb dX0_alike_42 ?_
      exact ret _ (fi1, tb2, sc2, ta2) _ _ _ _ dX0_alike_43 hS (by unfold fg_aAlike; rw [if_neg hnb, nI_clamp (by omega), nI_clamp (by omega), fg_s2_ext hfg, fg_s2_ext hfg, fg_s2_alike]) hP hD
    · have hbd : fg_bad x ∨ fg_bad y := Or.inr (Decidable.byContradiction (fun z => hc2 ((fg_ite0 hr2).mpr z)))
      refine lv_lconst (v := lN 0) hx hb dX0_alike_14 rfl ?_
      exact ret _ (fi, tb, sc, ta) _ _ _ _ dX0_alike_15 hS (by unfold fg_aAlike; rw [if_pos hbd]) hP hD

set_option maxHeartbeats 4000000 in
set_option maxRecDepth 100000 in
/-- independent(x, y) -/
theorem fg_X_independent {x y : Int32} (hI : fg_inv F ar va we gi) : fg_Mi l yX0_independent cX0_independent 11 .boolean fg_rm_X0_independent D [.ref (h 0), .int x, .int y] (fg_wX h dA dL (nI F) ar va we gi fi tb sc ta) (fg_tX dA dL) (fun (r : Int32) (_ : (Nat → Int32) × Int32 × (Nat → Int32) × (Nat → Int64)) => r = fg_aInd F va we gi x y) (fun u => fg_wX h dA dL (nI F) ar va we gi u.1 u.2.1 u.2.2.1 u.2.2.2) := by
  refine fg_Mi_of (own := RX0) (by decide) rfl (Nat.le_of_ble_eq_true rfl) (fun v u hv => by rw [hv]; unfold fg_aInd; split <;> first | rfl | (split <;> rfl)) ?_
  intro p e s m args below meth c ls A Q hC hP hK hD hl hA hS ret
  obtain ⟨hx, hb, hr, hts, hown, hlocks, hml⟩ := hC
  have hl : lv_has ls 11 [(0, .ref (h 0)), (1, .int x), (2, .int y)] := hl
  refine lv_iload_n hx hb dX0_independent_0 rfl (lv_at hl 1 rfl) ?_
  refine fg_cSi (As := [.int x]) (rest := []) ⟨hx, hb, hml, hown, hts⟩ (fg_X_bad (l := l) (x := x)) (va_cwS 1 hts (lw_S q61 q62 q17 q63) rfl rfl rfl fg_md_X0_bad ⟨Nat.le_of_ble_eq_true rfl, Nat.le_of_ble_eq_true rfl⟩) hK hP hS hA rfl hl.1 rfl (Nat.le_of_ble_eq_true rfl) dX0_independent_1 ⟨Nat.zero_le _, Nat.zero_le _⟩ (fun r1 H locs hr1 hP hS => ?_)
  refine lv_if_ne (tgt := 14) hx hb dX0_independent_4 (by decide) (fun hc => ?_) (fun hc => ?_)
  · have hbd : fg_bad x ∨ fg_bad y := Or.inl (Decidable.byContradiction (fun z => hc ((fg_ite0 hr1).mpr z)))
    refine lv_iconst (v := nI 1) hx hb dX0_independent_14 (by decide) ?_
    exact ret _ (fi, tb, sc, ta) _ _ _ _ dX0_independent_15 hS (by unfold fg_aInd; rw [if_pos hbd]; rfl) hP hD
  · refine lv_iload_n hx hb dX0_independent_7 rfl (lv_at hl 2 rfl) ?_
    refine fg_cSi (As := [.int y]) (rest := []) ⟨hx, hb, hml, hown, hts⟩ (fg_X_bad (l := l) (x := y)) (va_cwS 1 hts (lw_S q61 q62 q17 q63) rfl rfl rfl fg_md_X0_bad ⟨Nat.le_of_ble_eq_true rfl, Nat.le_of_ble_eq_true rfl⟩) hK hP hS hA rfl hl.1 rfl (Nat.le_of_ble_eq_true rfl) dX0_independent_8 ⟨Nat.zero_le _, Nat.zero_le _⟩ (fun r2 H locs hr2 hP hS => ?_)
    refine lv_if_eq (tgt := 16) hx hb dX0_independent_11 (by decide) (fun hc2 => ?_) (fun hc2 => ?_)
    · obtain ⟨i, hi, rfl⟩ := fg_notbad ((fg_ite0 hr1).mp hc)
      obtain ⟨j, hj, rfl⟩ := fg_notbad ((fg_ite0 hr2).mp hc2)
      have hnb : ¬ (fg_bad (nI i) ∨ fg_bad (nI j)) := fun z => z.elim (fg_bad_n hi) (fg_bad_n hj)
      refine lv_aload_n hx hb dX0_independent_16 rfl (lv_at hl 0 rfl) ?_
      refine fg_wVv (a := h 0) (As := []) (rest := []) (ci := 0) (q := (RX0, TX0, 9)) ⟨hx, hb, hml, hown, hts⟩ (fg_X_fixAsGiven (l := l)) (cwV 0 hts (lw_V q80 q82 qs0 q17 q83) rfl rfl rfl fg_md_X0_fixAsGiven ⟨Nat.le_of_ble_eq_true rfl, Nat.le_of_ble_eq_true rfl⟩) rfl rfl hK hP hD hS hA rfl hl.1 rfl (Nat.le_of_ble_eq_true rfl) dX0_independent_17 ⟨Nat.zero_le _, Nat.zero_le _⟩ (fun fi1 H locs hfg hP hD hS => ?_)
      have hP : va_P D vwCl (fg_wX h dA dL (nI F) ar va we gi fi1 tb sc ta) H := hP
      have hD : va_D A (fg_wX h dA dL (nI F) ar va we gi fi1 tb sc ta) := hD
      have hfi1 := fg_tri_ext hfg hI.2.2.2
      refine lv_aload_n hx hb dX0_independent_20 rfl (lv_at hl 0 rfl) ?_
      refine lv_iconst (v := nI 0) hx hb dX0_independent_21 (by decide) ?_
      refine fg_wVl (a := h 0) (As := [.int (nI 0)]) (rest := []) (ci := 0) (q := (RX0, TX0, 9)) ⟨hx, hb, hml, hown, hts⟩ (fg_X_solve (l := l) (md := 0) (by decide) hI hfi1) (cwV 1 hts (lw_V q84 q86 qs1 q17 q87) rfl rfl rfl fg_md_X0_solve ⟨Nat.le_of_ble_eq_true rfl, Nat.le_of_ble_eq_true rfl⟩) rfl rfl hK hP hD hS hA rfl hl.1 rfl (Nat.le_of_ble_eq_true rfl) dX0_independent_22 ⟨Nat.zero_le _, Nat.zero_le _⟩ (fun r u H locs hr1 hP hD hS => ?_)
      subst hr1
      obtain ⟨tb1, sc1, ta1⟩ := u
      have hP : va_P D vwCl (fg_wX h dA dL (nI F) ar va we gi fi1 tb1 sc1 ta1) H := hP
      have hD : va_D A (fg_wX h dA dL (nI F) ar va we gi fi1 tb1 sc1 ta1) := hD
      refine lv_lstore_n (lv' := [(3, .long (lN (fg_Q 0 F va we fi1))), (0, .ref (h 0)), (1, .int (nI i)), (2, .int (nI j))]) hx hb dX0_independent_25 rfl hl (by decide) rfl (fun ls hl => ?_)
      refine lv_aload_n hx hb dX0_independent_26 rfl (lv_at hl 1 rfl) ?_
      refine lv_iload_n hx hb dX0_independent_27 rfl (lv_at hl 2 rfl) ?_
      refine lv_iconst (v := nI 1) hx hb dX0_independent_28 (by decide) ?_
      refine lv_iload_n hx hb dX0_independent_29 rfl (lv_at hl 3 rfl) ?_
      refine lv_iconst (v := nI 1) hx hb dX0_independent_30 (by decide) ?_
      refine fg_wVl (a := h 0) (As := [.int (nI i), .int (nI 1), .int (nI j), .int (nI 1)]) (rest := []) (ci := 0) (q := (RX0, TX0, 9)) ⟨hx, hb, hml, hown, hts⟩ (fg_X_sumWithBoth (l := l) (x := 1) (x2 := 1) hi (by decide) hj (by decide) hI hfi1) (cwV 4 hts (lw_V q131 q133 qs10 q17 q134) rfl rfl rfl fg_md_X0_sumWithBoth ⟨Nat.le_of_ble_eq_true rfl, Nat.le_of_ble_eq_true rfl⟩) rfl rfl hK hP hD hS hA rfl hl.1 rfl (Nat.le_of_ble_eq_true rfl) dX0_independent_31 ⟨Nat.zero_le _, Nat.zero_le _⟩ (fun r u H locs hr3 hP hD hS => ?_)
      subst hr3
      obtain ⟨tb2, sc2, ta2⟩ := u
      have hP : va_P D vwCl (fg_wX h dA dL (nI F) ar va we gi fi1 tb2 sc2 ta2) H := hP
      have hD : va_D A (fg_wX h dA dL (nI F) ar va we gi fi1 tb2 sc2 ta2) := hD
      refine lv_lstore (lv' := [(5, .long (lN (fg_s2 F va we fi1 i 1 j 1))), (3, .long (lN (fg_Q 0 F va we fi1))), (0, .ref (h 0)), (1, .int (nI i)), (2, .int (nI j))]) hx hb dX0_independent_34 hl (by decide) rfl (fun ls hl => ?_)
      refine lv_aload_n hx hb dX0_independent_36 rfl (lv_at hl 2 rfl) ?_
      refine lv_iload_n hx hb dX0_independent_37 rfl (lv_at hl 3 rfl) ?_
      refine lv_iconst (v := nI 1) hx hb dX0_independent_38 (by decide) ?_
      refine fg_wVl (a := h 0) (As := [.int (nI i), .int (nI 1)]) (rest := []) (ci := 0) (q := (RX0, TX0, 9)) ⟨hx, hb, hml, hown, hts⟩ (fg_X_sumWith (l := l) (x := 1) hi (by decide) hI hfi1) (cwV 2 hts (lw_V q123 q125 qs9 q17 q126) rfl rfl rfl fg_md_X0_sumWith ⟨Nat.le_of_ble_eq_true rfl, Nat.le_of_ble_eq_true rfl⟩) rfl rfl hK hP hD hS hA rfl hl.1 rfl (Nat.le_of_ble_eq_true rfl) dX0_independent_39 ⟨Nat.zero_le _, Nat.zero_le _⟩ (fun r u H locs hr3 hP hD hS => ?_)
      subst hr3
      obtain ⟨tb3, sc3, ta3⟩ := u
      have hP : va_P D vwCl (fg_wX h dA dL (nI F) ar va we gi fi1 tb3 sc3 ta3) H := hP
      have hD : va_D A (fg_wX h dA dL (nI F) ar va we gi fi1 tb3 sc3 ta3) := hD
      refine lv_lstore (lv' := [(7, .long (lN (fg_s1 F va we fi1 i 1))), (5, .long (lN (fg_s2 F va we fi1 i 1 j 1))), (3, .long (lN (fg_Q 0 F va we fi1))), (0, .ref (h 0)), (1, .int (nI i)), (2, .int (nI j))]) hx hb dX0_independent_42 hl (by decide) rfl (fun ls hl => ?_)
      refine lv_aload_n hx hb dX0_independent_44 rfl (lv_at hl 3 rfl) ?_
      refine lv_iload_n hx hb dX0_independent_45 rfl (lv_at hl 5 rfl) ?_
      refine lv_iconst (v := nI 1) hx hb dX0_independent_46 (by decide) ?_
      refine fg_wVl (a := h 0) (As := [.int (nI j), .int (nI 1)]) (rest := []) (ci := 0) (q := (RX0, TX0, 9)) ⟨hx, hb, hml, hown, hts⟩ (fg_X_sumWith (l := l) (x := 1) hj (by decide) hI hfi1) (cwV 2 hts (lw_V q123 q125 qs9 q17 q126) rfl rfl rfl fg_md_X0_sumWith ⟨Nat.le_of_ble_eq_true rfl, Nat.le_of_ble_eq_true rfl⟩) rfl rfl hK hP hD hS hA rfl hl.1 rfl (Nat.le_of_ble_eq_true rfl) dX0_independent_47 ⟨Nat.zero_le _, Nat.zero_le _⟩ (fun r u H locs hr3 hP hD hS => ?_)
      subst hr3
      obtain ⟨tb4, sc4, ta4⟩ := u
      have hP : va_P D vwCl (fg_wX h dA dL (nI F) ar va we gi fi1 tb4 sc4 ta4) H := hP
      have hD : va_D A (fg_wX h dA dL (nI F) ar va we gi fi1 tb4 sc4 ta4) := hD
      refine lv_lstore (lv' := [(9, .long (lN (fg_s1 F va we fi1 j 1))), (7, .long (lN (fg_s1 F va we fi1 i 1))), (5, .long (lN (fg_s2 F va we fi1 i 1 j 1))), (3, .long (lN (fg_Q 0 F va we fi1))), (0, .ref (h 0)), (1, .int (nI i)), (2, .int (nI j))]) hx hb dX0_independent_50 hl (by decide) rfl (fun ls hl => ?_)
      refine lv_lload_n hx hb dX0_independent_52 rfl (lv_at hl 3 rfl) ?_
      refine lv_lload hx hb dX0_independent_53 (lv_at hl 2 rfl) ?_
      refine lv_lmul hx hb dX0_independent_55 ?_
      refine lv_lload hx hb dX0_independent_56 (lv_at hl 1 rfl) ?_
      refine lv_lload hx hb dX0_independent_58 (lv_at hl 0 rfl) ?_
      refine lv_lmul hx hb dX0_independent_60 ?_
      refine W.lcmp hx hb dX0_independent_61 ?_
      have hq : fg_Q 0 F va we fi1 = fg_aTotal F va we gi := by rw [fg_Q_wo (by decide) hI.2.1 hfi1, fg_wo_ext hfg]; rfl
      have heq := lg_cmp_eq (lN (fg_Q 0 F va we fi1) * lN (fg_s2 F va we fi1 i 1 j 1)) (lN (fg_s1 F va we fi1 i 1) * lN (fg_s1 F va we fi1 j 1))
      rw [hq, fg_s2_ext hfg, fg_s1_ext hfg, fg_s1_ext hfg] at heq
      refine lv_if_ne (tgt := 69) hx hb dX0_independent_62 (by decide) (fun hc3 => ?_) (fun hc3 => ?_)
      · rw [hq, fg_s2_ext hfg, fg_s1_ext hfg, fg_s1_ext hfg] at hc3
        refine lv_iconst (v := nI 0) hx hb dX0_independent_69 (by decide) ?_
        exact ret _ (fi1, tb4, sc4, ta4) _ _ _ _ dX0_independent_70 hS (by unfold fg_aInd; rw [if_neg hnb, nI_clamp (by omega), nI_clamp (by omega), if_neg (fun z => hc3 (heq.mpr z))]; rfl) hP hD
      · rw [hq, fg_s2_ext hfg, fg_s1_ext hfg, fg_s1_ext hfg] at hc3
        refine lv_iconst (v := nI 1) hx hb dX0_independent_65 (by decide) ?_
        refine lv_goto (tgt := 70) hx hb dX0_independent_66 (by decide) ?_
        exact ret _ (fi1, tb4, sc4, ta4) _ _ _ _ dX0_independent_70 hS (by unfold fg_aInd; rw [if_neg hnb, nI_clamp (by omega), nI_clamp (by omega), if_pos (heq.mp hc3)]; rfl) hP hD
    · have hbd : fg_bad x ∨ fg_bad y := Or.inr (Decidable.byContradiction (fun z => hc2 ((fg_ite0 hr2).mpr z)))
      refine lv_iconst (v := nI 1) hx hb dX0_independent_14 (by decide) ?_
      exact ret _ (fi, tb, sc, ta) _ _ _ _ dX0_independent_15 hS (by unfold fg_aInd; rw [if_pos hbd]; rfl) hP hD

set_option maxHeartbeats 4000000 in
set_option maxRecDepth 100000 in
/-- bestAssignment() -/
theorem fg_X_bestAssignment (hI : fg_inv F ar va we gi) : fg_Mi l yX0_bestAssignment cX0_bestAssignment 7 .int fg_rm_X0_bestAssignment D [.ref (h 0)] (fg_wX h dA dL (nI F) ar va we gi fi tb sc ta) (fg_tX dA dL) (fun (r : Int32) (_ : (Nat → Int32) × Int32 × (Nat → Int32) × (Nat → Int64)) => ∃ M, fg_ba F va we gi M ∧ r = nI M) (fun u => fg_wX h dA dL (nI F) ar va we gi u.1 u.2.1 u.2.2.1 u.2.2.2) := by
  refine fg_Mi_of (own := RX0) (by decide) rfl (Nat.le_of_ble_eq_true rfl) (fun _ _ _ => rfl) ?_
  intro p e s m args below meth c ls A Q hC hP hK hD hl hA hS ret
  obtain ⟨hx, hb, hr, hts, hown, hlocks, hml⟩ := hC
  have hl : lv_has ls 7 [(0, .ref (h 0))] := hl
  obtain ⟨M, hM⟩ := fg_ba_ex (F := F) (va := va) (we := we) (gi := gi) hI.2.2.2
  have hal := (fg_al_iff gi M 7).mp hM.2.1
  have hM128 := hM.1
  have loop : ∀ (k : Nat), k ≤ 7 → ∀ (fi1 : Nat → Int32) (tb1 : Int32) (sc1 : Nat → Int32) (ta1 : Nat → Int64), (∀ u, u < 7 → fi1 u = if u < k then gi u else nI (fg_bt M u)) → ∀ (H : Heap) (locs : List Loc), va_P D vwCl (fg_wX h dA dL (nI F) ar va we gi fi1 tb1 sc1 ta1) H → va_D A (fg_wX h dA dL (nI F) ar va we gi fi1 tb1 sc1 ta1) → va_S A s.heap H locs → ∀ (ls : Array Slot), lv_has ls 7 [(0, .ref (h 0)), (1, .long (lN (fg_sg 1 (fg_wo F va we gi) 128))), (3, .int (nI (M / 2 ^ k * 2 ^ k))), (4, .int (nI k + Int32.ofInt (-1)))] → W p l e fg_rm_X0_bestAssignment s m args below meth c H locs 0 0 Q (F0 m 16 ls []) := by
    intro k
    induction k with
    | zero =>
      intro hk fi1 tb1 sc1 ta1 hfi1 H locs hP hD hS ls hl
      refine lv_iload hx hb dX0_bestAssignment_16 (lv_at hl 3 rfl) ?_
      refine lv_if_lt (tgt := 80) hx hb dX0_bestAssignment_18 (by decide) (fun hc => ?_) (fun hc => ?_)
      · refine lv_iload_n hx hb dX0_bestAssignment_80 rfl (lv_at hl 2 rfl) ?_
        exact ret _ (fi1, tb1, sc1, ta1) _ _ _ _ dX0_bestAssignment_81 hS ⟨M, hM, by rw [Nat.pow_zero, Nat.div_one, Nat.mul_one]⟩ hP hD
      · exact absurd (by decide) hc
    | succ k ih =>
      intro hk fi1 tb1 sc1 ta1 hfi1 H locs hP hD hS ls hl
      rw [fg_dec] at hl
      have hk7 : k < 7 := by omega
      have tail : ∀ (fi2 : Nat → Int32) (tb2 : Int32) (sc2 : Nat → Int32) (ta2 : Nat → Int64), fi2 k = nI (fg_bt M k) → (∀ u, u ≠ k → fi2 u = fi1 u) → ∀ (H : Heap) (locs : List Loc), va_P D vwCl (fg_wX h dA dL (nI F) ar va we gi fi2 tb2 sc2 ta2) H → va_D A (fg_wX h dA dL (nI F) ar va we gi fi2 tb2 sc2 ta2) → va_S A s.heap H locs → ∀ (ls : Array Slot), lv_has ls 7 [(0, .ref (h 0)), (1, .long (lN (fg_sg 1 (fg_wo F va we gi) 128))), (3, .int (nI (M / 2 ^ (k + 1) * 2 ^ (k + 1)))), (4, .int (nI k))] → W p l e fg_rm_X0_bestAssignment s m args below meth c H locs 0 0 Q (F0 m 61 ls []) := by
        intro fi2 tb2 sc2 ta2 hk1 hk2 H locs hP hD hS ls hl
        have hb1 := fg_bt_le M k
        have hb2 : fg_bt M k * 2 ^ k < 2 ^ 32 := by
          have h2 : (2 : Nat) ^ k ≤ 2 ^ 7 := Nat.pow_le_pow_right (by decide) (by omega)
          exact Nat.lt_of_le_of_lt (Nat.mul_le_mul hb1 h2) (by decide)
        refine lv_iload_n hx hb dX0_bestAssignment_61 rfl (lv_at hl 2 rfl) ?_
        refine lv_aload_n hx hb dX0_bestAssignment_62 rfl (lv_at hl 0 rfl) ?_
        refine gx_fixed hx hb hts hown hK hP dX0_bestAssignment_63 ?_
        refine lv_iload hx hb dX0_bestAssignment_66 (lv_at hl 3 rfl) ?_
        refine lx_fixed hx hb hK hP hk7 dX0_bestAssignment_68 ?_
        refine fg_top (y := nI (fg_bt M k)) hk1 ?_
        refine lv_iload hx hb dX0_bestAssignment_69 (lv_at hl 3 rfl) ?_
        refine fg_ishl (by omega) hb2 hx hb dX0_bestAssignment_71 ?_
        refine fg_ior hx hb dX0_bestAssignment_72 ?_
        refine fg_top (y := nI (M / 2 ^ k * 2 ^ k)) (congrArg nI (fg_msk M hM128 k hk7)) ?_
        refine lv_istore_n (lv' := [(3, .int (nI (M / 2 ^ k * 2 ^ k))), (0, .ref (h 0)), (1, .long (lN (fg_sg 1 (fg_wo F va we gi) 128))), (4, .int (nI k))]) hx hb dX0_bestAssignment_73 rfl hl (by decide) rfl (fun ls hl => ?_)
        refine lv_iinc (v := nI k + Int32.ofInt (-1)) (lv' := [(4, .int (nI k + Int32.ofInt (-1))), (3, .int (nI (M / 2 ^ k * 2 ^ k))), (0, .ref (h 0)), (1, .long (lN (fg_sg 1 (fg_wo F va we gi) 128)))]) hx hb dX0_bestAssignment_74 hl (k := 3) rfl rfl (by decide) rfl (fun ls hl => ?_)
        refine lv_goto (tgt := 16) hx hb dX0_bestAssignment_77 (by decide) ?_
        refine ih (by omega) fi2 tb2 sc2 ta2 (fun u hu => ?_) _ _ hP hD hS ls (lv_sub hl [2, 3, 1, 0] rfl)
        by_cases e : u = k
        · subst e
          rw [if_neg (by omega)]
          exact hk1
        · rw [hk2 u e, hfi1 u hu]
          by_cases e2 : u < k
          · rw [if_pos e2, if_pos (by omega)]
          · rw [if_neg e2, if_neg (by omega)]
      have hfk : fi1 k = gi k := by rw [hfi1 k hk7, if_pos (by omega)]
      refine lv_iload hx hb dX0_bestAssignment_16 (lv_at hl 3 rfl) ?_
      refine lv_if_lt (tgt := 80) hx hb dX0_bestAssignment_18 (by decide) (fun hc => ?_) (fun hc => ?_)
      · exact absurd hc (nI_pos (by omega))
      · refine lv_aload_n hx hb dX0_bestAssignment_21 rfl (lv_at hl 0 rfl) ?_
        refine gx_fixed hx hb hts hown hK hP dX0_bestAssignment_22 ?_
        refine lv_iload hx hb dX0_bestAssignment_25 (lv_at hl 3 rfl) ?_
        refine lx_fixed hx hb hK hP hk7 dX0_bestAssignment_27 ?_
        refine lv_if_ge (tgt := 61) hx hb dX0_bestAssignment_28 (by decide) (fun hc2 => ?_) (fun hc2 => ?_)
        · refine tail fi1 tb1 sc1 ta1 ?_ (fun u _ => rfl) _ _ hP hD hS ls (lv_sub hl [0, 1, 2, 3] rfl)
          rcases hal k hk7 with z | z
          · rw [hfk] at hc2
            exact absurd z (Int32.not_lt.mpr hc2)
          · rw [hfk]; exact z
        · have hgk : gi k < 0 := by rw [← hfk]; exact Int32.not_le.mp hc2
          have hge : ∀ u, u < 7 → fi1 u = if u ≤ k then gi u else nI (fg_bt M u) := by
            intro u hu
            rw [hfi1 u hu]
            by_cases z : u < k + 1
            · rw [if_pos z, if_pos (by omega)]
            · rw [if_neg z, if_neg (by omega)]
          have hgr := fg_greedy (fi := fi1) hI.2.1 hI.2.2.2 hM hk7 hgk hge
          have htri1 : ∀ u, u < 7 → fg_tri (fi1 u) := by
            intro u hu
            rw [hfi1 u hu]
            split
            · exact hI.2.2.2 u hu
            · have := fg_bt_le M u
              rcases (show fg_bt M u = 0 ∨ fg_bt M u = 1 by omega) with q | q
              · rw [q]; exact Or.inr (Or.inl rfl)
              · rw [q]; exact Or.inr (Or.inr rfl)
          have htri : ∀ v, v < 7 → fg_tri (upd fi1 k (nI 0) v) := fg_upd_tri (by decide) htri1
          refine lv_aload_n hx hb dX0_bestAssignment_31 rfl (lv_at hl 0 rfl) ?_
          refine gx_fixed hx hb hts hown hK hP dX0_bestAssignment_32 ?_
          refine lv_iload hx hb dX0_bestAssignment_35 (lv_at hl 3 rfl) ?_
          refine lv_iconst (v := nI 0) hx hb dX0_bestAssignment_37 (by decide) ?_
          refine sx_fixed hx hb hK hP hD hS hk7 dX0_bestAssignment_38 (fun H locs hP hD hS => ?_)
          refine lv_aload_n hx hb dX0_bestAssignment_39 rfl (lv_at hl 0 rfl) ?_
          refine lv_iconst (v := nI 1) hx hb dX0_bestAssignment_40 (by decide) ?_
          refine fg_wVl (a := h 0) (As := [.int (nI 1)]) (rest := []) (ci := 0) (q := (RX0, TX0, 9)) ⟨hx, hb, hml, hown, hts⟩ (fg_X_solve (l := l) (md := 1) (by decide) hI htri) (cwV 1 hts (lw_V q84 q86 qs1 q17 q87) rfl rfl rfl fg_md_X0_solve ⟨Nat.le_of_ble_eq_true rfl, Nat.le_of_ble_eq_true rfl⟩) rfl rfl hK hP hD hS hA rfl hl.1 rfl (Nat.le_of_ble_eq_true rfl) dX0_bestAssignment_41 ⟨Nat.zero_le _, Nat.zero_le _⟩ (fun r u H locs hr1 hP hD hS => ?_)
          subst hr1
          obtain ⟨tb2, sc2, ta2⟩ := u
          have hP : va_P D vwCl (fg_wX h dA dL (nI F) ar va we gi (upd fi1 k (nI 0)) tb2 sc2 ta2) H := hP
          have hD : va_D A (fg_wX h dA dL (nI F) ar va we gi (upd fi1 k (nI 0)) tb2 sc2 ta2) := hD
          have hq9 : fg_Q 1 F va we (upd fi1 k (nI 0)) ≤ 9 ^ 7 := by rw [fg_Q_wo (by decide) hI.2.1 htri]; exact fg_best_le hI
          have hb9 : fg_sg 1 (fg_wo F va we gi) 128 ≤ 9 ^ 7 := fg_best_le hI
          refine lv_lstore (lv' := [(5, .long (lN (fg_Q 1 F va we (upd fi1 k (nI 0))))), (0, .ref (h 0)), (1, .long (lN (fg_sg 1 (fg_wo F va we gi) 128))), (3, .int (nI (M / 2 ^ (k + 1) * 2 ^ (k + 1)))), (4, .int (nI k))]) hx hb dX0_bestAssignment_44 hl (by decide) rfl (fun ls hl => ?_)
          refine lv_lload hx hb dX0_bestAssignment_46 (lv_at hl 0 rfl) ?_
          refine lv_lload_n hx hb dX0_bestAssignment_48 rfl (lv_at hl 2 rfl) ?_
          refine W.lcmp hx hb dX0_bestAssignment_49 ?_
          refine lv_if_eq (tgt := 61) hx hb dX0_bestAssignment_50 (by decide) (fun hc3 => ?_) (fun hc3 => ?_)
          · have hb0 := hgr.mp ((fg_lN_eq hq9 hb9).mp ((lg_cmp_eq _ _).mp hc3))
            exact tail _ tb2 sc2 ta2 (by rw [pk_us, hb0]) (fun u hu => pk_un hu) _ _ hP hD hS ls (lv_sub hl [1, 2, 3, 4] rfl)
          · have hb0 : fg_bt M k = 1 := by
              have h1 := fg_bt_le M k
              have h2 : ¬ fg_bt M k = 0 := fun z => hc3 ((lg_cmp_eq _ _).mpr ((fg_lN_eq hq9 hb9).mpr (hgr.mpr z)))
              omega
            refine lv_aload_n hx hb dX0_bestAssignment_53 rfl (lv_at hl 1 rfl) ?_
            refine gx_fixed hx hb hts hown hK hP dX0_bestAssignment_54 ?_
            refine lv_iload hx hb dX0_bestAssignment_57 (lv_at hl 4 rfl) ?_
            refine lv_iconst (v := nI 1) hx hb dX0_bestAssignment_59 (by decide) ?_
            refine sx_fixed hx hb hK hP hD hS hk7 dX0_bestAssignment_60 (fun H locs hP hD hS => ?_)
            exact tail _ tb2 sc2 ta2 (by rw [pk_us, hb0]) (fun u hu => by rw [pk_un hu, pk_un hu]) _ _ hP hD hS ls (lv_sub hl [1, 2, 3, 4] rfl)
  refine lv_aload_n hx hb dX0_bestAssignment_0 rfl (lv_at hl 0 rfl) ?_
  refine fg_wVv (a := h 0) (As := []) (rest := []) (ci := 0) (q := (RX0, TX0, 9)) ⟨hx, hb, hml, hown, hts⟩ (fg_X_fixAsGiven (l := l)) (cwV 0 hts (lw_V q80 q82 qs0 q17 q83) rfl rfl rfl fg_md_X0_fixAsGiven ⟨Nat.le_of_ble_eq_true rfl, Nat.le_of_ble_eq_true rfl⟩) rfl rfl hK hP hD hS hA rfl hl.1 rfl (Nat.le_of_ble_eq_true rfl) dX0_bestAssignment_1 ⟨Nat.zero_le _, Nat.zero_le _⟩ (fun fi1 H locs hfg hP hD hS => ?_)
  have hP : va_P D vwCl (fg_wX h dA dL (nI F) ar va we gi fi1 tb sc ta) H := hP
  have hD : va_D A (fg_wX h dA dL (nI F) ar va we gi fi1 tb sc ta) := hD
  have hfi1 := fg_tri_ext hfg hI.2.2.2
  refine lv_aload_n hx hb dX0_bestAssignment_4 rfl (lv_at hl 0 rfl) ?_
  refine lv_iconst (v := nI 1) hx hb dX0_bestAssignment_5 (by decide) ?_
  refine fg_wVl (a := h 0) (As := [.int (nI 1)]) (rest := []) (ci := 0) (q := (RX0, TX0, 9)) ⟨hx, hb, hml, hown, hts⟩ (fg_X_solve (l := l) (md := 1) (by decide) hI hfi1) (cwV 1 hts (lw_V q84 q86 qs1 q17 q87) rfl rfl rfl fg_md_X0_solve ⟨Nat.le_of_ble_eq_true rfl, Nat.le_of_ble_eq_true rfl⟩) rfl rfl hK hP hD hS hA rfl hl.1 rfl (Nat.le_of_ble_eq_true rfl) dX0_bestAssignment_6 ⟨Nat.zero_le _, Nat.zero_le _⟩ (fun r u H locs hr1 hP hD hS => ?_)
  subst hr1
  obtain ⟨tb1, sc1, ta1⟩ := u
  have hP : va_P D vwCl (fg_wX h dA dL (nI F) ar va we gi fi1 tb1 sc1 ta1) H := hP
  have hD : va_D A (fg_wX h dA dL (nI F) ar va we gi fi1 tb1 sc1 ta1) := hD
  refine fg_topl (y := lN (fg_sg 1 (fg_wo F va we gi) 128)) (by rw [fg_Q_wo (by decide) hI.2.1 hfi1, fg_wo_ext hfg]) ?_
  refine lv_lstore_n (lv' := [(1, .long (lN (fg_sg 1 (fg_wo F va we gi) 128))), (0, .ref (h 0))]) hx hb dX0_bestAssignment_9 rfl hl (by decide) rfl (fun ls hl => ?_)
  refine lv_iconst (v := nI 0) hx hb dX0_bestAssignment_10 (by decide) ?_
  refine fg_top (y := nI (M / 2 ^ 7 * 2 ^ 7)) (congrArg nI (fg_msk7 M hM128).symm) ?_
  refine lv_istore_n (lv' := [(3, .int (nI (M / 2 ^ 7 * 2 ^ 7))), (1, .long (lN (fg_sg 1 (fg_wo F va we gi) 128))), (0, .ref (h 0))]) hx hb dX0_bestAssignment_11 rfl hl (by decide) rfl (fun ls hl => ?_)
  refine lv_bipush (v := nI 6) hx hb dX0_bestAssignment_12 (by decide) ?_
  refine fg_top (y := nI 7 + Int32.ofInt (-1)) (by decide) ?_
  refine lv_istore (lv' := [(4, .int (nI 7 + Int32.ofInt (-1))), (3, .int (nI (M / 2 ^ 7 * 2 ^ 7))), (1, .long (lN (fg_sg 1 (fg_wo F va we gi) 128))), (0, .ref (h 0))]) hx hb dX0_bestAssignment_14 hl (by decide) rfl (fun ls hl => ?_)
  exact loop 7 (by omega) fi1 tb1 sc1 ta1 (fun u hu => by rw [if_pos hu]; exact hfg u hu) _ _ hP hD hS ls (lv_sub hl [3, 2, 1, 0] rfl)

end FGX3
end
section
/-! factor, weight, evidence, drop: what they answer and leave -/
theorem fg_m1_of {y : Int32} (h1 : ¬ y < -1) (h2 : y < 0) : y = -1 := by
  apply Int32.toInt_inj.mp
  have e1 : (-1 : Int32).toInt = -1 := by decide
  have e0 : (0 : Int32).toInt = 0 := by decide
  rw [Int32.lt_iff_toInt_lt] at h1 h2
  omega
theorem fg_in7 {x : Int32} (h0 : ¬ x < 0) (h7 : ¬ 7 ≤ x) : ∃ j, j < 7 ∧ x = nI j := fg_notbad (fun z => z.elim h0 h7)
theorem fg_le6 {x : Int32} : x ≤ nI 6 ↔ ¬ 7 ≤ x := by
  have e6 : (nI 6).toInt = 6 := by decide
  have e7 : (7 : Int32).toInt = 7 := by decide
  rw [Int32.le_iff_toInt_le, Int32.le_iff_toInt_le]
  omega
theorem fg_lt6 {x : Int32} : nI 6 < x ↔ 7 ≤ x := by
  have e6 : (nI 6).toInt = 6 := by decide
  have e7 : (7 : Int32).toInt = 7 := by decide
  rw [Int32.le_iff_toInt_le, Int32.lt_iff_toInt_lt]
  omega
def fg_3 (y z : Int32) : Int32 := if y < 0 then -1 else z
abbrev fg_fbad (x y z : Int32) : Prop := fg_bad x ∨ y < -1 ∨ 7 ≤ y ∨ y = x ∨ fg_3 y z < -1 ∨ 7 ≤ fg_3 y z ∨ (0 ≤ fg_3 y z ∧ (fg_3 y z = x ∨ fg_3 y z = y))
def fg_fr (F : Nat) (x y z : Int32) : Int32 := if fg_fbad x y z then -1 else if F = 7 then -4 else nI F
def fg_fF (F : Nat) (x y z : Int32) : Nat := if fg_fbad x y z ∨ F = 7 then F else F + 1
def fg_ak (y z : Int32) : Int32 := if y < 0 then nI 1 else if fg_3 y z < 0 then nI 2 else nI 3
def fg_fA (F : Nat) (ar : Nat → Int32) (x y z : Int32) : Nat → Int32 := if fg_fbad x y z ∨ F = 7 then ar else upd ar F (fg_ak y z)
def fg_fV (F : Nat) (va : Nat → Int32) (x y z : Int32) : Nat → Int32 := if fg_fbad x y z ∨ F = 7 then va else upd (upd (upd va (F * 3) x) (F * 3 + 1) y) (F * 3 + 2) (fg_3 y z)
def fg_w8 (we : Nat → Int32) (F i : Nat) : Nat → Int32 := fun j => if F * 8 ≤ j ∧ j < F * 8 + i then nI 1 else we j
def fg_fW (F : Nat) (we : Nat → Int32) (x y z : Int32) : Nat → Int32 := if fg_fbad x y z ∨ F = 7 then we else fg_w8 we F 8
theorem fg_w8_0 (we : Nat → Int32) (F : Nat) : fg_w8 we F 0 = we := by
  funext j
  unfold fg_w8
  rw [if_neg (by omega)]
theorem fg_w8_s (we : Nat → Int32) (F i : Nat) : upd (fg_w8 we F i) (F * 8 + i) (nI 1) = fg_w8 we F (i + 1) := by
  funext j
  by_cases e : j = F * 8 + i
  · subst e
    rw [pk_us]
    unfold fg_w8
    rw [if_pos (by omega)]
  · rw [pk_un e]
    unfold fg_w8
    by_cases q : F * 8 ≤ j ∧ j < F * 8 + i
    · rw [if_pos q, if_pos (by omega)]
    · rw [if_neg q, if_neg (by omega)]
theorem fg_f_same {F : Nat} {ar va we : Nat → Int32} {x y z : Int32} (h : fg_fbad x y z ∨ F = 7) : fg_fF F x y z = F ∧ fg_fA F ar x y z = ar ∧ fg_fV F va x y z = va ∧ fg_fW F we x y z = we := ⟨if_pos h, if_pos h, if_pos h, if_pos h⟩
theorem fg_f_new {F : Nat} {ar va we : Nat → Int32} {x y z : Int32} (h : ¬ (fg_fbad x y z ∨ F = 7)) : fg_fF F x y z = F + 1 ∧ fg_fA F ar x y z = upd ar F (fg_ak y z) ∧ fg_fV F va x y z = upd (upd (upd va (F * 3) x) (F * 3 + 1) y) (F * 3 + 2) (fg_3 y z) ∧ fg_fW F we x y z = fg_w8 we F 8 := ⟨if_neg h, if_neg h, if_neg h, if_neg h⟩
theorem fg_f_bad {F : Nat} {x y z : Int32} (h : fg_fbad x y z) : fg_fr F x y z = -1 := if_pos h
theorem fg_f_full {F : Nat} {x y z : Int32} (h : ¬ fg_fbad x y z) (h7 : F = 7) : fg_fr F x y z = -4 := by
  unfold fg_fr
  rw [if_neg h, if_pos h7]
theorem fg_f_ok {F : Nat} {x y z : Int32} (h : ¬ fg_fbad x y z) (h7 : ¬ F = 7) : fg_fr F x y z = nI F := by
  unfold fg_fr
  rw [if_neg h, if_neg h7]
theorem fg_inv_factor {F : Nat} {ar va we gi : Nat → Int32} {x y z : Int32} (hI : fg_inv F ar va we gi) : fg_inv (fg_fF F x y z) (fg_fA F ar x y z) (fg_fV F va x y z) (fg_fW F we x y z) gi := by
  by_cases h : fg_fbad x y z ∨ F = 7
  · obtain ⟨e1, e2, e3, e4⟩ := fg_f_same (ar := ar) (va := va) (we := we) h
    rw [e1, e2, e3, e4]
    exact hI
  · obtain ⟨e1, e2, e3, e4⟩ := fg_f_new (ar := ar) (va := va) (we := we) h
    rw [e1, e2, e3, e4]
    obtain ⟨hF, hf, hw, hg⟩ := hI
    refine ⟨by omega, fun f hff => ?_, fun k hk => ?_, hg⟩
    · by_cases e : f = F
      · subst e
        have hnb : ¬ fg_fbad x y z := fun q => h (Or.inl q)
        simp only [fg_fbad, not_or] at hnb
        obtain ⟨n1, n2, n3, n4, n5, n6, n7⟩ := hnb
        have v0 : upd (upd (upd va (f * 3) x) (f * 3 + 1) y) (f * 3 + 2) (fg_3 y z) (f * 3 + 0) = x := by rw [pk_un (by omega), pk_un (by omega), Nat.add_zero, pk_us]
        have v1 : upd (upd (upd va (f * 3) x) (f * 3 + 1) y) (f * 3 + 2) (fg_3 y z) (f * 3 + 1) = y := by rw [pk_un (by omega), pk_us]
        have v2 : upd (upd (upd va (f * 3) x) (f * 3 + 1) y) (f * 3 + 2) (fg_3 y z) (f * 3 + 2) = fg_3 y z := pk_us
        obtain ⟨j0, hj0, ex⟩ := fg_notbad (fun q => q.elim n1.1 n1.2)
        by_cases hy : y < 0
        · refine ⟨1, by omega, by omega, by rw [pk_us]; unfold fg_ak; rw [if_pos hy], fun i hi => ⟨fun q => ?_, fun q => ?_⟩⟩
          · have : i = 0 := by omega
            subst this
            exact ⟨j0, hj0, v0.trans ex⟩
          · rcases (show i = 1 ∨ i = 2 by omega) with q1 | q1
            · subst q1; rw [v1]; exact fg_m1_of n2 hy
            · subst q1; rw [v2]; unfold fg_3; rw [if_pos hy]
        · obtain ⟨j1, hj1, ey⟩ := fg_in7 hy n3
          by_cases hz : fg_3 y z < 0
          · refine ⟨2, by omega, by omega, by rw [pk_us]; unfold fg_ak; rw [if_neg hy, if_pos hz], fun i hi => ⟨fun q => ?_, fun q => ?_⟩⟩
            · rcases (show i = 0 ∨ i = 1 by omega) with q1 | q1
              · subst q1; exact ⟨j0, hj0, v0.trans ex⟩
              · subst q1; exact ⟨j1, hj1, v1.trans ey⟩
            · have : i = 2 := by omega
              subst this
              rw [v2]; exact fg_m1_of n5 hz
          · obtain ⟨j2, hj2, ez⟩ := fg_in7 hz n6
            refine ⟨3, by omega, by omega, by rw [pk_us]; unfold fg_ak; rw [if_neg hy, if_neg hz], fun i hi => ⟨fun q => ?_, fun q => by omega⟩⟩
            rcases (show i = 0 ∨ i = 1 ∨ i = 2 by omega) with q1 | q1 | q1
            · subst q1; exact ⟨j0, hj0, v0.trans ex⟩
            · subst q1; exact ⟨j1, hj1, v1.trans ey⟩
            · subst q1; exact ⟨j2, hj2, v2.trans ez⟩
      · obtain ⟨k, h1, h2, h3, h4⟩ := hf f (by omega)
        refine ⟨k, h1, h2, by rw [pk_un e]; exact h3, fun i hi => ?_⟩
        rw [pk_un (by omega), pk_un (by omega), pk_un (by omega)]
        exact h4 i hi
    · unfold fg_w8
      split
      · exact ⟨1, by omega, rfl⟩
      · exact hw k hk
def fg_ww (va : Nat → Int32) (f : Nat) : Nat := if va (f * 3 + 1) < 0 then 2 else if va (f * 3 + 2) < 0 then 4 else 8
theorem fg_ww_ar {ar va : Nat → Int32} {f : Nat} (h : fg_fok ar va f) : ∃ a, a ≤ 3 ∧ ar f = nI a ∧ 2 ^ a = fg_ww va f := by
  obtain ⟨k, h1, h2, h3, h4⟩ := h
  refine ⟨k, h2, h3, ?_⟩
  unfold fg_ww
  rcases (show k = 1 ∨ k = 2 ∨ k = 3 by omega) with q | q | q
  · subst q
    rw [(h4 1 (by omega)).2 (by omega), if_pos (by decide)]
  · subst q
    obtain ⟨x, hx, e⟩ := (h4 1 (by omega)).1 (by omega)
    rw [e, if_neg (nI_pos (by omega)), (h4 2 (by omega)).2 (by omega), if_pos (by decide)]
  · subst q
    obtain ⟨x, hx, e⟩ := (h4 1 (by omega)).1 (by omega)
    obtain ⟨x2, hx2, e2⟩ := (h4 2 (by omega)).1 (by omega)
    rw [e, if_neg (nI_pos (by omega)), e2, if_neg (nI_pos (by omega))]
theorem fg_ww_le (va : Nat → Int32) (f : Nat) : fg_ww va f ≤ 8 := by
  unfold fg_ww
  split
  · omega
  · split <;> omega
abbrev fg_b1 (F : Nat) (f : Int32) : Prop := f < 0 ∨ nI F ≤ f
abbrev fg_b2 (va : Nat → Int32) (f y : Int32) : Prop := y < 0 ∨ nI (fg_ww va f.toNatClampNeg) ≤ y
abbrev fg_b3 (w : Int32) : Prop := w < 0 ∨ nI 9 < w
def fg_wr (F : Nat) (va we : Nat → Int32) (f y w : Int32) : Int32 := if fg_b1 F f then -2 else if fg_b2 va f y then -5 else if fg_b3 w then -3 else we (f.toNatClampNeg * 8 + y.toNatClampNeg)
def fg_wW (F : Nat) (va we : Nat → Int32) (f y w : Int32) : Nat → Int32 := if fg_b1 F f ∨ fg_b2 va f y ∨ fg_b3 w then we else upd we (f.toNatClampNeg * 8 + y.toNatClampNeg) w
theorem fg_not_b1 {F : Nat} {f : Int32} (hF : F < 2 ^ 31) (h : ¬ fg_b1 F f) : ∃ j, j < F ∧ f = nI j := by
  rcases pk_ix f hF with q | q | q
  · exact absurd (Or.inl q) h
  · exact absurd (Or.inr q) h
  · exact q
theorem fg_not_b3 {w : Int32} (h : ¬ fg_b3 w) : ∃ j, j ≤ 9 ∧ w = nI j := by
  have h2 : ¬ nI 9 < w := fun q => h (Or.inr q)
  exact nI_of2 (M := nI 9) (n := 9) (by decide) (fun q => h (Or.inl q)) (Int32.not_lt.mp h2)
theorem fg_wr1 {F : Nat} {va we : Nat → Int32} {f y w : Int32} (h : fg_b1 F f) : fg_wr F va we f y w = -2 ∧ fg_wW F va we f y w = we := ⟨if_pos h, if_pos (Or.inl h)⟩
theorem fg_wr2 {F : Nat} {va we : Nat → Int32} {f y w : Int32} (h1 : ¬ fg_b1 F f) (h : fg_b2 va f y) : fg_wr F va we f y w = -5 ∧ fg_wW F va we f y w = we := by
  unfold fg_wr
  rw [if_neg h1, if_pos h]
  exact ⟨rfl, if_pos (Or.inr (Or.inl h))⟩
theorem fg_wr3 {F : Nat} {va we : Nat → Int32} {f y w : Int32} (h1 : ¬ fg_b1 F f) (h2 : ¬ fg_b2 va f y) (h : fg_b3 w) : fg_wr F va we f y w = -3 ∧ fg_wW F va we f y w = we := by
  unfold fg_wr
  rw [if_neg h1, if_neg h2, if_pos h]
  exact ⟨rfl, if_pos (Or.inr (Or.inr h))⟩
theorem fg_wr4 {F : Nat} {va we : Nat → Int32} {f y w : Int32} (h1 : ¬ fg_b1 F f) (h2 : ¬ fg_b2 va f y) (h : ¬ fg_b3 w) : fg_wr F va we f y w = we (f.toNatClampNeg * 8 + y.toNatClampNeg) ∧ fg_wW F va we f y w = upd we (f.toNatClampNeg * 8 + y.toNatClampNeg) w := by
  unfold fg_wr
  rw [if_neg h1, if_neg h2, if_neg h]
  exact ⟨rfl, if_neg (fun q => q.elim h1 (fun q => q.elim h2 h))⟩
theorem fg_inv_weight {F : Nat} {ar va we gi : Nat → Int32} {f y w : Int32} (hI : fg_inv F ar va we gi) : fg_inv F ar va (fg_wW F va we f y w) gi := by
  by_cases h : fg_b1 F f ∨ fg_b2 va f y ∨ fg_b3 w
  · rw [show fg_wW F va we f y w = we from if_pos h]
    exact hI
  · rw [show fg_wW F va we f y w = _ from if_neg h]
    obtain ⟨hF, hf, hw, hg⟩ := hI
    obtain ⟨j, hj, ew⟩ := fg_not_b3 (fun q => h (Or.inr (Or.inr q)))
    refine ⟨hF, hf, fun k hk => ?_, hg⟩
    by_cases e : k = f.toNatClampNeg * 8 + y.toNatClampNeg
    · subst e
      rw [pk_us]
      exact ⟨j, hj, ew⟩
    · rw [pk_un e]
      exact hw k hk
abbrev fg_e2 (x : Int32) : Prop := x < -1 ∨ nI 1 < x
def fg_er (gi : Nat → Int32) (v x : Int32) : Int32 := if fg_bad v then -1 else if fg_e2 x then -5 else gi v.toNatClampNeg
def fg_eG (gi : Nat → Int32) (v x : Int32) : Nat → Int32 := if fg_bad v ∨ fg_e2 x then gi else upd gi v.toNatClampNeg x
theorem fg_er1 {gi : Nat → Int32} {v x : Int32} (h : fg_bad v) : fg_er gi v x = -1 ∧ fg_eG gi v x = gi := ⟨if_pos h, if_pos (Or.inl h)⟩
theorem fg_er2 {gi : Nat → Int32} {v x : Int32} (h1 : ¬ fg_bad v) (h : fg_e2 x) : fg_er gi v x = -5 ∧ fg_eG gi v x = gi := by
  unfold fg_er
  rw [if_neg h1, if_pos h]
  exact ⟨rfl, if_pos (Or.inr h)⟩
theorem fg_er3 {gi : Nat → Int32} {v x : Int32} (h1 : ¬ fg_bad v) (h : ¬ fg_e2 x) : fg_er gi v x = gi v.toNatClampNeg ∧ fg_eG gi v x = upd gi v.toNatClampNeg x := by
  unfold fg_er
  rw [if_neg h1, if_neg h]
  exact ⟨rfl, if_neg (fun q => q.elim h1 h)⟩
theorem fg_e2_tri {x : Int32} (h : ¬ fg_e2 x) : fg_tri x := by
  have h1 : ¬ x < -1 := fun q => h (Or.inl q)
  have h2 : ¬ nI 1 < x := fun q => h (Or.inr q)
  by_cases h0 : x < 0
  · exact Or.inl (fg_m1_of h1 h0)
  · obtain ⟨j, hj, e⟩ := nI_of2 (M := nI 1) (n := 1) (by decide) h0 (Int32.not_lt.mp h2)
    rcases (show j = 0 ∨ j = 1 by omega) with q | q
    · rw [e, q]; exact Or.inr (Or.inl rfl)
    · rw [e, q]; exact Or.inr (Or.inr rfl)
theorem fg_inv_evidence {F : Nat} {ar va we gi : Nat → Int32} {v x : Int32} (hI : fg_inv F ar va we gi) : fg_inv F ar va we (fg_eG gi v x) := by
  by_cases h : fg_bad v ∨ fg_e2 x
  · rw [show fg_eG gi v x = gi from if_pos h]
    exact hI
  · rw [show fg_eG gi v x = _ from if_neg h]
    obtain ⟨hF, hf, hw, hg⟩ := hI
    refine ⟨hF, hf, hw, fun u hu => ?_⟩
    by_cases e : u = v.toNatClampNeg
    · subst e
      rw [pk_us]
      exact fg_e2_tri (fun q => h (Or.inr q))
    · rw [pk_un e]
      exact hg u hu
def fg_dr (F : Nat) : Int32 := if F = 0 then -2 else nI (F - 1)
theorem fg_inv_drop {F : Nat} {ar va we gi : Nat → Int32} (hI : fg_inv F ar va we gi) : fg_inv (F - 1) ar va we gi := by
  obtain ⟨hF, hf, hw, hg⟩ := hI
  exact ⟨by omega, fun f hff => hf f (by omega), hw, hg⟩
end
section
abbrev fg_rm_X0_factor : Room := { frames := 1, cells := 0, slots := 0, locals := 20 }
theorem fg_md_X0_factor : yX0_factor.cls = RX0 ∧ yX0_factor.cls ≠ "java/lang/invoke/MethodHandle" ∧ yX0_factor.cls ≠ "java/lang/invoke/VarHandle" ∧ (parseMethodDescriptor yX0_factor.desc).map (fun d => d.parameters.length) = some 3 := by decide +kernel
abbrev fg_rm_X0_weight : Room := { frames := 0, cells := 0, slots := 0, locals := 0 }
theorem fg_md_X0_weight : yX0_weight.cls = RX0 ∧ yX0_weight.cls ≠ "java/lang/invoke/MethodHandle" ∧ yX0_weight.cls ≠ "java/lang/invoke/VarHandle" ∧ (parseMethodDescriptor yX0_weight.desc).map (fun d => d.parameters.length) = some 3 := by decide +kernel
abbrev fg_rm_X0_evidence : Room := { frames := 1, cells := 0, slots := 0, locals := 20 }
theorem fg_md_X0_evidence : yX0_evidence.cls = RX0 ∧ yX0_evidence.cls ≠ "java/lang/invoke/MethodHandle" ∧ yX0_evidence.cls ≠ "java/lang/invoke/VarHandle" ∧ (parseMethodDescriptor yX0_evidence.desc).map (fun d => d.parameters.length) = some 2 := by decide +kernel
abbrev fg_rm_X0_drop : Room := { frames := 0, cells := 0, slots := 0, locals := 0 }
theorem fg_md_X0_drop : yX0_drop.cls = RX0 ∧ yX0_drop.cls ≠ "java/lang/invoke/MethodHandle" ∧ yX0_drop.cls ≠ "java/lang/invoke/VarHandle" ∧ (parseMethodDescriptor yX0_drop.desc).map (fun d => d.parameters.length) = some 0 := by decide +kernel
section FGX4
variable {l : Launch} {D : va_G} {h : Nat → Nat} {dA dL : ClassId} {F n : Nat} {fa : Int32} {ar va we gi fi : Nat → Int32} {tb : Int32} {sc : Nat → Int32} {ta : Nat → Int64} {S : Nat → Nat} {T : Nat → Nat → Nat}
set_option maxHeartbeats 4000000 in
set_option maxRecDepth 100000 in
/-- factor(x, y, z) -/
theorem fg_X_factor {x y z : Int32} (hI : fg_inv F ar va we gi) : fg_Mi l yX0_factor cX0_factor 7 .int fg_rm_X0_factor D [.ref (h 0), .int x, .int y, .int z] (fg_wX h dA dL (nI F) ar va we gi fi tb sc ta) (fg_tX dA dL) (fun (r : Int32) (_ : Unit) => r = fg_fr F x y z) (fun _ => fg_wX h dA dL (nI (fg_fF F x y z)) (fg_fA F ar x y z) (fg_fV F va x y z) (fg_fW F we x y z) gi fi tb sc ta) := by
  refine fg_Mi_of (own := RX0) (by decide) rfl (Nat.le_of_ble_eq_true rfl) (fun _ _ _ => rfl) ?_
  intro p e s m args below meth c ls A Q hC hP hK hD hl hA hS ret
  obtain ⟨hx, hb, hr, hts, hown, hlocks, hml⟩ := hC
  have hl : lv_has ls 7 [(0, .ref (h 0)), (1, .int x), (2, .int y), (3, .int z)] := hl
  obtain ⟨hF7, -⟩ := id hI
  refine lv_iload_n hx hb dX0_factor_0 rfl (lv_at hl 1 rfl) ?_
  refine fg_cSi (As := [.int x]) (rest := []) ⟨hx, hb, hml, hown, hts⟩ (fg_X_bad (l := l) (x := x)) (va_cwS 1 hts (lw_S q61 q62 q17 q63) rfl rfl rfl fg_md_X0_bad ⟨Nat.le_of_ble_eq_true rfl, Nat.le_of_ble_eq_true rfl⟩) hK hP hS hA rfl hl.1 rfl (Nat.le_of_ble_eq_true rfl) dX0_factor_1 ⟨Nat.zero_le _, Nat.zero_le _⟩ (fun r1 H locs hr1 hP hS => ?_)
  have tail70 : ∀ (ls : Array Slot), ¬ fg_fbad x y z → lv_has ls 7 [(0, .ref (h 0)), (1, .int x), (2, .int y), (4, .int (fg_3 y z))] → W p l e fg_rm_X0_factor s m args below meth c H locs 0 0 Q (F0 m 70 ls []) := by
    intro ls hnb hl
    refine lv_aload_n hx hb dX0_factor_70 rfl (lv_at hl 0 rfl) ?_
    refine gx_factors hx hb hts hown hK hP dX0_factor_71 ?_
    refine lv_bipush (v := nI 7) hx hb dX0_factor_74 (by decide) ?_
    refine fg_ilt (tgt := 82) hx hb dX0_factor_76 (by decide) (by omega) (by omega) (fun hc6 => ?_) (fun hc6 => ?_)
    · have hF : ¬ F = 7 := by omega
      have hgood : ¬ (fg_fbad x y z ∨ F = 7) := fun q => q.elim hnb hF
      have loop : ∀ (k i : Nat), i ≤ 8 → 8 < i + k → ∀ (H : Heap) (locs : List Loc), va_P D vwCl (fg_wX h dA dL (nI F) (upd ar F (fg_ak y z)) (upd (upd (upd va (F * 3) x) (F * 3 + 1) y) (F * 3 + 2) (fg_3 y z)) (fg_w8 we F i) gi fi tb sc ta) H → va_D A (fg_wX h dA dL (nI F) (upd ar F (fg_ak y z)) (upd (upd (upd va (F * 3) x) (F * 3 + 1) y) (F * 3 + 2) (fg_3 y z)) (fg_w8 we F i) gi fi tb sc ta) → va_S A s.heap H locs → ∀ (ls : Array Slot), lv_has ls 7 [(0, .ref (h 0)), (5, .int (nI F)), (6, .int (nI i))] → W p l e fg_rm_X0_factor s m args below meth c H locs 0 0 Q (F0 m 151 ls []) := by
        intro k
        induction k with
        | zero => intro i h1 h2; exact absurd h2 (by omega)
        | succ k ih =>
          intro i hi hk H locs hP hD hS ls hl
          refine lv_iload hx hb dX0_factor_151 (lv_at hl 2 rfl) ?_
          refine lv_bipush (v := nI 8) hx hb dX0_factor_153 (by decide) ?_
          refine fg_ige (tgt := 178) hx hb dX0_factor_155 (by decide) (by omega) (by omega) (fun hc9 => ?_) (fun hc9 => ?_)
          · have hi8 : i = 8 := by omega
            subst hi8
            refine lv_aload_n hx hb dX0_factor_178 rfl (lv_at hl 0 rfl) ?_
            refine lv_dup hx hb dX0_factor_179 rfl ?_
            refine gx_factors hx hb hts hown hK hP dX0_factor_180 ?_
            refine lv_iconst (v := nI 1) hx hb dX0_factor_183 (by decide) ?_
            refine fg_iadd hx hb dX0_factor_184 ?_
            refine px_factors hx hb hts hown hK hP hD hS dX0_factor_185 (fun H locs hP hD hS => ?_)
            refine lv_iload hx hb dX0_factor_188 (lv_at hl 1 rfl) ?_
            obtain ⟨e1, e2, e3, e4⟩ := fg_f_new (ar := ar) (va := va) (we := we) hgood
            exact ret _ () _ _ _ _ dX0_factor_190 hS (fg_f_ok hnb hF).symm (by rw [e1, e2, e3, e4]; exact hP) (by rw [e1, e2, e3, e4]; exact hD)
          · refine lv_aload_n hx hb dX0_factor_158 rfl (lv_at hl 0 rfl) ?_
            refine gx_weights hx hb hts hown hK hP dX0_factor_159 ?_
            refine lv_iload hx hb dX0_factor_162 (lv_at hl 1 rfl) ?_
            refine lv_bipush (v := nI 8) hx hb dX0_factor_164 (by decide) ?_
            refine fg_imul hx hb dX0_factor_166 ?_
            refine lv_iload hx hb dX0_factor_167 (lv_at hl 2 rfl) ?_
            refine fg_iadd hx hb dX0_factor_169 ?_
            refine lv_iconst (v := nI 1) hx hb dX0_factor_170 (by decide) ?_
            refine sx_weights hx hb hK hP hD hS (by omega) dX0_factor_171 (fun H locs hP hD hS => ?_)
            rw [fg_w8_s] at hP hD
            refine lv_iinc (v := nI (i + 1)) (lv' := [(6, .int (nI (i + 1))), (0, .ref (h 0)), (5, .int (nI F))]) hx hb dX0_factor_172 hl (k := 2) rfl (fg_inc _) (by decide) rfl (fun ls hl => ?_)
            refine lv_goto (tgt := 151) hx hb dX0_factor_175 (by decide) ?_
            exact ih (i + 1) (by omega) (by omega) _ _ hP hD hS ls (lv_sub hl [1, 2, 0] rfl)
      refine lv_aload_n hx hb dX0_factor_82 rfl (lv_at hl 0 rfl) ?_
      refine gx_factors hx hb hts hown hK hP dX0_factor_83 ?_
      refine lv_istore (lv' := [(5, .int (nI F)), (0, .ref (h 0)), (1, .int x), (2, .int y), (4, .int (fg_3 y z))]) hx hb dX0_factor_86 hl (by decide) rfl (fun ls hl => ?_)
      refine lv_aload_n hx hb dX0_factor_88 rfl (lv_at hl 1 rfl) ?_
      refine gx_variables hx hb hts hown hK hP dX0_factor_89 ?_
      refine lv_iload hx hb dX0_factor_92 (lv_at hl 0 rfl) ?_
      refine lv_iconst (v := nI 3) hx hb dX0_factor_94 (by decide) ?_
      refine fg_imul hx hb dX0_factor_95 ?_
      refine lv_iload_n hx hb dX0_factor_96 rfl (lv_at hl 2 rfl) ?_
      refine sx_variables hx hb hK hP hD hS (by omega) dX0_factor_97 (fun H locs hP hD hS => ?_)
      refine lv_aload_n hx hb dX0_factor_98 rfl (lv_at hl 1 rfl) ?_
      refine gx_variables hx hb hts hown hK hP dX0_factor_99 ?_
      refine lv_iload hx hb dX0_factor_102 (lv_at hl 0 rfl) ?_
      refine lv_iconst (v := nI 3) hx hb dX0_factor_104 (by decide) ?_
      refine fg_imul hx hb dX0_factor_105 ?_
      refine lv_iconst (v := nI 1) hx hb dX0_factor_106 (by decide) ?_
      refine fg_iadd hx hb dX0_factor_107 ?_
      refine lv_iload_n hx hb dX0_factor_108 rfl (lv_at hl 3 rfl) ?_
      refine sx_variables hx hb hK hP hD hS (by omega) dX0_factor_109 (fun H locs hP hD hS => ?_)
      refine lv_aload_n hx hb dX0_factor_110 rfl (lv_at hl 1 rfl) ?_
      refine gx_variables hx hb hts hown hK hP dX0_factor_111 ?_
      refine lv_iload hx hb dX0_factor_114 (lv_at hl 0 rfl) ?_
      refine lv_iconst (v := nI 3) hx hb dX0_factor_116 (by decide) ?_
      refine fg_imul hx hb dX0_factor_117 ?_
      refine lv_iconst (v := nI 2) hx hb dX0_factor_118 (by decide) ?_
      refine fg_iadd hx hb dX0_factor_119 ?_
      refine lv_iload hx hb dX0_factor_120 (lv_at hl 4 rfl) ?_
      refine sx_variables hx hb hK hP hD hS (by omega) dX0_factor_122 (fun H locs hP hD hS => ?_)
      refine lv_aload_n hx hb dX0_factor_123 rfl (lv_at hl 1 rfl) ?_
      refine gx_arity hx hb hts hown hK hP dX0_factor_124 ?_
      refine lv_iload hx hb dX0_factor_127 (lv_at hl 0 rfl) ?_
      refine lv_iload_n hx hb dX0_factor_129 rfl (lv_at hl 3 rfl) ?_
      refine lv_if_ge (tgt := 137) hx hb dX0_factor_130 (by decide) (fun hc7 => ?_) (fun hc7 => ?_)
      · refine lv_iload hx hb dX0_factor_137 (lv_at hl 4 rfl) ?_
        refine lv_if_ge (tgt := 146) hx hb dX0_factor_139 (by decide) (fun hc8 => ?_) (fun hc8 => ?_)
        · refine lv_iconst (v := nI 3) hx hb dX0_factor_146 (by decide) ?_
          refine fg_top (y := fg_ak y z) (by unfold fg_ak; rw [if_neg (Int32.not_lt.mpr hc7), if_neg (Int32.not_lt.mpr hc8)]) ?_
          refine sx_arity hx hb hK hP hD hS (by omega) dX0_factor_147 (fun H locs hP hD hS => ?_)
          refine lv_iconst (v := nI 0) hx hb dX0_factor_148 (by decide) ?_
          refine lv_istore (lv' := [(6, .int (nI 0)), (5, .int (nI F)), (0, .ref (h 0)), (1, .int x), (2, .int y), (4, .int (fg_3 y z))]) hx hb dX0_factor_149 hl (by decide) rfl (fun ls hl => ?_)
          rw [← fg_w8_0 we F] at hP hD
          exact loop 9 0 (by omega) (by omega) _ _ hP hD hS ls (lv_sub hl [2, 1, 0] rfl)
        · refine lv_iconst (v := nI 2) hx hb dX0_factor_142 (by decide) ?_
          refine lv_goto (tgt := 147) hx hb dX0_factor_143 (by decide) ?_
          refine fg_top (y := fg_ak y z) (by unfold fg_ak; rw [if_neg (Int32.not_lt.mpr hc7), if_pos (Int32.not_le.mp hc8)]) ?_
          refine sx_arity hx hb hK hP hD hS (by omega) dX0_factor_147 (fun H locs hP hD hS => ?_)
          refine lv_iconst (v := nI 0) hx hb dX0_factor_148 (by decide) ?_
          refine lv_istore (lv' := [(6, .int (nI 0)), (5, .int (nI F)), (0, .ref (h 0)), (1, .int x), (2, .int y), (4, .int (fg_3 y z))]) hx hb dX0_factor_149 hl (by decide) rfl (fun ls hl => ?_)
          rw [← fg_w8_0 we F] at hP hD
          exact loop 9 0 (by omega) (by omega) _ _ hP hD hS ls (lv_sub hl [2, 1, 0] rfl)
      · refine lv_iconst (v := nI 1) hx hb dX0_factor_133 (by decide) ?_
        refine lv_goto (tgt := 147) hx hb dX0_factor_134 (by decide) ?_
        refine fg_top (y := fg_ak y z) (by unfold fg_ak; rw [if_pos (Int32.not_le.mp hc7)]) ?_
        refine sx_arity hx hb hK hP hD hS (by omega) dX0_factor_147 (fun H locs hP hD hS => ?_)
        refine lv_iconst (v := nI 0) hx hb dX0_factor_148 (by decide) ?_
        refine lv_istore (lv' := [(6, .int (nI 0)), (5, .int (nI F)), (0, .ref (h 0)), (1, .int x), (2, .int y), (4, .int (fg_3 y z))]) hx hb dX0_factor_149 hl (by decide) rfl (fun ls hl => ?_)
        rw [← fg_w8_0 we F] at hP hD
        exact loop 9 0 (by omega) (by omega) _ _ hP hD hS ls (lv_sub hl [2, 1, 0] rfl)
    · have hF : F = 7 := by omega
      obtain ⟨e1, e2, e3, e4⟩ := fg_f_same (F := F) (ar := ar) (va := va) (we := we) (x := x) (y := y) (z := z) (Or.inr hF)
      refine lv_bipush (v := -4) hx hb dX0_factor_79 (by decide) ?_
      exact ret _ () _ _ _ _ dX0_factor_81 hS (fg_f_full hnb hF).symm (by rw [e1, e2, e3, e4]; exact hP) (by rw [e1, e2, e3, e4]; exact hD)
  have tail36 : ∀ (ls : Array Slot), ¬ fg_bad x → ¬ y < -1 → ¬ 7 ≤ y → ¬ y = x → lv_has ls 7 [(0, .ref (h 0)), (1, .int x), (2, .int y), (4, .int (fg_3 y z))] → W p l e fg_rm_X0_factor s m args below meth c H locs 0 0 Q (F0 m 36 ls []) := by
    intro ls n1 n2 n3 n4 hl
    refine lv_iload hx hb dX0_factor_36 (lv_at hl 3 rfl) ?_
    refine lv_iconst (v := -1) hx hb dX0_factor_38 (by decide) ?_
    refine lv_icmp_lt (tgt := 49) hx hb dX0_factor_39 (by decide) (fun hc => ?_) (fun hc => ?_)
    · have hbd : fg_fbad x y z := Or.inr (Or.inr (Or.inr (Or.inr (Or.inl hc))))
      obtain ⟨e1, e2, e3, e4⟩ := fg_f_same (F := F) (ar := ar) (va := va) (we := we) (x := x) (y := y) (z := z) (Or.inl hbd)
      refine lv_iconst (v := -1) hx hb dX0_factor_49 (by decide) ?_
      exact ret _ () _ _ _ _ dX0_factor_50 hS (fg_f_bad hbd).symm (by rw [e1, e2, e3, e4]; exact hP) (by rw [e1, e2, e3, e4]; exact hD)
    · refine lv_iload hx hb dX0_factor_42 (lv_at hl 3 rfl) ?_
      refine lv_bipush (v := nI 7) hx hb dX0_factor_44 (by decide) ?_
      refine lv_icmp_lt (tgt := 51) hx hb dX0_factor_46 (by decide) (fun hc2 => ?_) (fun hc2 => ?_)
      · have n6 : ¬ 7 ≤ fg_3 y z := fun q => Int32.not_lt.mpr q hc2
        refine lv_iload hx hb dX0_factor_51 (lv_at hl 3 rfl) ?_
        refine lv_if_lt (tgt := 70) hx hb dX0_factor_53 (by decide) (fun hc3 => ?_) (fun hc3 => ?_)
        · exact tail70 ls (fun q => q.elim n1 (fun q => q.elim n2 (fun q => q.elim n3 (fun q => q.elim n4 (fun q => q.elim hc (fun q => q.elim n6 (fun q => Int32.not_lt.mpr q.1 hc3))))))) (lv_sub hl [0, 1, 2, 3] rfl)
        · have h30 : 0 ≤ fg_3 y z := Int32.not_lt.mp hc3
          refine lv_iload hx hb dX0_factor_56 (lv_at hl 3 rfl) ?_
          refine lv_iload_n hx hb dX0_factor_58 rfl (lv_at hl 1 rfl) ?_
          refine lv_icmp_eq (tgt := 68) hx hb dX0_factor_59 (by decide) (fun hc4 => ?_) (fun hc4 => ?_)
          · have hbd : fg_fbad x y z := Or.inr (Or.inr (Or.inr (Or.inr (Or.inr (Or.inr ⟨h30, Or.inl hc4⟩)))))
            obtain ⟨e1, e2, e3, e4⟩ := fg_f_same (F := F) (ar := ar) (va := va) (we := we) (x := x) (y := y) (z := z) (Or.inl hbd)
            refine lv_iconst (v := -1) hx hb dX0_factor_68 (by decide) ?_
            exact ret _ () _ _ _ _ dX0_factor_69 hS (fg_f_bad hbd).symm (by rw [e1, e2, e3, e4]; exact hP) (by rw [e1, e2, e3, e4]; exact hD)
          · refine lv_iload hx hb dX0_factor_62 (lv_at hl 3 rfl) ?_
            refine lv_iload_n hx hb dX0_factor_64 rfl (lv_at hl 2 rfl) ?_
            refine lv_icmp_ne (tgt := 70) hx hb dX0_factor_65 (by decide) (fun hc5 => ?_) (fun hc5 => ?_)
            · exact tail70 ls (fun q => q.elim n1 (fun q => q.elim n2 (fun q => q.elim n3 (fun q => q.elim n4 (fun q => q.elim hc (fun q => q.elim n6 (fun q => q.2.elim hc4 hc5))))))) (lv_sub hl [0, 1, 2, 3] rfl)
            · have hbd : fg_fbad x y z := Or.inr (Or.inr (Or.inr (Or.inr (Or.inr (Or.inr ⟨h30, Or.inr hc5⟩)))))
              obtain ⟨e1, e2, e3, e4⟩ := fg_f_same (F := F) (ar := ar) (va := va) (we := we) (x := x) (y := y) (z := z) (Or.inl hbd)
              refine lv_iconst (v := -1) hx hb dX0_factor_68 (by decide) ?_
              exact ret _ () _ _ _ _ dX0_factor_69 hS (fg_f_bad hbd).symm (by rw [e1, e2, e3, e4]; exact hP) (by rw [e1, e2, e3, e4]; exact hD)
      · have hbd : fg_fbad x y z := Or.inr (Or.inr (Or.inr (Or.inr (Or.inr (Or.inl (Int32.not_lt.mp hc2))))))
        obtain ⟨e1, e2, e3, e4⟩ := fg_f_same (F := F) (ar := ar) (va := va) (we := we) (x := x) (y := y) (z := z) (Or.inl hbd)
        refine lv_iconst (v := -1) hx hb dX0_factor_49 (by decide) ?_
        exact ret _ () _ _ _ _ dX0_factor_50 hS (fg_f_bad hbd).symm (by rw [e1, e2, e3, e4]; exact hP) (by rw [e1, e2, e3, e4]; exact hD)
  refine lv_if_ne (tgt := 23) hx hb dX0_factor_4 (by decide) (fun hd1 => ?_) (fun hd1 => ?_)
  · have hbd : fg_fbad x y z := Or.inl (Decidable.byContradiction (fun q => hd1 ((fg_ite0 hr1).mpr q)))
    obtain ⟨e1, e2, e3, e4⟩ := fg_f_same (F := F) (ar := ar) (va := va) (we := we) (x := x) (y := y) (z := z) (Or.inl hbd)
    refine lv_iconst (v := -1) hx hb dX0_factor_23 (by decide) ?_
    exact ret _ () _ _ _ _ dX0_factor_24 hS (fg_f_bad hbd).symm (by rw [e1, e2, e3, e4]; exact hP) (by rw [e1, e2, e3, e4]; exact hD)
  · have n1 : ¬ fg_bad x := (fg_ite0 hr1).mp hd1
    refine lv_iload_n hx hb dX0_factor_7 rfl (lv_at hl 2 rfl) ?_
    refine lv_iconst (v := -1) hx hb dX0_factor_8 (by decide) ?_
    refine lv_icmp_lt (tgt := 23) hx hb dX0_factor_9 (by decide) (fun hd2 => ?_) (fun hd2 => ?_)
    · have hbd : fg_fbad x y z := Or.inr (Or.inl hd2)
      obtain ⟨e1, e2, e3, e4⟩ := fg_f_same (F := F) (ar := ar) (va := va) (we := we) (x := x) (y := y) (z := z) (Or.inl hbd)
      refine lv_iconst (v := -1) hx hb dX0_factor_23 (by decide) ?_
      exact ret _ () _ _ _ _ dX0_factor_24 hS (fg_f_bad hbd).symm (by rw [e1, e2, e3, e4]; exact hP) (by rw [e1, e2, e3, e4]; exact hD)
    · refine lv_iload_n hx hb dX0_factor_12 rfl (lv_at hl 2 rfl) ?_
      refine lv_bipush (v := nI 7) hx hb dX0_factor_13 (by decide) ?_
      refine lv_icmp_ge (tgt := 23) hx hb dX0_factor_15 (by decide) (fun hd3 => ?_) (fun hd3 => ?_)
      · have hbd : fg_fbad x y z := Or.inr (Or.inr (Or.inl hd3))
        obtain ⟨e1, e2, e3, e4⟩ := fg_f_same (F := F) (ar := ar) (va := va) (we := we) (x := x) (y := y) (z := z) (Or.inl hbd)
        refine lv_iconst (v := -1) hx hb dX0_factor_23 (by decide) ?_
        exact ret _ () _ _ _ _ dX0_factor_24 hS (fg_f_bad hbd).symm (by rw [e1, e2, e3, e4]; exact hP) (by rw [e1, e2, e3, e4]; exact hD)
      · refine lv_iload_n hx hb dX0_factor_18 rfl (lv_at hl 2 rfl) ?_
        refine lv_iload_n hx hb dX0_factor_19 rfl (lv_at hl 1 rfl) ?_
        refine lv_icmp_ne (tgt := 25) hx hb dX0_factor_20 (by decide) (fun hd4 => ?_) (fun hd4 => ?_)
        · refine lv_iload_n hx hb dX0_factor_25 rfl (lv_at hl 2 rfl) ?_
          refine lv_if_ge (tgt := 33) hx hb dX0_factor_26 (by decide) (fun hd5 => ?_) (fun hd5 => ?_)
          · refine lv_iload_n hx hb dX0_factor_33 rfl (lv_at hl 3 rfl) ?_
            refine fg_top (y := fg_3 y z) (by unfold fg_3; rw [if_neg (Int32.not_lt.mpr hd5)]) ?_
            refine lv_istore (lv' := [(4, .int (fg_3 y z)), (0, .ref (h 0)), (1, .int x), (2, .int y), (3, .int z)]) hx hb dX0_factor_34 hl (by decide) rfl (fun ls hl => ?_)
            exact tail36 ls n1 hd2 hd3 hd4 (lv_sub hl [1, 2, 3, 0] rfl)
          · refine lv_iconst (v := -1) hx hb dX0_factor_29 (by decide) ?_
            refine lv_goto (tgt := 34) hx hb dX0_factor_30 (by decide) ?_
            refine fg_top (y := fg_3 y z) (by unfold fg_3; rw [if_pos (Int32.not_le.mp hd5)]) ?_
            refine lv_istore (lv' := [(4, .int (fg_3 y z)), (0, .ref (h 0)), (1, .int x), (2, .int y), (3, .int z)]) hx hb dX0_factor_34 hl (by decide) rfl (fun ls hl => ?_)
            exact tail36 ls n1 hd2 hd3 hd4 (lv_sub hl [1, 2, 3, 0] rfl)
        · have hbd : fg_fbad x y z := Or.inr (Or.inr (Or.inr (Or.inl hd4)))
          obtain ⟨e1, e2, e3, e4⟩ := fg_f_same (F := F) (ar := ar) (va := va) (we := we) (x := x) (y := y) (z := z) (Or.inl hbd)
          refine lv_iconst (v := -1) hx hb dX0_factor_23 (by decide) ?_
          exact ret _ () _ _ _ _ dX0_factor_24 hS (fg_f_bad hbd).symm (by rw [e1, e2, e3, e4]; exact hP) (by rw [e1, e2, e3, e4]; exact hD)

set_option maxHeartbeats 4000000 in
set_option maxRecDepth 100000 in
/-- weight(f, y, w) -/
theorem fg_X_weight {f y w : Int32} (hI : fg_inv F ar va we gi) : fg_Mi l yX0_weight cX0_weight 5 .int fg_rm_X0_weight D [.ref (h 0), .int f, .int y, .int w] (fg_wX h dA dL (nI F) ar va we gi fi tb sc ta) (fg_tX dA dL) (fun (r : Int32) (_ : Unit) => r = fg_wr F va we f y w) (fun _ => fg_wX h dA dL (nI F) ar va (fg_wW F va we f y w) gi fi tb sc ta) := by
  refine fg_Mi_of (own := RX0) (by decide) rfl (Nat.le_of_ble_eq_true rfl) (fun _ _ _ => rfl) ?_
  intro p e s m args below meth c ls A Q hC hP hK hD hl hA hS ret
  obtain ⟨hx, hb, hr, hts, hown, hlocks, hml⟩ := hC
  have hl : lv_has ls 5 [(0, .ref (h 0)), (1, .int f), (2, .int y), (3, .int w)] := hl
  obtain ⟨hF7, hff, -⟩ := id hI
  refine lv_iload_n hx hb dX0_weight_0 rfl (lv_at hl 1 rfl) ?_
  refine lv_if_lt (tgt := 12) hx hb dX0_weight_1 (by decide) (fun hc1 => ?_) (fun hc1 => ?_)
  · obtain ⟨e1, e2⟩ := fg_wr1 (F := F) (va := va) (we := we) (f := f) (y := y) (w := w) (Or.inl hc1)
    refine lv_bipush (v := -2) hx hb dX0_weight_12 (by decide) ?_
    exact ret _ () _ _ _ _ dX0_weight_14 hS e1.symm (by rw [e2]; exact hP) (by rw [e2]; exact hD)
  · refine lv_iload_n hx hb dX0_weight_4 rfl (lv_at hl 1 rfl) ?_
    refine lv_aload_n hx hb dX0_weight_5 rfl (lv_at hl 0 rfl) ?_
    refine gx_factors hx hb hts hown hK hP dX0_weight_6 ?_
    refine lv_icmp_lt (tgt := 15) hx hb dX0_weight_9 (by decide) (fun hc2 => ?_) (fun hc2 => ?_)
    · have n1 : ¬ fg_b1 F f := fun q => q.elim hc1 (fun q => Int32.not_lt.mpr q hc2)
      obtain ⟨j, hj, rfl⟩ := fg_not_b1 (by omega) n1
      obtain ⟨a, ha3, hak, haw⟩ := fg_ww_ar (hff j hj)
      have hw8 := fg_ww_le va j
      have hcl : (nI j).toNatClampNeg = j := nI_clamp (by omega)
      refine lv_iload_n hx hb dX0_weight_15 rfl (lv_at hl 2 rfl) ?_
      refine lv_if_lt (tgt := 31) hx hb dX0_weight_16 (by decide) (fun hc3 => ?_) (fun hc3 => ?_)
      · obtain ⟨e1, e2⟩ := fg_wr2 (we := we) (w := w) n1 (Or.inl hc3)
        refine lv_bipush (v := -5) hx hb dX0_weight_31 (by decide) ?_
        exact ret _ () _ _ _ _ dX0_weight_33 hS e1.symm (by rw [e2]; exact hP) (by rw [e2]; exact hD)
      · refine lv_iload_n hx hb dX0_weight_19 rfl (lv_at hl 2 rfl) ?_
        refine lv_iconst (v := nI 1) hx hb dX0_weight_20 (by decide) ?_
        refine lv_aload_n hx hb dX0_weight_21 rfl (lv_at hl 0 rfl) ?_
        refine gx_arity hx hb hts hown hK hP dX0_weight_22 ?_
        refine lv_iload_n hx hb dX0_weight_25 rfl (lv_at hl 1 rfl) ?_
        refine lx_arity hx hb hK hP (by omega) dX0_weight_26 ?_
        refine fg_top (y := nI a) hak ?_
        refine fg_ishl1 (by omega) hx hb dX0_weight_27 ?_
        refine fg_top (y := nI (fg_ww va j)) (congrArg nI haw) ?_
        refine lv_icmp_lt (tgt := 34) hx hb dX0_weight_28 (by decide) (fun hc4 => ?_) (fun hc4 => ?_)
        · have n2 : ¬ fg_b2 va (nI j) y := fun q => q.elim hc3 (fun q => Int32.not_lt.mpr (by rw [hcl] at q; exact q) hc4)
          obtain ⟨i, hi, rfl⟩ := fg_not_b1 (F := fg_ww va j) (by omega) (fun q => q.elim hc3 (fun q => Int32.not_lt.mpr q hc4))
          have hci : (nI i).toNatClampNeg = i := nI_clamp (by omega)
          refine lv_iload_n hx hb dX0_weight_34 rfl (lv_at hl 3 rfl) ?_
          refine lv_if_lt (tgt := 44) hx hb dX0_weight_35 (by decide) (fun hc5 => ?_) (fun hc5 => ?_)
          · obtain ⟨e1, e2⟩ := fg_wr3 (we := we) n1 n2 (Or.inl hc5)
            refine lv_bipush (v := -3) hx hb dX0_weight_44 (by decide) ?_
            exact ret _ () _ _ _ _ dX0_weight_46 hS e1.symm (by rw [e2]; exact hP) (by rw [e2]; exact hD)
          · refine lv_iload_n hx hb dX0_weight_38 rfl (lv_at hl 3 rfl) ?_
            refine lv_bipush (v := nI 9) hx hb dX0_weight_39 (by decide) ?_
            refine lv_icmp_le (tgt := 47) hx hb dX0_weight_41 (by decide) (fun hc6 => ?_) (fun hc6 => ?_)
            · have n3 : ¬ fg_b3 w := fun q => q.elim hc5 (fun q => Int32.not_le.mpr q hc6)
              obtain ⟨e1, e2⟩ := fg_wr4 (we := we) n1 n2 n3
              rw [hcl, hci] at e1 e2
              refine lv_aload_n hx hb dX0_weight_47 rfl (lv_at hl 0 rfl) ?_
              refine gx_weights hx hb hts hown hK hP dX0_weight_48 ?_
              refine lv_iload_n hx hb dX0_weight_51 rfl (lv_at hl 1 rfl) ?_
              refine lv_bipush (v := nI 8) hx hb dX0_weight_52 (by decide) ?_
              refine fg_imul hx hb dX0_weight_54 ?_
              refine lv_iload_n hx hb dX0_weight_55 rfl (lv_at hl 2 rfl) ?_
              refine fg_iadd hx hb dX0_weight_56 ?_
              refine lx_weights hx hb hK hP (by omega) dX0_weight_57 ?_
              refine lv_istore (lv' := [(4, .int (we ((j * 8) + i))), (0, .ref (h 0)), (1, .int (nI j)), (2, .int (nI i)), (3, .int w)]) hx hb dX0_weight_58 hl (by decide) rfl (fun ls hl => ?_)
              refine lv_aload_n hx hb dX0_weight_60 rfl (lv_at hl 1 rfl) ?_
              refine gx_weights hx hb hts hown hK hP dX0_weight_61 ?_
              refine lv_iload_n hx hb dX0_weight_64 rfl (lv_at hl 2 rfl) ?_
              refine lv_bipush (v := nI 8) hx hb dX0_weight_65 (by decide) ?_
              refine fg_imul hx hb dX0_weight_67 ?_
              refine lv_iload_n hx hb dX0_weight_68 rfl (lv_at hl 3 rfl) ?_
              refine fg_iadd hx hb dX0_weight_69 ?_
              refine lv_iload_n hx hb dX0_weight_70 rfl (lv_at hl 4 rfl) ?_
              refine sx_weights hx hb hK hP hD hS (by omega) dX0_weight_71 (fun H locs hP hD hS => ?_)
              refine lv_iload hx hb dX0_weight_72 (lv_at hl 0 rfl) ?_
              exact ret _ () _ _ _ _ dX0_weight_74 hS e1.symm (by rw [e2]; exact hP) (by rw [e2]; exact hD)
            · obtain ⟨e1, e2⟩ := fg_wr3 (we := we) n1 n2 (Or.inr (Int32.not_le.mp hc6))
              refine lv_bipush (v := -3) hx hb dX0_weight_44 (by decide) ?_
              exact ret _ () _ _ _ _ dX0_weight_46 hS e1.symm (by rw [e2]; exact hP) (by rw [e2]; exact hD)
        · obtain ⟨e1, e2⟩ := fg_wr2 (we := we) (w := w) n1 (Or.inr (by rw [hcl]; exact Int32.not_lt.mp hc4))
          refine lv_bipush (v := -5) hx hb dX0_weight_31 (by decide) ?_
          exact ret _ () _ _ _ _ dX0_weight_33 hS e1.symm (by rw [e2]; exact hP) (by rw [e2]; exact hD)
    · obtain ⟨e1, e2⟩ := fg_wr1 (va := va) (we := we) (y := y) (w := w) (Or.inr (Int32.not_lt.mp hc2))
      refine lv_bipush (v := -2) hx hb dX0_weight_12 (by decide) ?_
      exact ret _ () _ _ _ _ dX0_weight_14 hS e1.symm (by rw [e2]; exact hP) (by rw [e2]; exact hD)

set_option maxHeartbeats 4000000 in
set_option maxRecDepth 100000 in
/-- evidence(v, x) -/
theorem fg_X_evidence {v x : Int32} : fg_Mi l yX0_evidence cX0_evidence 4 .int fg_rm_X0_evidence D [.ref (h 0), .int v, .int x] (fg_wX h dA dL fa ar va we gi fi tb sc ta) (fg_tX dA dL) (fun (r : Int32) (_ : Unit) => r = fg_er gi v x) (fun _ => fg_wX h dA dL fa ar va we (fg_eG gi v x) fi tb sc ta) := by
  refine fg_Mi_of (own := RX0) (by decide) rfl (Nat.le_of_ble_eq_true rfl) (fun _ _ _ => rfl) ?_
  intro p e s m args below meth c ls A Q hC hP hK hD hl hA hS ret
  obtain ⟨hx, hb, hr, hts, hown, hlocks, hml⟩ := hC
  have hl : lv_has ls 4 [(0, .ref (h 0)), (1, .int v), (2, .int x)] := hl
  refine lv_iload_n hx hb dX0_evidence_0 rfl (lv_at hl 1 rfl) ?_
  refine fg_cSi (As := [.int v]) (rest := []) ⟨hx, hb, hml, hown, hts⟩ (fg_X_bad (l := l) (x := v)) (va_cwS 1 hts (lw_S q61 q62 q17 q63) rfl rfl rfl fg_md_X0_bad ⟨Nat.le_of_ble_eq_true rfl, Nat.le_of_ble_eq_true rfl⟩) hK hP hS hA rfl hl.1 rfl (Nat.le_of_ble_eq_true rfl) dX0_evidence_1 ⟨Nat.zero_le _, Nat.zero_le _⟩ (fun r1 H locs hr1 hP hS => ?_)
  refine lv_if_eq (tgt := 9) hx hb dX0_evidence_4 (by decide) (fun hc1 => ?_) (fun hc1 => ?_)
  · have n1 : ¬ fg_bad v := (fg_ite0 hr1).mp hc1
    refine lv_iload_n hx hb dX0_evidence_9 rfl (lv_at hl 2 rfl) ?_
    refine lv_iconst (v := -1) hx hb dX0_evidence_10 (by decide) ?_
    refine lv_icmp_lt (tgt := 19) hx hb dX0_evidence_11 (by decide) (fun hc2 => ?_) (fun hc2 => ?_)
    · obtain ⟨e1, e2⟩ := fg_er2 (gi := gi) n1 (Or.inl hc2)
      refine lv_bipush (v := -5) hx hb dX0_evidence_19 (by decide) ?_
      exact ret _ () _ _ _ _ dX0_evidence_21 hS e1.symm (by rw [e2]; exact hP) (by rw [e2]; exact hD)
    · refine lv_iload_n hx hb dX0_evidence_14 rfl (lv_at hl 2 rfl) ?_
      refine lv_iconst (v := nI 1) hx hb dX0_evidence_15 (by decide) ?_
      refine lv_icmp_le (tgt := 22) hx hb dX0_evidence_16 (by decide) (fun hc3 => ?_) (fun hc3 => ?_)
      · have n2 : ¬ fg_e2 x := fun q => q.elim hc2 (fun q => Int32.not_le.mpr q hc3)
        obtain ⟨e1, e2⟩ := fg_er3 (gi := gi) n1 n2
        obtain ⟨j, hj, rfl⟩ := fg_notbad n1
        rw [nI_clamp (by omega)] at e1 e2
        refine lv_aload_n hx hb dX0_evidence_22 rfl (lv_at hl 0 rfl) ?_
        refine gx_given hx hb hts hown hK hP dX0_evidence_23 ?_
        refine lv_iload_n hx hb dX0_evidence_26 rfl (lv_at hl 1 rfl) ?_
        refine lx_given hx hb hK hP hj dX0_evidence_27 ?_
        refine lv_istore_n (lv' := [(3, .int (gi j)), (0, .ref (h 0)), (1, .int (nI j)), (2, .int x)]) hx hb dX0_evidence_28 rfl hl (by decide) rfl (fun ls hl => ?_)
        refine lv_aload_n hx hb dX0_evidence_29 rfl (lv_at hl 1 rfl) ?_
        refine gx_given hx hb hts hown hK hP dX0_evidence_30 ?_
        refine lv_iload_n hx hb dX0_evidence_33 rfl (lv_at hl 2 rfl) ?_
        refine lv_iload_n hx hb dX0_evidence_34 rfl (lv_at hl 3 rfl) ?_
        refine sx_given hx hb hK hP hD hS hj dX0_evidence_35 (fun H locs hP hD hS => ?_)
        refine lv_iload_n hx hb dX0_evidence_36 rfl (lv_at hl 0 rfl) ?_
        exact ret _ () _ _ _ _ dX0_evidence_37 hS e1.symm (by rw [e2]; exact hP) (by rw [e2]; exact hD)
      · obtain ⟨e1, e2⟩ := fg_er2 (gi := gi) n1 (Or.inr (Int32.not_le.mp hc3))
        refine lv_bipush (v := -5) hx hb dX0_evidence_19 (by decide) ?_
        exact ret _ () _ _ _ _ dX0_evidence_21 hS e1.symm (by rw [e2]; exact hP) (by rw [e2]; exact hD)
  · obtain ⟨e1, e2⟩ := fg_er1 (gi := gi) (x := x) (Decidable.byContradiction (fun q => hc1 ((fg_ite0 hr1).mpr q)) : fg_bad v)
    refine lv_iconst (v := -1) hx hb dX0_evidence_7 (by decide) ?_
    exact ret _ () _ _ _ _ dX0_evidence_8 hS e1.symm (by rw [e2]; exact hP) (by rw [e2]; exact hD)

set_option maxHeartbeats 4000000 in
set_option maxRecDepth 100000 in
/-- drop() -/
theorem fg_X_drop (hF : F ≤ 7) : fg_Mi l yX0_drop cX0_drop 1 .int fg_rm_X0_drop D [.ref (h 0)] (fg_wX h dA dL (nI F) ar va we gi fi tb sc ta) (fg_tX dA dL) (fun (r : Int32) (_ : Unit) => r = fg_dr F) (fun _ => fg_wX h dA dL (nI (F - 1)) ar va we gi fi tb sc ta) := by
  refine fg_Mi_of (own := RX0) (by decide) rfl (Nat.le_of_ble_eq_true rfl) (fun _ _ _ => rfl) ?_
  intro p e s m args below meth c ls A Q hC hP hK hD hl hA hS ret
  obtain ⟨hx, hb, hr, hts, hown, hlocks, hml⟩ := hC
  have hl : lv_has ls 1 [(0, .ref (h 0))] := hl
  refine lv_aload_n hx hb dX0_drop_0 rfl (lv_at hl 0 rfl) ?_
  refine gx_factors hx hb hts hown hK hP dX0_drop_1 ?_
  refine lv_if_ne (tgt := 10) hx hb dX0_drop_4 (by decide) (fun hc => ?_) (fun hc => ?_)
  · have h0 : ¬ F = 0 := fun q => hc (by rw [q]; exact nI_0)
    refine lv_aload_n hx hb dX0_drop_10 rfl (lv_at hl 0 rfl) ?_
    refine lv_dup hx hb dX0_drop_11 rfl ?_
    refine gx_factors hx hb hts hown hK hP dX0_drop_12 ?_
    refine lv_iconst (v := nI 1) hx hb dX0_drop_15 (by decide) ?_
    refine fg_isub (by omega) hx hb dX0_drop_16 ?_
    refine px_factors hx hb hts hown hK hP hD hS dX0_drop_17 (fun H locs hP hD hS => ?_)
    refine lv_aload_n hx hb dX0_drop_20 rfl (lv_at hl 0 rfl) ?_
    refine gx_factors hx hb hts hown hK hP dX0_drop_21 ?_
    exact ret _ () _ _ _ _ dX0_drop_24 hS (by unfold fg_dr; rw [if_neg h0]) hP hD
  · have h0 : F = 0 := (nI_eq (by omega) (by decide)).mp (hc.trans nI_0.symm)
    subst h0
    refine lv_bipush (v := -2) hx hb dX0_drop_7 (by decide) ?_
    exact ret _ () _ _ _ _ dX0_drop_9 hS rfl hP hD

end FGX4
end
section
/-! WHAT THE WALKS OF FactorGraphModel ask of plain numbers -/
theorem fg_wt_bt {ar va we gi : Nat → Int32} {F f m : Nat} (hI : fg_inv F ar va we gi) (hf : f < F) : we (f * 8 + fg_wy va (fg_bt m) f) = nI (fg_wt va we (fg_bt m) f) ∧ fg_wt va we (fg_bt m) f ≤ 9 ∧ fg_wy va (fg_bt m) f < 8 := by
  obtain ⟨hF, hff, hw, -⟩ := hI
  have h1 := fg_wt_we (fi := fun _ => -1) (m := m) (show f < 7 by omega) (hff f hf) hw (fun v _ => Or.inl rfl)
  have h2 := (fg_wp_3 (fg_sv_le (fi := fun _ => -1) (m := m) (hff f hf) (fun v _ => Or.inl rfl))).2
  rw [fg_vl_m1] at h1 h2
  exact ⟨h1.1, h1.2, h2⟩
theorem fg_sg0_s (g : Nat → Nat) (n : Nat) : fg_sg 0 g n + g n = fg_sg 0 g (n + 1) := rfl
theorem fg_sg0_k {g : Nat → Nat} {n : Nat} (h : g n = 0) : fg_sg 0 g n = fg_sg 0 g (n + 1) := by
  rw [← fg_sg0_s, h, Nat.add_zero]
theorem fg_sg0_v {g : Nat → Nat} {n v : Nat} (h : g n = v) : fg_sg 0 g n + v = fg_sg 0 g (n + 1) := by
  rw [← fg_sg0_s, h]
theorem fg_sg1_k {g : Nat → Nat} {n : Nat} (h : g n ≤ fg_sg 1 g n) : fg_sg 1 g n = fg_sg 1 g (n + 1) := by
  show _ = max (fg_sg 1 g n) (g n)
  rw [Nat.max_eq_left h]
theorem fg_sg1_v {g : Nat → Nat} {n : Nat} (h : ¬ g n ≤ fg_sg 1 g n) : g n = fg_sg 1 g (n + 1) := by
  show _ = max (fg_sg 1 g n) (g n)
  rw [Nat.max_eq_right (by omega)]
theorem fg_sv_pos {a : Nat → Nat} {x : Int32} (h : ¬ x < 0) : fg_sv a x = a x.toNatClampNeg := by
  unfold fg_sv
  rw [if_neg h]
def fg_gA (F : Nat) (va we gi : Nat → Int32) (x y : Int32) : Nat → Nat := fun m => if fg_bad x ∨ fg_bad y then 0 else if fg_bt m x.toNatClampNeg = fg_bt m y.toNatClampNeg then fg_wo F va we gi m else 0
theorem fg_gA_end {F : Nat} {va we gi : Nat → Int32} {x y : Int32} : lN (fg_sg 0 (fg_gA F va we gi x y) 128) = fg_aAlike F va we gi x y := by
  unfold fg_aAlike
  by_cases h : fg_bad x ∨ fg_bad y
  · have e : fg_sg 0 (fg_gA F va we gi x y) 128 = fg_sg 0 (fun _ => 0) 128 := fg_sg_congr (fun m _ => if_pos h)
    rw [if_pos h, e, fg_sg_zero]
  · have e : fg_sg 0 (fg_gA F va we gi x y) 128 = fg_sg 0 (fun m => if fg_bt m x.toNatClampNeg = fg_bt m y.toNatClampNeg then fg_wo F va we gi m else 0) 128 := fg_sg_congr (fun m _ => if_neg h)
    rw [if_neg h, e]
def fg_gB (F : Nat) (va we gi : Nat → Int32) (a b : Nat) : Nat → Nat := fun m => if fg_bt m a = 1 ∧ fg_bt m b = 1 then fg_wo F va we gi m else 0
def fg_gC (F : Nat) (va we gi : Nat → Int32) : Nat → Nat := fun m => if 0 < fg_wo F va we gi m then 1 else 0
def fg_gW (va we : Nat → Int32) (m : Nat) : Nat → Nat := fun f => fg_wq 0 (fg_wt va we (fg_bt m) f)
theorem fg_gW_s (va we : Nat → Int32) (m t : Nat) : fg_pf (fg_gW va we m) t * fg_wt va we (fg_bt m) t = fg_pf (fg_gW va we m) (t + 1) := by
  show _ = fg_pf (fg_gW va we m) t * fg_wq 0 (fg_wt va we (fg_bt m) t)
  rw [fg_wq0 (by decide)]
theorem fg_nge0 {y : Int32} (h1 : ¬ y < -1) (h2 : ¬ y = -1) : ¬ y < 0 := fun h => h2 (fg_m1_of h1 h)
end
section
abbrev fg_rm_X1_bad : Room := { frames := 0, cells := 0, slots := 0, locals := 0 }
theorem fg_md_X1_bad : yX1_bad.cls = RX1 ∧ yX1_bad.cls ≠ "java/lang/invoke/MethodHandle" ∧ yX1_bad.cls ≠ "java/lang/invoke/VarHandle" ∧ (parseMethodDescriptor yX1_bad.desc).map (fun d => d.parameters.length) = some 1 := by decide +kernel
abbrev fg_rm_X1_value : Room := { frames := 0, cells := 0, slots := 0, locals := 0 }
theorem fg_md_X1_value : yX1_value.cls = RX1 ∧ yX1_value.cls ≠ "java/lang/invoke/MethodHandle" ∧ yX1_value.cls ≠ "java/lang/invoke/VarHandle" ∧ (parseMethodDescriptor yX1_value.desc).map (fun d => d.parameters.length) = some 2 := by decide +kernel
abbrev fg_rm_X1_allowed : Room := { frames := 0, cells := 0, slots := 0, locals := 0 }
theorem fg_md_X1_allowed : yX1_allowed.cls = RX1 ∧ yX1_allowed.cls ≠ "java/lang/invoke/MethodHandle" ∧ yX1_allowed.cls ≠ "java/lang/invoke/VarHandle" ∧ (parseMethodDescriptor yX1_allowed.desc).map (fun d => d.parameters.length) = some 1 := by decide +kernel
abbrev fg_rm_X1_worth : Room := { frames := 1, cells := 0, slots := 0, locals := 22 }
theorem fg_md_X1_worth : yX1_worth.cls = RX1 ∧ yX1_worth.cls ≠ "java/lang/invoke/MethodHandle" ∧ yX1_worth.cls ≠ "java/lang/invoke/VarHandle" ∧ (parseMethodDescriptor yX1_worth.desc).map (fun d => d.parameters.length) = some 1 := by decide +kernel
abbrev fg_rm_X1_total : Room := { frames := 2, cells := 0, slots := 0, locals := 49 }
theorem fg_md_X1_total : yX1_total.cls = RX1 ∧ yX1_total.cls ≠ "java/lang/invoke/MethodHandle" ∧ yX1_total.cls ≠ "java/lang/invoke/VarHandle" ∧ (parseMethodDescriptor yX1_total.desc).map (fun d => d.parameters.length) = some 0 := by decide +kernel
abbrev fg_rm_X1_both : Room := { frames := 2, cells := 0, slots := 0, locals := 49 }
theorem fg_md_X1_both : yX1_both.cls = RX1 ∧ yX1_both.cls ≠ "java/lang/invoke/MethodHandle" ∧ yX1_both.cls ≠ "java/lang/invoke/VarHandle" ∧ (parseMethodDescriptor yX1_both.desc).map (fun d => d.parameters.length) = some 2 := by decide +kernel
abbrev fg_rm_X1_share : Room := { frames := 3, cells := 0, slots := 0, locals := 76 }
theorem fg_md_X1_share : yX1_share.cls = RX1 ∧ yX1_share.cls ≠ "java/lang/invoke/MethodHandle" ∧ yX1_share.cls ≠ "java/lang/invoke/VarHandle" ∧ (parseMethodDescriptor yX1_share.desc).map (fun d => d.parameters.length) = some 1 := by decide +kernel
abbrev fg_rm_X1_alike : Room := { frames := 2, cells := 0, slots := 0, locals := 49 }
theorem fg_md_X1_alike : yX1_alike.cls = RX1 ∧ yX1_alike.cls ≠ "java/lang/invoke/MethodHandle" ∧ yX1_alike.cls ≠ "java/lang/invoke/VarHandle" ∧ (parseMethodDescriptor yX1_alike.desc).map (fun d => d.parameters.length) = some 2 := by decide +kernel
abbrev fg_rm_X1_best : Room := { frames := 2, cells := 0, slots := 0, locals := 49 }
theorem fg_md_X1_best : yX1_best.cls = RX1 ∧ yX1_best.cls ≠ "java/lang/invoke/MethodHandle" ∧ yX1_best.cls ≠ "java/lang/invoke/VarHandle" ∧ (parseMethodDescriptor yX1_best.desc).map (fun d => d.parameters.length) = some 0 := by decide +kernel
abbrev fg_rm_X1_bestAssignment : Room := { frames := 3, cells := 0, slots := 0, locals := 74 }
theorem fg_md_X1_bestAssignment : yX1_bestAssignment.cls = RX1 ∧ yX1_bestAssignment.cls ≠ "java/lang/invoke/MethodHandle" ∧ yX1_bestAssignment.cls ≠ "java/lang/invoke/VarHandle" ∧ (parseMethodDescriptor yX1_bestAssignment.desc).map (fun d => d.parameters.length) = some 0 := by decide +kernel
abbrev fg_rm_X1_possible : Room := { frames := 2, cells := 0, slots := 0, locals := 49 }
theorem fg_md_X1_possible : yX1_possible.cls = RX1 ∧ yX1_possible.cls ≠ "java/lang/invoke/MethodHandle" ∧ yX1_possible.cls ≠ "java/lang/invoke/VarHandle" ∧ (parseMethodDescriptor yX1_possible.desc).map (fun d => d.parameters.length) = some 0 := by decide +kernel
abbrev fg_rm_X1_independent : Room := { frames := 4, cells := 0, slots := 0, locals := 97 }
theorem fg_md_X1_independent : yX1_independent.cls = RX1 ∧ yX1_independent.cls ≠ "java/lang/invoke/MethodHandle" ∧ yX1_independent.cls ≠ "java/lang/invoke/VarHandle" ∧ (parseMethodDescriptor yX1_independent.desc).map (fun d => d.parameters.length) = some 2 := by decide +kernel
abbrev fg_rm_X1_factor : Room := { frames := 1, cells := 0, slots := 0, locals := 21 }
theorem fg_md_X1_factor : yX1_factor.cls = RX1 ∧ yX1_factor.cls ≠ "java/lang/invoke/MethodHandle" ∧ yX1_factor.cls ≠ "java/lang/invoke/VarHandle" ∧ (parseMethodDescriptor yX1_factor.desc).map (fun d => d.parameters.length) = some 3 := by decide +kernel
abbrev fg_rm_X1_weight : Room := { frames := 0, cells := 0, slots := 0, locals := 0 }
theorem fg_md_X1_weight : yX1_weight.cls = RX1 ∧ yX1_weight.cls ≠ "java/lang/invoke/MethodHandle" ∧ yX1_weight.cls ≠ "java/lang/invoke/VarHandle" ∧ (parseMethodDescriptor yX1_weight.desc).map (fun d => d.parameters.length) = some 3 := by decide +kernel
abbrev fg_rm_X1_evidence : Room := { frames := 1, cells := 0, slots := 0, locals := 21 }
theorem fg_md_X1_evidence : yX1_evidence.cls = RX1 ∧ yX1_evidence.cls ≠ "java/lang/invoke/MethodHandle" ∧ yX1_evidence.cls ≠ "java/lang/invoke/VarHandle" ∧ (parseMethodDescriptor yX1_evidence.desc).map (fun d => d.parameters.length) = some 2 := by decide +kernel
abbrev fg_rm_X1_drop : Room := { frames := 0, cells := 0, slots := 0, locals := 0 }
theorem fg_md_X1_drop : yX1_drop.cls = RX1 ∧ yX1_drop.cls ≠ "java/lang/invoke/MethodHandle" ∧ yX1_drop.cls ≠ "java/lang/invoke/VarHandle" ∧ (parseMethodDescriptor yX1_drop.desc).map (fun d => d.parameters.length) = some 0 := by decide +kernel
section FGM
variable {l : Launch} {D : va_G} {g : Nat → Nat} {dA : ClassId} {F : Nat} {fa : Int32} {ar va we gi : Nat → Int32}
set_option maxHeartbeats 4000000 in
set_option maxRecDepth 100000 in
/-- bad(x) -/
theorem fg_M_bad {x : Int32} : fg_Ri l yX1_bad cX1_bad 2 .boolean fg_rm_X1_bad D [.ref (g 0), .int x] (fg_wM g dA (nI F) va we gi) (fg_tM dA) (fun r => r = if fg_bad x then 1 else 0) := by
  refine fg_Ri_of (own := RX1) (by decide) rfl (Nat.le_of_ble_eq_true rfl) (fun v hv => by rw [hv]; split <;> rfl) ?_
  intro p e s m args below meth c ls A Q hC hP hK hl hA hS ret
  obtain ⟨hx, hb, hr, hts, hown, hlocks, hml⟩ := hC
  have hl : lv_has ls 2 [(0, .ref (g 0)), (1, .int x)] := hl
  refine lv_iload_n hx hb dX1_bad_0 rfl (lv_at hl 1 rfl) ?_
  refine lv_if_lt (tgt := 10) hx hb dX1_bad_1 (by decide) (fun hc => ?_) (fun hc => ?_)
  · refine lv_iconst (v := nI 1) hx hb dX1_bad_10 (by decide) ?_
    refine lv_goto (tgt := 15) hx hb dX1_bad_11 (by decide) ?_
    exact ret _ _ _ _ _ dX1_bad_15 hS (by rw [if_pos (Or.inl hc)]; rfl)
  · refine lv_iload_n hx hb dX1_bad_4 rfl (lv_at hl 1 rfl) ?_
    refine lv_bipush (v := nI 6) hx hb dX1_bad_5 (by decide) ?_
    refine lv_icmp_le (tgt := 14) hx hb dX1_bad_7 (by decide) (fun hc2 => ?_) (fun hc2 => ?_)
    · refine lv_iconst (v := nI 0) hx hb dX1_bad_14 (by decide) ?_
      exact ret _ _ _ _ _ dX1_bad_15 hS (by rw [if_neg (fun z => z.elim hc (fg_le6.mp hc2))]; rfl)
    · refine lv_iconst (v := nI 1) hx hb dX1_bad_10 (by decide) ?_
      refine lv_goto (tgt := 15) hx hb dX1_bad_11 (by decide) ?_
      exact ret _ _ _ _ _ dX1_bad_15 hS (by rw [if_pos (Or.inr (Decidable.byContradiction (fun z => hc2 (fg_le6.mpr z))))]; rfl)

set_option maxHeartbeats 4000000 in
set_option maxRecDepth 100000 in
/-- value(mask, x) -/
theorem fg_M_value {mk : Nat} {x : Int32} (hmk : mk < 2 ^ 31) (hx1 : x = -1 ∨ ∃ j, j < 7 ∧ x = nI j) : fg_Ri l yX1_value cX1_value 3 .int fg_rm_X1_value D [.ref (g 0), .int (nI mk), .int x] (fg_wM g dA (nI F) va we gi) (fg_tM dA) (fun r => r = nI (fg_sv (fg_bt mk) x)) := by
  refine fg_Ri_of (own := RX1) (by decide) rfl (Nat.le_of_ble_eq_true rfl) (fun _ _ => rfl) ?_
  intro p e s m args below meth c ls A Q hC hP hK hl hA hS ret
  obtain ⟨hx, hb, hr, hts, hown, hlocks, hml⟩ := hC
  have hl : lv_has ls 3 [(0, .ref (g 0)), (1, .int (nI mk)), (2, .int x)] := hl
  refine lv_iload_n hx hb dX1_value_0 rfl (lv_at hl 2 rfl) ?_
  refine lv_if_ge (tgt := 8) hx hb dX1_value_1 (by decide) (fun hc => ?_) (fun hc => ?_)
  · obtain ⟨j, hj, rfl⟩ : ∃ j, j < 7 ∧ x = nI j := hx1.resolve_left (fun z => by rw [z] at hc; exact absurd hc (by decide))
    refine lv_iload_n hx hb dX1_value_8 rfl (lv_at hl 1 rfl) ?_
    refine lv_iload_n hx hb dX1_value_9 rfl (lv_at hl 2 rfl) ?_
    refine fg_ishr hmk (by omega) hx hb dX1_value_10 ?_
    refine lv_iconst (v := nI 1) hx hb dX1_value_11 (by decide) ?_
    refine fg_ibt hx hb dX1_value_12 ?_
    exact ret _ _ _ _ _ dX1_value_13 hS (by rw [fg_sv_n _ (by omega)])
  · refine lv_iconst (v := nI 0) hx hb dX1_value_4 (by decide) ?_
    refine lv_goto (tgt := 13) hx hb dX1_value_5 (by decide) ?_
    exact ret _ _ _ _ _ dX1_value_13 hS (by unfold fg_sv; rw [if_pos (Int32.not_le.mp hc)])

set_option maxHeartbeats 4000000 in
set_option maxRecDepth 100000 in
/-- allowed(mask) -/
theorem fg_M_allowed {mk : Nat} (hmk : mk < 2 ^ 31) : fg_Ri l yX1_allowed cX1_allowed 3 .boolean fg_rm_X1_allowed D [.ref (g 0), .int (nI mk)] (fg_wM g dA (nI F) va we gi) (fg_tM dA) (fun r => r = if fg_al gi mk 7 = true then 1 else 0) := by
  refine fg_Ri_of (own := RX1) (by decide) rfl (Nat.le_of_ble_eq_true rfl) (fun v hv => by rw [hv]; split <;> rfl) ?_
  intro p e s m args below meth c ls A Q hC hP hK hl hA hS ret
  obtain ⟨hx, hb, hr, hts, hown, hlocks, hml⟩ := hC
  have hl : lv_has ls 3 [(0, .ref (g 0)), (1, .int (nI mk))] := hl
  have loop : ∀ (k i : Nat), i ≤ 7 → 7 < i + k → fg_al gi mk i = true → ∀ (ls : Array Slot), lv_has ls 3 [(0, .ref (g 0)), (1, .int (nI mk)), (2, .int (nI i))] → W p l e fg_rm_X1_allowed s m args below meth c s.heap [] 0 0 Q (F0 m 2 ls []) := by
    intro k
    induction k with
    | zero => intro i h1 h2; exact absurd h2 (by omega)
    | succ k ih =>
      intro i hi hk hal ls hl
      refine lv_iload_n hx hb dX1_allowed_2 rfl (lv_at hl 2 rfl) ?_
      refine lv_bipush (v := nI 7) hx hb dX1_allowed_3 (by decide) ?_
      refine fg_ige (tgt := 39) hx hb dX1_allowed_5 (by decide) (by omega) (by omega) (fun hc => ?_) (fun hc => ?_)
      · have hi7 : i = 7 := by omega
        subst hi7
        refine lv_iconst (v := nI 1) hx hb dX1_allowed_39 (by decide) ?_
        exact ret _ _ _ _ _ dX1_allowed_40 hS (by rw [if_pos hal]; rfl)
      · refine lv_aload_n hx hb dX1_allowed_8 rfl (lv_at hl 0 rfl) ?_
        refine gm_fixed hx hb hts hown hK hP dX1_allowed_9 ?_
        refine lv_iload_n hx hb dX1_allowed_12 rfl (lv_at hl 2 rfl) ?_
        refine lm_fixed hx hb hK hP hc dX1_allowed_13 ?_
        refine lv_if_lt (tgt := 33) hx hb dX1_allowed_14 (by decide) (fun hc1 => ?_) (fun hc1 => ?_)
        · refine lv_iinc (v := nI (i + 1)) (lv' := [(2, .int (nI (i + 1))), (0, .ref (g 0)), (1, .int (nI mk))]) hx hb dX1_allowed_33 hl (k := 2) rfl (fg_inc _) (by decide) rfl (fun ls hl => ?_)
          refine lv_goto (tgt := 2) hx hb dX1_allowed_36 (by decide) ?_
          exact ih (i + 1) (by omega) (by omega) (by show (fg_al gi mk i && decide (gi i < 0 ∨ gi i = nI (fg_bt mk i))) = true; rw [hal, decide_eq_true (Or.inl hc1)]; rfl) ls (lv_sub hl [1, 2, 0] rfl)
        · refine lv_aload_n hx hb dX1_allowed_17 rfl (lv_at hl 0 rfl) ?_
          refine gm_fixed hx hb hts hown hK hP dX1_allowed_18 ?_
          refine lv_iload_n hx hb dX1_allowed_21 rfl (lv_at hl 2 rfl) ?_
          refine lm_fixed hx hb hK hP hc dX1_allowed_22 ?_
          refine lv_iload_n hx hb dX1_allowed_23 rfl (lv_at hl 1 rfl) ?_
          refine lv_iload_n hx hb dX1_allowed_24 rfl (lv_at hl 2 rfl) ?_
          refine fg_ishr hmk (by omega) hx hb dX1_allowed_25 ?_
          refine lv_iconst (v := nI 1) hx hb dX1_allowed_26 (by decide) ?_
          refine fg_ibt hx hb dX1_allowed_27 ?_
          refine lv_icmp_eq (tgt := 33) hx hb dX1_allowed_28 (by decide) (fun hc2 => ?_) (fun hc2 => ?_)
          · refine lv_iinc (v := nI (i + 1)) (lv' := [(2, .int (nI (i + 1))), (0, .ref (g 0)), (1, .int (nI mk))]) hx hb dX1_allowed_33 hl (k := 2) rfl (fg_inc _) (by decide) rfl (fun ls hl => ?_)
            refine lv_goto (tgt := 2) hx hb dX1_allowed_36 (by decide) ?_
            exact ih (i + 1) (by omega) (by omega) (by show (fg_al gi mk i && decide (gi i < 0 ∨ gi i = nI (fg_bt mk i))) = true; rw [hal, decide_eq_true (Or.inr hc2)]; rfl) ls (lv_sub hl [1, 2, 0] rfl)
          · refine lv_iconst (v := nI 0) hx hb dX1_allowed_31 (by decide) ?_
            exact ret _ _ _ _ _ dX1_allowed_32 hS (by rw [if_neg (fun z => ((fg_al_iff gi mk 7).mp z i hc).elim hc1 hc2)]; rfl)
  refine lv_iconst (v := nI 0) hx hb dX1_allowed_0 (by decide) ?_
  refine lv_istore_n (lv' := [(2, .int (nI 0)), (0, .ref (g 0)), (1, .int (nI mk))]) hx hb dX1_allowed_1 rfl hl (by decide) rfl (fun ls hl => ?_)
  exact loop 8 0 (by omega) (by omega) rfl ls (lv_sub hl [1, 2, 0] rfl)

set_option maxHeartbeats 4000000 in
set_option maxRecDepth 100000 in
/-- worth(mask) -/
theorem fg_M_worth {mk : Nat} (hmk : mk < 2 ^ 31) (hI : fg_inv F ar va we gi) : fg_Rl l yX1_worth cX1_worth 8 fg_rm_X1_worth D [.ref (g 0), .int (nI mk)] (fg_wM g dA (nI F) va we gi) (fg_tM dA) (fun r => r = lN (fg_wo F va we gi mk)) := by
  refine fg_Rl_of (own := RX1) (by decide) rfl (Nat.le_of_ble_eq_true rfl) ?_
  intro p e s m args below meth c ls A Q hC hP hK hl hA hS ret
  obtain ⟨hx, hb, hr, hts, hown, hlocks, hml⟩ := hC
  have hl : lv_has ls 8 [(0, .ref (g 0)), (1, .int (nI mk))] := hl
  obtain ⟨hF7, hff, hww, -⟩ := id hI
  refine lv_aload_n hx hb dX1_worth_0 rfl (lv_at hl 0 rfl) ?_
  refine lv_iload_n hx hb dX1_worth_1 rfl (lv_at hl 1 rfl) ?_
  refine fg_cVi (a := g 0) (As := [.int (nI mk)]) (rest := []) (ci := 1) (q := (RX1, TX1, 4)) ⟨hx, hb, hml, hown, hts⟩ (fg_M_allowed (l := l) hmk) (cwV 1 hts (lw_V q198 q200 qs13 q18 q201) rfl rfl rfl fg_md_X1_allowed ⟨Nat.le_of_ble_eq_true rfl, Nat.le_of_ble_eq_true rfl⟩) rfl rfl hK hP hP hS hA rfl hl.1 rfl (Nat.le_of_ble_eq_true rfl) dX1_worth_2 ⟨Nat.zero_le _, Nat.zero_le _⟩ (fun r H locs hr1 hP hS => ?_)
  refine lv_if_ne (tgt := 10) hx hb dX1_worth_5 (by decide) (fun hc0 => ?_) (fun hc0 => ?_)
  · have hal : fg_al gi mk 7 = true := Decidable.byContradiction (fun z => hc0 ((fg_ite0 hr1).mpr z))
    have loop : ∀ (k t : Nat), t ≤ F → F < t + k → ∀ (H : Heap) (locs : List Loc), va_P D vwCl (fg_wM g dA (nI F) va we gi) H → va_S A s.heap H locs → ∀ (ls : Array Slot), lv_has ls 8 [(0, .ref (g 0)), (1, .int (nI mk)), (2, .long (lN (fg_pf (fg_gW va we mk) t))), (4, .int (nI t))] → W p l e fg_rm_X1_worth s m args below meth c H locs 0 0 Q (F0 m 15 ls []) := by
      intro k
      induction k with
      | zero => intro t h1 h2; exact absurd h2 (by omega)
      | succ k ih =>
        intro t ht hk H locs hP hS ls hl
        refine lv_iload hx hb dX1_worth_15 (lv_at hl 3 rfl) ?_
        refine lv_aload_n hx hb dX1_worth_17 rfl (lv_at hl 0 rfl) ?_
        refine gm_factors hx hb hts hown hK hP dX1_worth_18 ?_
        refine fg_ige (tgt := 109) hx hb dX1_worth_21 (by decide) (by omega) (by omega) (fun hc => ?_) (fun hc => ?_)
        · have htF : t = F := by omega
          subst htF
          refine lv_lload_n hx hb dX1_worth_109 rfl (lv_at hl 2 rfl) ?_
          exact ret _ _ _ _ _ dX1_worth_110 hS (by unfold fg_wo fg_hh; rw [if_pos hal]; rfl)
        · obtain ⟨hw1, hw9, hw8⟩ := fg_wt_bt (m := mk) hI hc
          have hs0 := fg_fok_slot (hff t hc) (i := 0) (by decide)
          rw [Nat.add_zero] at hs0
          refine lv_aload_n hx hb dX1_worth_24 rfl (lv_at hl 0 rfl) ?_
          refine lv_iload_n hx hb dX1_worth_25 rfl (lv_at hl 1 rfl) ?_
          refine lv_aload_n hx hb dX1_worth_26 rfl (lv_at hl 0 rfl) ?_
          refine gm_vars hx hb hts hown hK hP dX1_worth_27 ?_
          refine lv_iload hx hb dX1_worth_30 (lv_at hl 3 rfl) ?_
          refine lv_iconst (v := nI 3) hx hb dX1_worth_32 (by decide) ?_
          refine fg_imul hx hb dX1_worth_33 ?_
          refine lm_vars hx hb hK hP (by omega) dX1_worth_34 ?_
          refine fg_cVi (a := g 0) (As := [.int (nI mk), .int (va (t * 3))]) (rest := []) (ci := 1) (q := (RX1, TX1, 4)) ⟨hx, hb, hml, hown, hts⟩ (fg_M_value (l := l) hmk hs0) (cwV 2 hts (lw_V q202 q204 qs14 q18 q205) rfl rfl rfl fg_md_X1_value ⟨Nat.le_of_ble_eq_true rfl, Nat.le_of_ble_eq_true rfl⟩) rfl rfl hK hP hP hS hA rfl hl.1 rfl (Nat.le_of_ble_eq_true rfl) dX1_worth_35 ⟨Nat.zero_le _, Nat.zero_le _⟩ (fun r H locs hr1 hP hS => ?_)
          subst hr1
          refine lv_istore (lv' := [(5, .int (nI (fg_sv (fg_bt mk) (va (t * 3))))), (0, .ref (g 0)), (1, .int (nI mk)), (2, .long (lN (fg_pf (fg_gW va we mk) t))), (4, .int (nI t))]) hx hb dX1_worth_38 hl (by decide) rfl (fun ls hl => ?_)
          refine lv_aload_n hx hb dX1_worth_40 rfl (lv_at hl 1 rfl) ?_
          refine lv_iload_n hx hb dX1_worth_41 rfl (lv_at hl 2 rfl) ?_
          refine lv_aload_n hx hb dX1_worth_42 rfl (lv_at hl 1 rfl) ?_
          refine gm_vars hx hb hts hown hK hP dX1_worth_43 ?_
          refine lv_iload hx hb dX1_worth_46 (lv_at hl 4 rfl) ?_
          refine lv_iconst (v := nI 3) hx hb dX1_worth_48 (by decide) ?_
          refine fg_imul hx hb dX1_worth_49 ?_
          refine lv_iconst (v := nI 1) hx hb dX1_worth_50 (by decide) ?_
          refine fg_iadd hx hb dX1_worth_51 ?_
          refine lm_vars hx hb hK hP (by omega) dX1_worth_52 ?_
          refine fg_cVi (a := g 0) (As := [.int (nI mk), .int (va ((t * 3) + 1))]) (rest := []) (ci := 1) (q := (RX1, TX1, 4)) ⟨hx, hb, hml, hown, hts⟩ (fg_M_value (l := l) hmk (fg_fok_slot (hff t hc) (i := 1) (by decide))) (cwV 2 hts (lw_V q202 q204 qs14 q18 q205) rfl rfl rfl fg_md_X1_value ⟨Nat.le_of_ble_eq_true rfl, Nat.le_of_ble_eq_true rfl⟩) rfl rfl hK hP hP hS hA rfl hl.1 rfl (Nat.le_of_ble_eq_true rfl) dX1_worth_53 ⟨Nat.zero_le _, Nat.zero_le _⟩ (fun r H locs hr1 hP hS => ?_)
          subst hr1
          refine lv_istore (lv' := [(6, .int (nI (fg_sv (fg_bt mk) (va (t * 3 + 1))))), (5, .int (nI (fg_sv (fg_bt mk) (va (t * 3))))), (0, .ref (g 0)), (1, .int (nI mk)), (2, .long (lN (fg_pf (fg_gW va we mk) t))), (4, .int (nI t))]) hx hb dX1_worth_56 hl (by decide) rfl (fun ls hl => ?_)
          refine lv_aload_n hx hb dX1_worth_58 rfl (lv_at hl 2 rfl) ?_
          refine lv_iload_n hx hb dX1_worth_59 rfl (lv_at hl 3 rfl) ?_
          refine lv_aload_n hx hb dX1_worth_60 rfl (lv_at hl 2 rfl) ?_
          refine gm_vars hx hb hts hown hK hP dX1_worth_61 ?_
          refine lv_iload hx hb dX1_worth_64 (lv_at hl 5 rfl) ?_
          refine lv_iconst (v := nI 3) hx hb dX1_worth_66 (by decide) ?_
          refine fg_imul hx hb dX1_worth_67 ?_
          refine lv_iconst (v := nI 2) hx hb dX1_worth_68 (by decide) ?_
          refine fg_iadd hx hb dX1_worth_69 ?_
          refine lm_vars hx hb hK hP (by omega) dX1_worth_70 ?_
          refine fg_cVi (a := g 0) (As := [.int (nI mk), .int (va ((t * 3) + 2))]) (rest := []) (ci := 1) (q := (RX1, TX1, 4)) ⟨hx, hb, hml, hown, hts⟩ (fg_M_value (l := l) hmk (fg_fok_slot (hff t hc) (i := 2) (by decide))) (cwV 2 hts (lw_V q202 q204 qs14 q18 q205) rfl rfl rfl fg_md_X1_value ⟨Nat.le_of_ble_eq_true rfl, Nat.le_of_ble_eq_true rfl⟩) rfl rfl hK hP hP hS hA rfl hl.1 rfl (Nat.le_of_ble_eq_true rfl) dX1_worth_71 ⟨Nat.zero_le _, Nat.zero_le _⟩ (fun r H locs hr1 hP hS => ?_)
          subst hr1
          refine lv_istore (lv' := [(7, .int (nI (fg_sv (fg_bt mk) (va (t * 3 + 2))))), (6, .int (nI (fg_sv (fg_bt mk) (va (t * 3 + 1))))), (5, .int (nI (fg_sv (fg_bt mk) (va (t * 3))))), (0, .ref (g 0)), (1, .int (nI mk)), (2, .long (lN (fg_pf (fg_gW va we mk) t))), (4, .int (nI t))]) hx hb dX1_worth_74 hl (by decide) rfl (fun ls hl => ?_)
          refine lv_lload_n hx hb dX1_worth_76 rfl (lv_at hl 5 rfl) ?_
          refine lv_aload_n hx hb dX1_worth_77 rfl (lv_at hl 3 rfl) ?_
          refine gm_weights hx hb hts hown hK hP dX1_worth_78 ?_
          refine lv_iload hx hb dX1_worth_81 (lv_at hl 6 rfl) ?_
          refine lv_bipush (v := nI 8) hx hb dX1_worth_83 (by decide) ?_
          refine fg_imul hx hb dX1_worth_85 ?_
          refine lv_iload hx hb dX1_worth_86 (lv_at hl 2 rfl) ?_
          refine fg_iadd hx hb dX1_worth_88 ?_
          refine lv_iconst (v := nI 2) hx hb dX1_worth_89 (by decide) ?_
          refine lv_iload hx hb dX1_worth_90 (lv_at hl 1 rfl) ?_
          refine fg_imul hx hb dX1_worth_92 ?_
          refine fg_iadd hx hb dX1_worth_93 ?_
          refine lv_iconst (v := nI 4) hx hb dX1_worth_94 (by decide) ?_
          refine lv_iload hx hb dX1_worth_95 (lv_at hl 0 rfl) ?_
          refine fg_imul hx hb dX1_worth_97 ?_
          refine fg_iadd hx hb dX1_worth_98 ?_
          refine fg_top (y := nI (t * 8 + fg_wy va (fg_bt mk) t)) (congrArg nI (by unfold fg_wy; omega)) ?_
          refine lm_weights hx hb hK hP (by omega) dX1_worth_99 ?_
          refine fg_top (y := nI (fg_wt va we (fg_bt mk) t)) hw1 ?_
          refine lv_i2l (v := lN (fg_wt va we (fg_bt mk) t)) hx hb dX1_worth_100 (nI_l (by omega)) ?_
          refine fg_lmul hx hb dX1_worth_101 ?_
          refine lv_lstore_n (lv' := [(2, .long (lN ((fg_pf (fg_gW va we mk) t) * (fg_wt va we (fg_bt mk) t)))), (7, .int (nI (fg_sv (fg_bt mk) (va (t * 3 + 2))))), (6, .int (nI (fg_sv (fg_bt mk) (va (t * 3 + 1))))), (5, .int (nI (fg_sv (fg_bt mk) (va (t * 3))))), (0, .ref (g 0)), (1, .int (nI mk)), (4, .int (nI t))]) hx hb dX1_worth_102 rfl hl (by decide) rfl (fun ls hl => ?_)
          rw [fg_gW_s] at hl
          refine lv_iinc (v := nI (t + 1)) (lv' := [(4, .int (nI (t + 1))), (2, .long (lN (fg_pf (fg_gW va we mk) (t + 1)))), (7, .int (nI (fg_sv (fg_bt mk) (va (t * 3 + 2))))), (6, .int (nI (fg_sv (fg_bt mk) (va (t * 3 + 1))))), (5, .int (nI (fg_sv (fg_bt mk) (va (t * 3))))), (0, .ref (g 0)), (1, .int (nI mk))]) hx hb dX1_worth_103 hl (k := 6) rfl (fg_inc _) (by decide) rfl (fun ls hl => ?_)
          refine lv_goto (tgt := 15) hx hb dX1_worth_106 (by decide) ?_
          exact ih (t + 1) (by omega) (by omega) _ _ hP hS ls (lv_sub hl [5, 6, 1, 0] rfl)
    refine lv_lconst (v := lN 1) hx hb dX1_worth_10 rfl ?_
    refine lv_lstore_n (lv' := [(2, .long (lN 1)), (0, .ref (g 0)), (1, .int (nI mk))]) hx hb dX1_worth_11 rfl hl (by decide) rfl (fun ls hl => ?_)
    refine lv_iconst (v := nI 0) hx hb dX1_worth_12 (by decide) ?_
    refine lv_istore (lv' := [(4, .int (nI 0)), (2, .long (lN 1)), (0, .ref (g 0)), (1, .int (nI mk))]) hx hb dX1_worth_13 hl (by decide) rfl (fun ls hl => ?_)
    exact loop (F + 1) 0 (by omega) (by omega) _ _ hP hS ls (lv_sub hl [2, 3, 1, 0] rfl)
  · have hal := (fg_ite0 hr1).mp hc0
    refine lv_lconst (v := lN 0) hx hb dX1_worth_8 rfl ?_
    exact ret _ _ _ _ _ dX1_worth_9 hS (by unfold fg_wo; rw [if_neg hal])

set_option maxHeartbeats 4000000 in
set_option maxRecDepth 100000 in
/-- total -/
theorem fg_M_total (hI : fg_inv F ar va we gi) : fg_Rl l yX1_total cX1_total 6 fg_rm_X1_total D [.ref (g 0)] (fg_wM g dA (nI F) va we gi) (fg_tM dA) (fun r => r = lN (fg_aTotal F va we gi)) := by
  refine fg_Rl_of (own := RX1) (by decide) rfl (Nat.le_of_ble_eq_true rfl) ?_
  intro p e s m args below meth c ls A Q hC hP hK hl hA hS ret
  obtain ⟨hx, hb, hr, hts, hown, hlocks, hml⟩ := hC
  have hl : lv_has ls 6 [(0, .ref (g 0))] := hl
  have loop : ∀ (n k : Nat), k ≤ 128 → 128 < k + n → ∀ (H : Heap) (locs : List Loc), va_P D vwCl (fg_wM g dA (nI F) va we gi) H → va_S A s.heap H locs → ∀ (ls : Array Slot), lv_has ls 6 [(0, .ref (g 0)), (1, .long (lN (fg_sg 0 (fg_wo F va we gi) k))), (3, .int (nI k))] → W p l e fg_rm_X1_total s m args below meth c H locs 0 0 Q (F0 m 4 ls []) := by
    intro n
    induction n with
    | zero => intro k h1 h2; exact absurd h2 (by omega)
    | succ n ih =>
      intro k hk hn H locs hP hS ls hl
      refine lv_iload_n hx hb dX1_total_4 rfl (lv_at hl 2 rfl) ?_
      refine lv_sipush (v := nI 128) hx hb dX1_total_5 (by decide) ?_
      refine fg_ige (tgt := 29) hx hb dX1_total_8 (by decide) (by omega) (by omega) (fun hc => ?_) (fun hc => ?_)
      · have hk8 : k = 128 := by omega
        subst hk8
        refine lv_lload_n hx hb dX1_total_29 rfl (lv_at hl 1 rfl) ?_
        exact ret _ _ _ _ _ dX1_total_30 hS rfl
      · refine lv_aload_n hx hb dX1_total_11 rfl (lv_at hl 0 rfl) ?_
        refine lv_iload_n hx hb dX1_total_12 rfl (lv_at hl 2 rfl) ?_
        refine fg_cVl (a := g 0) (As := [.int (nI k)]) (rest := []) (ci := 1) (q := (RX1, TX1, 4)) ⟨hx, hb, hml, hown, hts⟩ (fg_M_worth (l := l) (mk := k) (by omega) hI) (cwV 1 hts (lw_V q194 q196 qs12 q18 q197) rfl rfl rfl fg_md_X1_worth ⟨Nat.le_of_ble_eq_true rfl, Nat.le_of_ble_eq_true rfl⟩) rfl rfl hK hP hP hS hA rfl hl.1 rfl (Nat.le_of_ble_eq_true rfl) dX1_total_13 ⟨Nat.zero_le _, Nat.zero_le _⟩ (fun r H locs hr1 hP hS => ?_)
        subst hr1
        refine lv_lstore (lv' := [(4, .long (lN (fg_wo F va we gi k))), (0, .ref (g 0)), (1, .long (lN (fg_sg 0 (fg_wo F va we gi) k))), (3, .int (nI k))]) hx hb dX1_total_16 hl (by decide) rfl (fun ls hl => ?_)
        refine lv_lload_n hx hb dX1_total_18 rfl (lv_at hl 2 rfl) ?_
        refine lv_lload hx hb dX1_total_19 (lv_at hl 0 rfl) ?_
        refine fg_ladd hx hb dX1_total_21 ?_
        refine lv_lstore_n (lv' := [(1, .long (lN ((fg_sg 0 (fg_wo F va we gi) k) + (fg_wo F va we gi k)))), (4, .long (lN (fg_wo F va we gi k))), (0, .ref (g 0)), (3, .int (nI k))]) hx hb dX1_total_22 rfl hl (by decide) rfl (fun ls hl => ?_)
        rw [fg_sg0_s] at hl
        refine lv_iinc (v := nI (k + 1)) (lv' := [(3, .int (nI (k + 1))), (1, .long (lN (fg_sg 0 (fg_wo F va we gi) (k + 1)))), (4, .long (lN (fg_wo F va we gi k))), (0, .ref (g 0))]) hx hb dX1_total_23 hl (k := 3) rfl (fg_inc _) (by decide) rfl (fun ls hl => ?_)
        refine lv_goto (tgt := 4) hx hb dX1_total_26 (by decide) ?_
        exact ih (k + 1) (by omega) (by omega) _ _ hP hS ls (lv_sub hl [3, 1, 0] rfl)
  refine lv_lconst (v := lN 0) hx hb dX1_total_0 rfl ?_
  refine lv_lstore_n (lv' := [(1, .long (lN 0)), (0, .ref (g 0))]) hx hb dX1_total_1 rfl hl (by decide) rfl (fun ls hl => ?_)
  refine lv_iconst (v := nI 0) hx hb dX1_total_2 (by decide) ?_
  refine lv_istore_n (lv' := [(3, .int (nI 0)), (1, .long (lN 0)), (0, .ref (g 0))]) hx hb dX1_total_3 rfl hl (by decide) rfl (fun ls hl => ?_)
  exact loop 129 0 (by omega) (by omega) _ _ hP hS ls (lv_sub hl [2, 1, 0] rfl)

set_option maxHeartbeats 4000000 in
set_option maxRecDepth 100000 in
/-- both -/
theorem fg_M_both {a b : Nat} (hva : a < 7) (hvb : b < 7) (hI : fg_inv F ar va we gi) : fg_Rl l yX1_both cX1_both 8 fg_rm_X1_both D [.ref (g 0), .int (nI a), .int (nI b)] (fg_wM g dA (nI F) va we gi) (fg_tM dA) (fun r => r = lN (fg_s2 F va we gi a 1 b 1)) := by
  refine fg_Rl_of (own := RX1) (by decide) rfl (Nat.le_of_ble_eq_true rfl) ?_
  intro p e s m args below meth c ls A Q hC hP hK hl hA hS ret
  obtain ⟨hx, hb, hr, hts, hown, hlocks, hml⟩ := hC
  have hl : lv_has ls 8 [(0, .ref (g 0)), (1, .int (nI a)), (2, .int (nI b))] := hl
  have loop : ∀ (n k : Nat), k ≤ 128 → 128 < k + n → ∀ (H : Heap) (locs : List Loc), va_P D vwCl (fg_wM g dA (nI F) va we gi) H → va_S A s.heap H locs → ∀ (ls : Array Slot), lv_has ls 8 [(0, .ref (g 0)), (1, .int (nI a)), (2, .int (nI b)), (3, .long (lN (fg_sg 0 (fg_gB F va we gi a b) k))), (5, .int (nI k))] → W p l e fg_rm_X1_both s m args below meth c H locs 0 0 Q (F0 m 5 ls []) := by
    intro n
    induction n with
    | zero => intro k h1 h2; exact absurd h2 (by omega)
    | succ n ih =>
      intro k hk hn H locs hP hS ls hl
      refine lv_iload hx hb dX1_both_5 (lv_at hl 4 rfl) ?_
      refine lv_sipush (v := nI 128) hx hb dX1_both_7 (by decide) ?_
      refine fg_ige (tgt := 54) hx hb dX1_both_10 (by decide) (by omega) (by omega) (fun hc => ?_) (fun hc => ?_)
      · have hk8 : k = 128 := by omega
        subst hk8
        refine lv_lload_n hx hb dX1_both_54 rfl (lv_at hl 3 rfl) ?_
        exact ret _ _ _ _ _ dX1_both_55 hS rfl
      · have hb1 := fg_bt_le k a
        have hb2 := fg_bt_le k b
        refine lv_aload_n hx hb dX1_both_13 rfl (lv_at hl 0 rfl) ?_
        refine lv_iload hx hb dX1_both_14 (lv_at hl 4 rfl) ?_
        refine lv_iload_n hx hb dX1_both_16 rfl (lv_at hl 1 rfl) ?_
        refine fg_cVi (a := g 0) (As := [.int (nI k), .int (nI a)]) (rest := []) (ci := 1) (q := (RX1, TX1, 4)) ⟨hx, hb, hml, hown, hts⟩ (fg_M_value (l := l) (mk := k) (by omega) (Or.inr ⟨a, hva, rfl⟩)) (cwV 2 hts (lw_V q202 q204 qs14 q18 q205) rfl rfl rfl fg_md_X1_value ⟨Nat.le_of_ble_eq_true rfl, Nat.le_of_ble_eq_true rfl⟩) rfl rfl hK hP hP hS hA rfl hl.1 rfl (Nat.le_of_ble_eq_true rfl) dX1_both_17 ⟨Nat.zero_le _, Nat.zero_le _⟩ (fun r H locs hr1 hP hS => ?_)
        subst hr1
        refine fg_top (y := nI (fg_bt k a)) (congrArg nI (fg_sv_n _ (by omega))) ?_
        refine lv_iconst (v := nI 1) hx hb dX1_both_20 (by decide) ?_
        refine fg_ine (tgt := 48) hx hb dX1_both_21 (by decide) (by omega) (by omega) (fun hc1 => ?_) (fun hc1 => ?_)
        · rw [fg_sg0_k (g := fg_gB F va we gi a b) (n := k) (if_neg (fun z => hc1 z.1))] at hl
          refine lv_iinc (v := nI (k + 1)) (lv' := [(5, .int (nI (k + 1))), (0, .ref (g 0)), (1, .int (nI a)), (2, .int (nI b)), (3, .long (lN (fg_sg 0 (fg_gB F va we gi a b) (k + 1))))]) hx hb dX1_both_48 hl (k := 4) rfl (fg_inc _) (by decide) rfl (fun ls hl => ?_)
          refine lv_goto (tgt := 5) hx hb dX1_both_51 (by decide) ?_
          exact ih (k + 1) (by omega) (by omega) _ _ hP hS ls (lv_sub hl [1, 2, 3, 4, 0] rfl)
        · refine lv_aload_n hx hb dX1_both_24 rfl (lv_at hl 0 rfl) ?_
          refine lv_iload hx hb dX1_both_25 (lv_at hl 4 rfl) ?_
          refine lv_iload_n hx hb dX1_both_27 rfl (lv_at hl 2 rfl) ?_
          refine fg_cVi (a := g 0) (As := [.int (nI k), .int (nI b)]) (rest := []) (ci := 1) (q := (RX1, TX1, 4)) ⟨hx, hb, hml, hown, hts⟩ (fg_M_value (l := l) (mk := k) (by omega) (Or.inr ⟨b, hvb, rfl⟩)) (cwV 2 hts (lw_V q202 q204 qs14 q18 q205) rfl rfl rfl fg_md_X1_value ⟨Nat.le_of_ble_eq_true rfl, Nat.le_of_ble_eq_true rfl⟩) rfl rfl hK hP hP hS hA rfl hl.1 rfl (Nat.le_of_ble_eq_true rfl) dX1_both_28 ⟨Nat.zero_le _, Nat.zero_le _⟩ (fun r H locs hr1 hP hS => ?_)
          subst hr1
          refine fg_top (y := nI (fg_bt k b)) (congrArg nI (fg_sv_n _ (by omega))) ?_
          refine lv_iconst (v := nI 1) hx hb dX1_both_31 (by decide) ?_
          refine fg_ine (tgt := 48) hx hb dX1_both_32 (by decide) (by omega) (by omega) (fun hc2 => ?_) (fun hc2 => ?_)
          · rw [fg_sg0_k (g := fg_gB F va we gi a b) (n := k) (if_neg (fun z => hc2 z.2))] at hl
            refine lv_iinc (v := nI (k + 1)) (lv' := [(5, .int (nI (k + 1))), (0, .ref (g 0)), (1, .int (nI a)), (2, .int (nI b)), (3, .long (lN (fg_sg 0 (fg_gB F va we gi a b) (k + 1))))]) hx hb dX1_both_48 hl (k := 4) rfl (fg_inc _) (by decide) rfl (fun ls hl => ?_)
            refine lv_goto (tgt := 5) hx hb dX1_both_51 (by decide) ?_
            exact ih (k + 1) (by omega) (by omega) _ _ hP hS ls (lv_sub hl [1, 2, 3, 4, 0] rfl)
          · refine lv_aload_n hx hb dX1_both_35 rfl (lv_at hl 0 rfl) ?_
            refine lv_iload hx hb dX1_both_36 (lv_at hl 4 rfl) ?_
            refine fg_cVl (a := g 0) (As := [.int (nI k)]) (rest := []) (ci := 1) (q := (RX1, TX1, 4)) ⟨hx, hb, hml, hown, hts⟩ (fg_M_worth (l := l) (mk := k) (by omega) hI) (cwV 1 hts (lw_V q194 q196 qs12 q18 q197) rfl rfl rfl fg_md_X1_worth ⟨Nat.le_of_ble_eq_true rfl, Nat.le_of_ble_eq_true rfl⟩) rfl rfl hK hP hP hS hA rfl hl.1 rfl (Nat.le_of_ble_eq_true rfl) dX1_both_38 ⟨Nat.zero_le _, Nat.zero_le _⟩ (fun r H locs hr1 hP hS => ?_)
            subst hr1
            refine lv_lstore (lv' := [(6, .long (lN (fg_wo F va we gi k))), (0, .ref (g 0)), (1, .int (nI a)), (2, .int (nI b)), (3, .long (lN (fg_sg 0 (fg_gB F va we gi a b) k))), (5, .int (nI k))]) hx hb dX1_both_41 hl (by decide) rfl (fun ls hl => ?_)
            refine lv_lload_n hx hb dX1_both_43 rfl (lv_at hl 4 rfl) ?_
            refine lv_lload hx hb dX1_both_44 (lv_at hl 0 rfl) ?_
            refine fg_ladd hx hb dX1_both_46 ?_
            refine lv_lstore_n (lv' := [(3, .long (lN ((fg_sg 0 (fg_gB F va we gi a b) k) + (fg_wo F va we gi k)))), (6, .long (lN (fg_wo F va we gi k))), (0, .ref (g 0)), (1, .int (nI a)), (2, .int (nI b)), (5, .int (nI k))]) hx hb dX1_both_47 rfl hl (by decide) rfl (fun ls hl => ?_)
            rw [fg_sg0_v (g := fg_gB F va we gi a b) (n := k) (if_pos ⟨hc1, hc2⟩)] at hl
            refine lv_iinc (v := nI (k + 1)) (lv' := [(5, .int (nI (k + 1))), (3, .long (lN (fg_sg 0 (fg_gB F va we gi a b) (k + 1)))), (6, .long (lN (fg_wo F va we gi k))), (0, .ref (g 0)), (1, .int (nI a)), (2, .int (nI b))]) hx hb dX1_both_48 hl (k := 5) rfl (fg_inc _) (by decide) rfl (fun ls hl => ?_)
            refine lv_goto (tgt := 5) hx hb dX1_both_51 (by decide) ?_
            exact ih (k + 1) (by omega) (by omega) _ _ hP hS ls (lv_sub hl [3, 4, 5, 1, 0] rfl)
  refine lv_lconst (v := lN 0) hx hb dX1_both_0 rfl ?_
  refine lv_lstore_n (lv' := [(3, .long (lN 0)), (0, .ref (g 0)), (1, .int (nI a)), (2, .int (nI b))]) hx hb dX1_both_1 rfl hl (by decide) rfl (fun ls hl => ?_)
  refine lv_iconst (v := nI 0) hx hb dX1_both_2 (by decide) ?_
  refine lv_istore (lv' := [(5, .int (nI 0)), (3, .long (lN 0)), (0, .ref (g 0)), (1, .int (nI a)), (2, .int (nI b))]) hx hb dX1_both_3 hl (by decide) rfl (fun ls hl => ?_)
  exact loop 129 0 (by omega) (by omega) _ _ hP hS ls (lv_sub hl [2, 3, 4, 1, 0] rfl)

set_option maxHeartbeats 4000000 in
set_option maxRecDepth 100000 in
/-- share -/
theorem fg_M_share {x : Int32} (hI : fg_inv F ar va we gi) : fg_Rl l yX1_share cX1_share 2 fg_rm_X1_share D [.ref (g 0), .int x] (fg_wM g dA (nI F) va we gi) (fg_tM dA) (fun r => r = fg_aShare F va we gi x) := by
  refine fg_Rl_of (own := RX1) (by decide) rfl (Nat.le_of_ble_eq_true rfl) ?_
  intro p e s m args below meth c ls A Q hC hP hK hl hA hS ret
  obtain ⟨hx, hb, hr, hts, hown, hlocks, hml⟩ := hC
  have hl : lv_has ls 2 [(0, .ref (g 0)), (1, .int x)] := hl
  refine lv_aload_n hx hb dX1_share_0 rfl (lv_at hl 0 rfl) ?_
  refine lv_iload_n hx hb dX1_share_1 rfl (lv_at hl 1 rfl) ?_
  refine fg_cVi (a := g 0) (As := [.int x]) (rest := []) (ci := 1) (q := (RX1, TX1, 4)) ⟨hx, hb, hml, hown, hts⟩ (fg_M_bad (l := l) (x := x)) (cwV 1 hts (lw_V q174 q176 qs11 q18 q177) rfl rfl rfl fg_md_X1_bad ⟨Nat.le_of_ble_eq_true rfl, Nat.le_of_ble_eq_true rfl⟩) rfl rfl hK hP hP hS hA rfl hl.1 rfl (Nat.le_of_ble_eq_true rfl) dX1_share_2 ⟨Nat.zero_le _, Nat.zero_le _⟩ (fun r H locs hr1 hP hS => ?_)
  refine lv_if_eq (tgt := 12) hx hb dX1_share_5 (by decide) (fun hc0 => ?_) (fun hc0 => ?_)
  · have hnb := (fg_ite0 hr1).mp hc0
    obtain ⟨j, hj, rfl⟩ := fg_notbad hnb
    refine lv_aload_n hx hb dX1_share_12 rfl (lv_at hl 0 rfl) ?_
    refine lv_iload_n hx hb dX1_share_13 rfl (lv_at hl 1 rfl) ?_
    refine lv_iload_n hx hb dX1_share_14 rfl (lv_at hl 1 rfl) ?_
    refine fg_cVl (a := g 0) (As := [.int (nI j), .int (nI j)]) (rest := []) (ci := 1) (q := (RX1, TX1, 4)) ⟨hx, hb, hml, hown, hts⟩ (fg_M_both (l := l) hj hj hI) (cwV 2 hts (lw_V q210 q212 qs15 q18 q213) rfl rfl rfl fg_md_X1_both ⟨Nat.le_of_ble_eq_true rfl, Nat.le_of_ble_eq_true rfl⟩) rfl rfl hK hP hP hS hA rfl hl.1 rfl (Nat.le_of_ble_eq_true rfl) dX1_share_15 ⟨Nat.zero_le _, Nat.zero_le _⟩ (fun r2 H locs hr2 hP hS => ?_)
    subst hr2
    exact ret _ _ _ _ _ dX1_share_18 hS (by unfold fg_aShare; rw [if_neg hnb, nI_clamp (by omega), fg_s2_self])
  · have hbd : fg_bad x := Decidable.byContradiction (fun z => hc0 ((fg_ite0 hr1).mpr z))
    refine lv_lconst (v := lN 0) hx hb dX1_share_8 rfl ?_
    refine lv_goto (tgt := 18) hx hb dX1_share_9 (by decide) ?_
    exact ret _ _ _ _ _ dX1_share_18 hS (by unfold fg_aShare; rw [if_pos hbd])

set_option maxHeartbeats 4000000 in
set_option maxRecDepth 100000 in
/-- alike -/
theorem fg_M_alike {x y : Int32} (hI : fg_inv F ar va we gi) : fg_Rl l yX1_alike cX1_alike 8 fg_rm_X1_alike D [.ref (g 0), .int x, .int y] (fg_wM g dA (nI F) va we gi) (fg_tM dA) (fun r => r = fg_aAlike F va we gi x y) := by
  refine fg_Rl_of (own := RX1) (by decide) rfl (Nat.le_of_ble_eq_true rfl) ?_
  intro p e s m args below meth c ls A Q hC hP hK hl hA hS ret
  obtain ⟨hx, hb, hr, hts, hown, hlocks, hml⟩ := hC
  have hl : lv_has ls 8 [(0, .ref (g 0)), (1, .int x), (2, .int y)] := hl
  have loop : ∀ (n k : Nat), k ≤ 128 → 128 < k + n → ∀ (H : Heap) (locs : List Loc), va_P D vwCl (fg_wM g dA (nI F) va we gi) H → va_S A s.heap H locs → ∀ (ls : Array Slot), lv_has ls 8 [(0, .ref (g 0)), (1, .int x), (2, .int y), (3, .long (lN (fg_sg 0 (fg_gA F va we gi x y) k))), (5, .int (nI k))] → W p l e fg_rm_X1_alike s m args below meth c H locs 0 0 Q (F0 m 5 ls []) := by
    intro n
    induction n with
    | zero => intro k h1 h2; exact absurd h2 (by omega)
    | succ n ih =>
      intro k hk hn H locs hP hS ls hl
      refine lv_iload hx hb dX1_alike_5 (lv_at hl 4 rfl) ?_
      refine lv_sipush (v := nI 128) hx hb dX1_alike_7 (by decide) ?_
      refine fg_ige (tgt := 65) hx hb dX1_alike_10 (by decide) (by omega) (by omega) (fun hc => ?_) (fun hc => ?_)
      · have hk8 : k = 128 := by omega
        subst hk8
        refine lv_lload_n hx hb dX1_alike_65 rfl (lv_at hl 3 rfl) ?_
        exact ret _ _ _ _ _ dX1_alike_66 hS fg_gA_end
      · refine lv_aload_n hx hb dX1_alike_13 rfl (lv_at hl 0 rfl) ?_
        refine lv_iload_n hx hb dX1_alike_14 rfl (lv_at hl 1 rfl) ?_
        refine fg_cVi (a := g 0) (As := [.int x]) (rest := []) (ci := 1) (q := (RX1, TX1, 4)) ⟨hx, hb, hml, hown, hts⟩ (fg_M_bad (l := l) (x := x)) (cwV 1 hts (lw_V q174 q176 qs11 q18 q177) rfl rfl rfl fg_md_X1_bad ⟨Nat.le_of_ble_eq_true rfl, Nat.le_of_ble_eq_true rfl⟩) rfl rfl hK hP hP hS hA rfl hl.1 rfl (Nat.le_of_ble_eq_true rfl) dX1_alike_15 ⟨Nat.zero_le _, Nat.zero_le _⟩ (fun r1 H locs hr1 hP hS => ?_)
        refine lv_if_ne (tgt := 59) hx hb dX1_alike_18 (by decide) (fun hc1 => ?_) (fun hc1 => ?_)
        · rw [fg_sg0_k (g := fg_gA F va we gi x y) (n := k) (if_pos (Or.inl (Decidable.byContradiction (fun z => hc1 ((fg_ite0 hr1).mpr z)))))] at hl
          refine lv_iinc (v := nI (k + 1)) (lv' := [(5, .int (nI (k + 1))), (0, .ref (g 0)), (1, .int x), (2, .int y), (3, .long (lN (fg_sg 0 (fg_gA F va we gi x y) (k + 1))))]) hx hb dX1_alike_59 hl (k := 4) rfl (fg_inc _) (by decide) rfl (fun ls hl => ?_)
          refine lv_goto (tgt := 5) hx hb dX1_alike_62 (by decide) ?_
          exact ih (k + 1) (by omega) (by omega) _ _ hP hS ls (lv_sub hl [1, 2, 3, 4, 0] rfl)
        · have nx := (fg_ite0 hr1).mp hc1
          refine lv_aload_n hx hb dX1_alike_21 rfl (lv_at hl 0 rfl) ?_
          refine lv_iload_n hx hb dX1_alike_22 rfl (lv_at hl 2 rfl) ?_
          refine fg_cVi (a := g 0) (As := [.int y]) (rest := []) (ci := 1) (q := (RX1, TX1, 4)) ⟨hx, hb, hml, hown, hts⟩ (fg_M_bad (l := l) (x := y)) (cwV 1 hts (lw_V q174 q176 qs11 q18 q177) rfl rfl rfl fg_md_X1_bad ⟨Nat.le_of_ble_eq_true rfl, Nat.le_of_ble_eq_true rfl⟩) rfl rfl hK hP hP hS hA rfl hl.1 rfl (Nat.le_of_ble_eq_true rfl) dX1_alike_23 ⟨Nat.zero_le _, Nat.zero_le _⟩ (fun r2 H locs hr2 hP hS => ?_)
          refine lv_if_ne (tgt := 59) hx hb dX1_alike_26 (by decide) (fun hc2 => ?_) (fun hc2 => ?_)
          · rw [fg_sg0_k (g := fg_gA F va we gi x y) (n := k) (if_pos (Or.inr (Decidable.byContradiction (fun z => hc2 ((fg_ite0 hr2).mpr z)))))] at hl
            refine lv_iinc (v := nI (k + 1)) (lv' := [(5, .int (nI (k + 1))), (0, .ref (g 0)), (1, .int x), (2, .int y), (3, .long (lN (fg_sg 0 (fg_gA F va we gi x y) (k + 1))))]) hx hb dX1_alike_59 hl (k := 4) rfl (fg_inc _) (by decide) rfl (fun ls hl => ?_)
            refine lv_goto (tgt := 5) hx hb dX1_alike_62 (by decide) ?_
            exact ih (k + 1) (by omega) (by omega) _ _ hP hS ls (lv_sub hl [1, 2, 3, 4, 0] rfl)
          · have ny := (fg_ite0 hr2).mp hc2
            have hnb : ¬ (fg_bad x ∨ fg_bad y) := fun z => z.elim nx ny
            have hb1 := fg_bt_le k x.toNatClampNeg
            have hb2 := fg_bt_le k y.toNatClampNeg
            refine lv_aload_n hx hb dX1_alike_29 rfl (lv_at hl 0 rfl) ?_
            refine lv_iload hx hb dX1_alike_30 (lv_at hl 4 rfl) ?_
            refine lv_iload_n hx hb dX1_alike_32 rfl (lv_at hl 1 rfl) ?_
            refine fg_cVi (a := g 0) (As := [.int (nI k), .int x]) (rest := []) (ci := 1) (q := (RX1, TX1, 4)) ⟨hx, hb, hml, hown, hts⟩ (fg_M_value (l := l) (mk := k) (by omega) (Or.inr (fg_notbad nx))) (cwV 2 hts (lw_V q202 q204 qs14 q18 q205) rfl rfl rfl fg_md_X1_value ⟨Nat.le_of_ble_eq_true rfl, Nat.le_of_ble_eq_true rfl⟩) rfl rfl hK hP hP hS hA rfl hl.1 rfl (Nat.le_of_ble_eq_true rfl) dX1_alike_33 ⟨Nat.zero_le _, Nat.zero_le _⟩ (fun r3 H locs hr3 hP hS => ?_)
            subst hr3
            refine fg_top (y := nI (fg_bt k x.toNatClampNeg)) (congrArg nI (fg_sv_pos (fun z => nx (Or.inl z)))) ?_
            refine lv_aload_n hx hb dX1_alike_36 rfl (lv_at hl 0 rfl) ?_
            refine lv_iload hx hb dX1_alike_37 (lv_at hl 4 rfl) ?_
            refine lv_iload_n hx hb dX1_alike_39 rfl (lv_at hl 2 rfl) ?_
            refine fg_cVi (a := g 0) (As := [.int (nI k), .int y]) (rest := [.int (nI (fg_bt k x.toNatClampNeg))]) (ci := 1) (q := (RX1, TX1, 4)) ⟨hx, hb, hml, hown, hts⟩ (fg_M_value (l := l) (mk := k) (by omega) (Or.inr (fg_notbad ny))) (cwV 2 hts (lw_V q202 q204 qs14 q18 q205) rfl rfl rfl fg_md_X1_value ⟨Nat.le_of_ble_eq_true rfl, Nat.le_of_ble_eq_true rfl⟩) rfl rfl hK hP hP hS hA rfl hl.1 rfl (Nat.le_of_ble_eq_true rfl) dX1_alike_40 ⟨Nat.zero_le _, Nat.zero_le _⟩ (fun r3 H locs hr3 hP hS => ?_)
            subst hr3
            refine fg_top (y := nI (fg_bt k y.toNatClampNeg)) (congrArg nI (fg_sv_pos (fun z => ny (Or.inl z)))) ?_
            refine fg_ine (tgt := 59) hx hb dX1_alike_43 (by decide) (by omega) (by omega) (fun hc3 => ?_) (fun hc3 => ?_)
            · rw [fg_sg0_k (g := fg_gA F va we gi x y) (n := k) ((if_neg hnb).trans (if_neg hc3))] at hl
              refine lv_iinc (v := nI (k + 1)) (lv' := [(5, .int (nI (k + 1))), (0, .ref (g 0)), (1, .int x), (2, .int y), (3, .long (lN (fg_sg 0 (fg_gA F va we gi x y) (k + 1))))]) hx hb dX1_alike_59 hl (k := 4) rfl (fg_inc _) (by decide) rfl (fun ls hl => ?_)
              refine lv_goto (tgt := 5) hx hb dX1_alike_62 (by decide) ?_
              exact ih (k + 1) (by omega) (by omega) _ _ hP hS ls (lv_sub hl [1, 2, 3, 4, 0] rfl)
            · refine lv_aload_n hx hb dX1_alike_46 rfl (lv_at hl 0 rfl) ?_
              refine lv_iload hx hb dX1_alike_47 (lv_at hl 4 rfl) ?_
              refine fg_cVl (a := g 0) (As := [.int (nI k)]) (rest := []) (ci := 1) (q := (RX1, TX1, 4)) ⟨hx, hb, hml, hown, hts⟩ (fg_M_worth (l := l) (mk := k) (by omega) hI) (cwV 1 hts (lw_V q194 q196 qs12 q18 q197) rfl rfl rfl fg_md_X1_worth ⟨Nat.le_of_ble_eq_true rfl, Nat.le_of_ble_eq_true rfl⟩) rfl rfl hK hP hP hS hA rfl hl.1 rfl (Nat.le_of_ble_eq_true rfl) dX1_alike_49 ⟨Nat.zero_le _, Nat.zero_le _⟩ (fun r3 H locs hr3 hP hS => ?_)
              subst hr3
              refine lv_lstore (lv' := [(6, .long (lN (fg_wo F va we gi k))), (0, .ref (g 0)), (1, .int x), (2, .int y), (3, .long (lN (fg_sg 0 (fg_gA F va we gi x y) k))), (5, .int (nI k))]) hx hb dX1_alike_52 hl (by decide) rfl (fun ls hl => ?_)
              refine lv_lload_n hx hb dX1_alike_54 rfl (lv_at hl 4 rfl) ?_
              refine lv_lload hx hb dX1_alike_55 (lv_at hl 0 rfl) ?_
              refine fg_ladd hx hb dX1_alike_57 ?_
              refine lv_lstore_n (lv' := [(3, .long (lN ((fg_sg 0 (fg_gA F va we gi x y) k) + (fg_wo F va we gi k)))), (6, .long (lN (fg_wo F va we gi k))), (0, .ref (g 0)), (1, .int x), (2, .int y), (5, .int (nI k))]) hx hb dX1_alike_58 rfl hl (by decide) rfl (fun ls hl => ?_)
              rw [fg_sg0_v (g := fg_gA F va we gi x y) (n := k) ((if_neg hnb).trans (if_pos hc3))] at hl
              refine lv_iinc (v := nI (k + 1)) (lv' := [(5, .int (nI (k + 1))), (3, .long (lN (fg_sg 0 (fg_gA F va we gi x y) (k + 1)))), (6, .long (lN (fg_wo F va we gi k))), (0, .ref (g 0)), (1, .int x), (2, .int y)]) hx hb dX1_alike_59 hl (k := 5) rfl (fg_inc _) (by decide) rfl (fun ls hl => ?_)
              refine lv_goto (tgt := 5) hx hb dX1_alike_62 (by decide) ?_
              exact ih (k + 1) (by omega) (by omega) _ _ hP hS ls (lv_sub hl [3, 4, 5, 1, 0] rfl)
  refine lv_lconst (v := lN 0) hx hb dX1_alike_0 rfl ?_
  refine lv_lstore_n (lv' := [(3, .long (lN 0)), (0, .ref (g 0)), (1, .int x), (2, .int y)]) hx hb dX1_alike_1 rfl hl (by decide) rfl (fun ls hl => ?_)
  refine lv_iconst (v := nI 0) hx hb dX1_alike_2 (by decide) ?_
  refine lv_istore (lv' := [(5, .int (nI 0)), (3, .long (lN 0)), (0, .ref (g 0)), (1, .int x), (2, .int y)]) hx hb dX1_alike_3 hl (by decide) rfl (fun ls hl => ?_)
  exact loop 129 0 (by omega) (by omega) _ _ hP hS ls (lv_sub hl [2, 3, 4, 1, 0] rfl)

set_option maxHeartbeats 4000000 in
set_option maxRecDepth 100000 in
/-- best -/
theorem fg_M_best (hI : fg_inv F ar va we gi) : fg_Rl l yX1_best cX1_best 6 fg_rm_X1_best D [.ref (g 0)] (fg_wM g dA (nI F) va we gi) (fg_tM dA) (fun r => r = lN (fg_aBest F va we gi)) := by
  refine fg_Rl_of (own := RX1) (by decide) rfl (Nat.le_of_ble_eq_true rfl) ?_
  intro p e s m args below meth c ls A Q hC hP hK hl hA hS ret
  obtain ⟨hx, hb, hr, hts, hown, hlocks, hml⟩ := hC
  have hl : lv_has ls 6 [(0, .ref (g 0))] := hl
  have loop : ∀ (n k : Nat), k ≤ 128 → 128 < k + n → ∀ (H : Heap) (locs : List Loc), va_P D vwCl (fg_wM g dA (nI F) va we gi) H → va_S A s.heap H locs → ∀ (ls : Array Slot), lv_has ls 6 [(0, .ref (g 0)), (1, .long (lN (fg_sg 1 (fg_wo F va we gi) k))), (3, .int (nI k))] → W p l e fg_rm_X1_best s m args below meth c H locs 0 0 Q (F0 m 4 ls []) := by
    intro n
    induction n with
    | zero => intro k h1 h2; exact absurd h2 (by omega)
    | succ n ih =>
      intro k hk hn H locs hP hS ls hl
      refine lv_iload_n hx hb dX1_best_4 rfl (lv_at hl 2 rfl) ?_
      refine lv_sipush (v := nI 128) hx hb dX1_best_5 (by decide) ?_
      refine fg_ige (tgt := 34) hx hb dX1_best_8 (by decide) (by omega) (by omega) (fun hc => ?_) (fun hc => ?_)
      · have hk8 : k = 128 := by omega
        subst hk8
        refine lv_lload_n hx hb dX1_best_34 rfl (lv_at hl 1 rfl) ?_
        exact ret _ _ _ _ _ dX1_best_35 hS rfl
      · have hw9 := fg_wo_le (fi := gi) hI k
        have hs9 : fg_sg 1 (fg_wo F va we gi) k ≤ 9 ^ 7 := fg_sg_le (fun m _ => fg_wo_le hI m)
        refine lv_aload_n hx hb dX1_best_11 rfl (lv_at hl 0 rfl) ?_
        refine lv_iload_n hx hb dX1_best_12 rfl (lv_at hl 2 rfl) ?_
        refine fg_cVl (a := g 0) (As := [.int (nI k)]) (rest := []) (ci := 1) (q := (RX1, TX1, 4)) ⟨hx, hb, hml, hown, hts⟩ (fg_M_worth (l := l) (mk := k) (by omega) hI) (cwV 1 hts (lw_V q194 q196 qs12 q18 q197) rfl rfl rfl fg_md_X1_worth ⟨Nat.le_of_ble_eq_true rfl, Nat.le_of_ble_eq_true rfl⟩) rfl rfl hK hP hP hS hA rfl hl.1 rfl (Nat.le_of_ble_eq_true rfl) dX1_best_13 ⟨Nat.zero_le _, Nat.zero_le _⟩ (fun r H locs hr1 hP hS => ?_)
        subst hr1
        refine lv_lstore (lv' := [(4, .long (lN (fg_wo F va we gi k))), (0, .ref (g 0)), (1, .long (lN (fg_sg 1 (fg_wo F va we gi) k))), (3, .int (nI k))]) hx hb dX1_best_16 hl (by decide) rfl (fun ls hl => ?_)
        refine lv_lload hx hb dX1_best_18 (lv_at hl 0 rfl) ?_
        refine lv_lload_n hx hb dX1_best_20 rfl (lv_at hl 2 rfl) ?_
        refine W.lcmp hx hb dX1_best_21 ?_
        refine lv_if_le (tgt := 28) hx hb dX1_best_22 (by decide) (fun hc1 => ?_) (fun hc1 => ?_)
        · rw [fg_sg1_k (g := fg_wo F va we gi) ((fg_max_lN hw9 hs9).mp ((lg_cmp_le _ _).mp hc1))] at hl
          refine lv_iinc (v := nI (k + 1)) (lv' := [(3, .int (nI (k + 1))), (4, .long (lN (fg_wo F va we gi k))), (0, .ref (g 0)), (1, .long (lN (fg_sg 1 (fg_wo F va we gi) (k + 1))))]) hx hb dX1_best_28 hl (k := 3) rfl (fg_inc _) (by decide) rfl (fun ls hl => ?_)
          refine lv_goto (tgt := 4) hx hb dX1_best_31 (by decide) ?_
          exact ih (k + 1) (by omega) (by omega) _ _ hP hS ls (lv_sub hl [2, 3, 0] rfl)
        · refine lv_lload hx hb dX1_best_25 (lv_at hl 0 rfl) ?_
          refine lv_lstore_n (lv' := [(1, .long (lN (fg_wo F va we gi k))), (4, .long (lN (fg_wo F va we gi k))), (0, .ref (g 0)), (3, .int (nI k))]) hx hb dX1_best_27 rfl hl (by decide) rfl (fun ls hl => ?_)
          rw [fg_sg1_v (g := fg_wo F va we gi) (fun z => hc1 ((lg_cmp_le _ _).mpr ((fg_max_lN hw9 hs9).mpr z)))] at hl
          refine lv_iinc (v := nI (k + 1)) (lv' := [(3, .int (nI (k + 1))), (1, .long (lN (fg_sg 1 (fg_wo F va we gi) (k + 1)))), (4, .long (lN (fg_sg 1 (fg_wo F va we gi) (k + 1)))), (0, .ref (g 0))]) hx hb dX1_best_28 hl (k := 3) rfl (fg_inc _) (by decide) rfl (fun ls hl => ?_)
          refine lv_goto (tgt := 4) hx hb dX1_best_31 (by decide) ?_
          exact ih (k + 1) (by omega) (by omega) _ _ hP hS ls (lv_sub hl [3, 1, 0] rfl)
  refine lv_lconst (v := lN 0) hx hb dX1_best_0 rfl ?_
  refine lv_lstore_n (lv' := [(1, .long (lN 0)), (0, .ref (g 0))]) hx hb dX1_best_1 rfl hl (by decide) rfl (fun ls hl => ?_)
  refine lv_iconst (v := nI 0) hx hb dX1_best_2 (by decide) ?_
  refine lv_istore_n (lv' := [(3, .int (nI 0)), (1, .long (lN 0)), (0, .ref (g 0))]) hx hb dX1_best_3 rfl hl (by decide) rfl (fun ls hl => ?_)
  exact loop 129 0 (by omega) (by omega) _ _ hP hS ls (lv_sub hl [2, 1, 0] rfl)

set_option maxHeartbeats 4000000 in
set_option maxRecDepth 100000 in
/-- bestAssignment -/
theorem fg_M_bestAssignment (hI : fg_inv F ar va we gi) : fg_Ri l yX1_bestAssignment cX1_bestAssignment 4 .int fg_rm_X1_bestAssignment D [.ref (g 0)] (fg_wM g dA (nI F) va we gi) (fg_tM dA) (fun r => ∃ M, fg_ba F va we gi M ∧ r = nI M) := by
  refine fg_Ri_of (own := RX1) (by decide) rfl (Nat.le_of_ble_eq_true rfl) (fun _ _ => rfl) ?_
  intro p e s m args below meth c ls A Q hC hP hK hl hA hS ret
  obtain ⟨hx, hb, hr, hts, hown, hlocks, hml⟩ := hC
  have hl : lv_has ls 4 [(0, .ref (g 0))] := hl
  have loop : ∀ (n k : Nat), k ≤ 128 → 128 < k + n → (∀ j, j < k → ¬ (fg_al gi j 7 = true ∧ fg_wo F va we gi j = fg_sg 1 (fg_wo F va we gi) 128)) → ∀ (H : Heap) (locs : List Loc), va_P D vwCl (fg_wM g dA (nI F) va we gi) H → va_S A s.heap H locs → ∀ (ls : Array Slot), lv_has ls 4 [(0, .ref (g 0)), (1, .long (lN (fg_sg 1 (fg_wo F va we gi) 128))), (3, .int (nI k))] → W p l e fg_rm_X1_bestAssignment s m args below meth c H locs 0 0 Q (F0 m 7 ls []) := by
    intro n
    induction n with
    | zero => intro k h1 h2; exact absurd h2 (by omega)
    | succ n ih =>
      intro k hk hn hno H locs hP hS ls hl
      refine lv_iload_n hx hb dX1_bestAssignment_7 rfl (lv_at hl 2 rfl) ?_
      refine lv_sipush (v := nI 128) hx hb dX1_bestAssignment_8 (by decide) ?_
      refine fg_ige (tgt := 40) hx hb dX1_bestAssignment_11 (by decide) (by omega) (by omega) (fun hc => ?_) (fun hc => ?_)
      · have hk8 : k = 128 := by omega
        subst hk8
        refine lv_iconst (v := nI 0) hx hb dX1_bestAssignment_40 (by decide) ?_
        obtain ⟨M, hM⟩ := fg_ba_ex (F := F) (va := va) (we := we) (gi := gi) hI.2.2.2
        exact absurd ⟨hM.2.1, hM.2.2.1⟩ (hno M hM.1)
      · have hw9 := fg_wo_le (fi := gi) hI k
        have hs9 : fg_sg 1 (fg_wo F va we gi) 128 ≤ 9 ^ 7 := fg_best_le hI
        refine lv_aload_n hx hb dX1_bestAssignment_14 rfl (lv_at hl 0 rfl) ?_
        refine lv_iload_n hx hb dX1_bestAssignment_15 rfl (lv_at hl 2 rfl) ?_
        refine fg_cVi (a := g 0) (As := [.int (nI k)]) (rest := []) (ci := 1) (q := (RX1, TX1, 4)) ⟨hx, hb, hml, hown, hts⟩ (fg_M_allowed (l := l) (mk := k) (by omega)) (cwV 1 hts (lw_V q198 q200 qs13 q18 q201) rfl rfl rfl fg_md_X1_allowed ⟨Nat.le_of_ble_eq_true rfl, Nat.le_of_ble_eq_true rfl⟩) rfl rfl hK hP hP hS hA rfl hl.1 rfl (Nat.le_of_ble_eq_true rfl) dX1_bestAssignment_16 ⟨Nat.zero_le _, Nat.zero_le _⟩ (fun r H locs hr1 hP hS => ?_)
        refine lv_if_eq (tgt := 34) hx hb dX1_bestAssignment_19 (by decide) (fun hc1 => ?_) (fun hc1 => ?_)
        · have hno2 : ∀ j, j < k + 1 → ¬ (fg_al gi j 7 = true ∧ fg_wo F va we gi j = fg_sg 1 (fg_wo F va we gi) 128) := by
            intro j hj z
            by_cases e : j = k
            · subst e; exact (fg_ite0 hr1).mp hc1 z.1
            · exact hno j (by omega) z
          refine lv_iinc (v := nI (k + 1)) (lv' := [(3, .int (nI (k + 1))), (0, .ref (g 0)), (1, .long (lN (fg_sg 1 (fg_wo F va we gi) 128)))]) hx hb dX1_bestAssignment_34 hl (k := 2) rfl (fg_inc _) (by decide) rfl (fun ls hl => ?_)
          refine lv_goto (tgt := 7) hx hb dX1_bestAssignment_37 (by decide) ?_
          exact ih (k + 1) (by omega) (by omega) hno2 _ _ hP hS ls (lv_sub hl [1, 2, 0] rfl)
        · have hal : fg_al gi k 7 = true := Decidable.byContradiction (fun z => hc1 ((fg_ite0 hr1).mpr z))
          refine lv_aload_n hx hb dX1_bestAssignment_22 rfl (lv_at hl 0 rfl) ?_
          refine lv_iload_n hx hb dX1_bestAssignment_23 rfl (lv_at hl 2 rfl) ?_
          refine fg_cVl (a := g 0) (As := [.int (nI k)]) (rest := []) (ci := 1) (q := (RX1, TX1, 4)) ⟨hx, hb, hml, hown, hts⟩ (fg_M_worth (l := l) (mk := k) (by omega) hI) (cwV 1 hts (lw_V q194 q196 qs12 q18 q197) rfl rfl rfl fg_md_X1_worth ⟨Nat.le_of_ble_eq_true rfl, Nat.le_of_ble_eq_true rfl⟩) rfl rfl hK hP hP hS hA rfl hl.1 rfl (Nat.le_of_ble_eq_true rfl) dX1_bestAssignment_24 ⟨Nat.zero_le _, Nat.zero_le _⟩ (fun r2 H locs hr2 hP hS => ?_)
          subst hr2
          refine lv_lload_n hx hb dX1_bestAssignment_27 rfl (lv_at hl 1 rfl) ?_
          refine W.lcmp hx hb dX1_bestAssignment_28 ?_
          refine lv_if_ne (tgt := 34) hx hb dX1_bestAssignment_29 (by decide) (fun hc2 => ?_) (fun hc2 => ?_)
          · have hno2 : ∀ j, j < k + 1 → ¬ (fg_al gi j 7 = true ∧ fg_wo F va we gi j = fg_sg 1 (fg_wo F va we gi) 128) := by
              intro j hj z
              by_cases e : j = k
              · subst e; exact hc2 ((lg_cmp_eq _ _).mpr ((fg_lN_eq hw9 hs9).mpr z.2))
              · exact hno j (by omega) z
            refine lv_iinc (v := nI (k + 1)) (lv' := [(3, .int (nI (k + 1))), (0, .ref (g 0)), (1, .long (lN (fg_sg 1 (fg_wo F va we gi) 128)))]) hx hb dX1_bestAssignment_34 hl (k := 2) rfl (fg_inc _) (by decide) rfl (fun ls hl => ?_)
            refine lv_goto (tgt := 7) hx hb dX1_bestAssignment_37 (by decide) ?_
            exact ih (k + 1) (by omega) (by omega) hno2 _ _ hP hS ls (lv_sub hl [1, 2, 0] rfl)
          · refine lv_iload_n hx hb dX1_bestAssignment_32 rfl (lv_at hl 2 rfl) ?_
            exact ret _ _ _ _ _ dX1_bestAssignment_33 hS ⟨k, ⟨hc, hal, (fg_lN_eq hw9 hs9).mp ((lg_cmp_eq _ _).mp hc2), hno⟩, rfl⟩
  refine lv_aload_n hx hb dX1_bestAssignment_0 rfl (lv_at hl 0 rfl) ?_
  refine fg_cVl (a := g 0) (As := []) (rest := []) (ci := 1) (q := (RX1, TX1, 4)) ⟨hx, hb, hml, hown, hts⟩ (fg_M_best (l := l) hI) (cwV 0 hts (lw_V q226 q219 q220 q18 q221) rfl rfl rfl fg_md_X1_best ⟨Nat.le_of_ble_eq_true rfl, Nat.le_of_ble_eq_true rfl⟩) rfl rfl hK hP hP hS hA rfl hl.1 rfl (Nat.le_of_ble_eq_true rfl) dX1_bestAssignment_1 ⟨Nat.zero_le _, Nat.zero_le _⟩ (fun r H locs hr1 hP hS => ?_)
  subst hr1
  refine lv_lstore_n (lv' := [(1, .long (lN (fg_sg 1 (fg_wo F va we gi) 128))), (0, .ref (g 0))]) hx hb dX1_bestAssignment_4 rfl hl (by decide) rfl (fun ls hl => ?_)
  refine lv_iconst (v := nI 0) hx hb dX1_bestAssignment_5 (by decide) ?_
  refine lv_istore_n (lv' := [(3, .int (nI 0)), (1, .long (lN (fg_sg 1 (fg_wo F va we gi) 128))), (0, .ref (g 0))]) hx hb dX1_bestAssignment_6 rfl hl (by decide) rfl (fun ls hl => ?_)
  exact loop 129 0 (by omega) (by omega) (fun j hj => absurd hj (by omega)) _ _ hP hS ls (lv_sub hl [2, 1, 0] rfl)

set_option maxHeartbeats 4000000 in
set_option maxRecDepth 100000 in
/-- possible -/
theorem fg_M_possible (hI : fg_inv F ar va we gi) : fg_Ri l yX1_possible cX1_possible 3 .int fg_rm_X1_possible D [.ref (g 0)] (fg_wM g dA (nI F) va we gi) (fg_tM dA) (fun r => r = nI (fg_aCount F va we gi)) := by
  refine fg_Ri_of (own := RX1) (by decide) rfl (Nat.le_of_ble_eq_true rfl) (fun _ _ => rfl) ?_
  intro p e s m args below meth c ls A Q hC hP hK hl hA hS ret
  obtain ⟨hx, hb, hr, hts, hown, hlocks, hml⟩ := hC
  have hl : lv_has ls 3 [(0, .ref (g 0))] := hl
  have loop : ∀ (n k : Nat), k ≤ 128 → 128 < k + n → ∀ (H : Heap) (locs : List Loc), va_P D vwCl (fg_wM g dA (nI F) va we gi) H → va_S A s.heap H locs → ∀ (ls : Array Slot), lv_has ls 3 [(0, .ref (g 0)), (1, .int (nI (fg_sg 0 (fg_gC F va we gi) k))), (2, .int (nI k))] → W p l e fg_rm_X1_possible s m args below meth c H locs 0 0 Q (F0 m 4 ls []) := by
    intro n
    induction n with
    | zero => intro k h1 h2; exact absurd h2 (by omega)
    | succ n ih =>
      intro k hk hn H locs hP hS ls hl
      refine lv_iload_n hx hb dX1_possible_4 rfl (lv_at hl 2 rfl) ?_
      refine lv_sipush (v := nI 128) hx hb dX1_possible_5 (by decide) ?_
      refine fg_ige (tgt := 30) hx hb dX1_possible_8 (by decide) (by omega) (by omega) (fun hc => ?_) (fun hc => ?_)
      · have hk8 : k = 128 := by omega
        subst hk8
        refine lv_iload_n hx hb dX1_possible_30 rfl (lv_at hl 1 rfl) ?_
        exact ret _ _ _ _ _ dX1_possible_31 hS rfl
      · have hw9 := fg_wo_le (fi := gi) hI k
        refine lv_aload_n hx hb dX1_possible_11 rfl (lv_at hl 0 rfl) ?_
        refine lv_iload_n hx hb dX1_possible_12 rfl (lv_at hl 2 rfl) ?_
        refine fg_cVl (a := g 0) (As := [.int (nI k)]) (rest := []) (ci := 1) (q := (RX1, TX1, 4)) ⟨hx, hb, hml, hown, hts⟩ (fg_M_worth (l := l) (mk := k) (by omega) hI) (cwV 1 hts (lw_V q194 q196 qs12 q18 q197) rfl rfl rfl fg_md_X1_worth ⟨Nat.le_of_ble_eq_true rfl, Nat.le_of_ble_eq_true rfl⟩) rfl rfl hK hP hP hS hA rfl hl.1 rfl (Nat.le_of_ble_eq_true rfl) dX1_possible_13 ⟨Nat.zero_le _, Nat.zero_le _⟩ (fun r H locs hr1 hP hS => ?_)
        subst hr1
        refine lv_lconst (v := lN 0) hx hb dX1_possible_16 rfl ?_
        refine W.lcmp hx hb dX1_possible_17 ?_
        refine lv_if_le (tgt := 24) hx hb dX1_possible_18 (by decide) (fun hc1 => ?_) (fun hc1 => ?_)
        · rw [fg_sg0_k (g := fg_gC F va we gi) (n := k) (if_neg (fun z => by have := (fg_max_lN hw9 (Nat.zero_le _)).mp ((lg_cmp_le _ _).mp hc1); omega))] at hl
          refine lv_iinc (v := nI (k + 1)) (lv' := [(2, .int (nI (k + 1))), (0, .ref (g 0)), (1, .int (nI (fg_sg 0 (fg_gC F va we gi) (k + 1))))]) hx hb dX1_possible_24 hl (k := 2) rfl (fg_inc _) (by decide) rfl (fun ls hl => ?_)
          refine lv_goto (tgt := 4) hx hb dX1_possible_27 (by decide) ?_
          exact ih (k + 1) (by omega) (by omega) _ _ hP hS ls (lv_sub hl [1, 2, 0] rfl)
        · have hpos : 0 < fg_wo F va we gi k := Nat.pos_of_ne_zero (fun z => hc1 ((lg_cmp_le _ _).mpr ((fg_max_lN hw9 (Nat.zero_le _)).mpr (by omega))))
          refine lv_iinc (v := nI (fg_sg 0 (fg_gC F va we gi) k + 1)) (lv' := [(1, .int (nI (fg_sg 0 (fg_gC F va we gi) k + 1))), (0, .ref (g 0)), (2, .int (nI k))]) hx hb dX1_possible_21 hl (k := 1) rfl (fg_inc _) (by decide) rfl (fun ls hl => ?_)
          rw [fg_sg0_v (g := fg_gC F va we gi) (n := k) (if_pos hpos)] at hl
          refine lv_iinc (v := nI (k + 1)) (lv' := [(2, .int (nI (k + 1))), (1, .int (nI (fg_sg 0 (fg_gC F va we gi) (k + 1)))), (0, .ref (g 0))]) hx hb dX1_possible_24 hl (k := 2) rfl (fg_inc _) (by decide) rfl (fun ls hl => ?_)
          refine lv_goto (tgt := 4) hx hb dX1_possible_27 (by decide) ?_
          exact ih (k + 1) (by omega) (by omega) _ _ hP hS ls (lv_sub hl [2, 1, 0] rfl)
  refine lv_iconst (v := nI 0) hx hb dX1_possible_0 (by decide) ?_
  refine lv_istore_n (lv' := [(1, .int (nI 0)), (0, .ref (g 0))]) hx hb dX1_possible_1 rfl hl (by decide) rfl (fun ls hl => ?_)
  refine lv_iconst (v := nI 0) hx hb dX1_possible_2 (by decide) ?_
  refine lv_istore_n (lv' := [(2, .int (nI 0)), (1, .int (nI 0)), (0, .ref (g 0))]) hx hb dX1_possible_3 rfl hl (by decide) rfl (fun ls hl => ?_)
  exact loop 129 0 (by omega) (by omega) _ _ hP hS ls (lv_sub hl [2, 1, 0] rfl)

set_option maxHeartbeats 4000000 in
set_option maxRecDepth 100000 in
/-- independent -/
theorem fg_M_independent {x y : Int32} (hI : fg_inv F ar va we gi) : fg_Ri l yX1_independent cX1_independent 3 .boolean fg_rm_X1_independent D [.ref (g 0), .int x, .int y] (fg_wM g dA (nI F) va we gi) (fg_tM dA) (fun r => r = fg_aInd F va we gi x y) := by
  refine fg_Ri_of (own := RX1) (by decide) rfl (Nat.le_of_ble_eq_true rfl) (fun v hv => by rw [hv]; unfold fg_aInd; split <;> first | rfl | (split <;> rfl)) ?_
  intro p e s m args below meth c ls A Q hC hP hK hl hA hS ret
  obtain ⟨hx, hb, hr, hts, hown, hlocks, hml⟩ := hC
  have hl : lv_has ls 3 [(0, .ref (g 0)), (1, .int x), (2, .int y)] := hl
  refine lv_aload_n hx hb dX1_independent_0 rfl (lv_at hl 0 rfl) ?_
  refine lv_iload_n hx hb dX1_independent_1 rfl (lv_at hl 1 rfl) ?_
  refine fg_cVi (a := g 0) (As := [.int x]) (rest := []) (ci := 1) (q := (RX1, TX1, 4)) ⟨hx, hb, hml, hown, hts⟩ (fg_M_bad (l := l) (x := x)) (cwV 1 hts (lw_V q174 q176 qs11 q18 q177) rfl rfl rfl fg_md_X1_bad ⟨Nat.le_of_ble_eq_true rfl, Nat.le_of_ble_eq_true rfl⟩) rfl rfl hK hP hP hS hA rfl hl.1 rfl (Nat.le_of_ble_eq_true rfl) dX1_independent_2 ⟨Nat.zero_le _, Nat.zero_le _⟩ (fun r1 H locs hr1 hP hS => ?_)
  refine lv_if_ne (tgt := 16) hx hb dX1_independent_5 (by decide) (fun hc1 => ?_) (fun hc1 => ?_)
  · have hbd : fg_bad x ∨ fg_bad y := Or.inl (Decidable.byContradiction (fun z => hc1 ((fg_ite0 hr1).mpr z)))
    refine lv_iconst (v := nI 1) hx hb dX1_independent_16 (by decide) ?_
    exact ret _ _ _ _ _ dX1_independent_17 hS (by unfold fg_aInd; rw [if_pos hbd]; rfl)
  · refine lv_aload_n hx hb dX1_independent_8 rfl (lv_at hl 0 rfl) ?_
    refine lv_iload_n hx hb dX1_independent_9 rfl (lv_at hl 2 rfl) ?_
    refine fg_cVi (a := g 0) (As := [.int y]) (rest := []) (ci := 1) (q := (RX1, TX1, 4)) ⟨hx, hb, hml, hown, hts⟩ (fg_M_bad (l := l) (x := y)) (cwV 1 hts (lw_V q174 q176 qs11 q18 q177) rfl rfl rfl fg_md_X1_bad ⟨Nat.le_of_ble_eq_true rfl, Nat.le_of_ble_eq_true rfl⟩) rfl rfl hK hP hP hS hA rfl hl.1 rfl (Nat.le_of_ble_eq_true rfl) dX1_independent_10 ⟨Nat.zero_le _, Nat.zero_le _⟩ (fun r2 H locs hr2 hP hS => ?_)
    refine lv_if_eq (tgt := 18) hx hb dX1_independent_13 (by decide) (fun hc2 => ?_) (fun hc2 => ?_)
    · have nx := (fg_ite0 hr1).mp hc1
      have ny := (fg_ite0 hr2).mp hc2
      have hnb : ¬ (fg_bad x ∨ fg_bad y) := fun z => z.elim nx ny
      obtain ⟨i, hi, rfl⟩ := fg_notbad nx
      obtain ⟨j, hj, rfl⟩ := fg_notbad ny
      refine lv_aload_n hx hb dX1_independent_18 rfl (lv_at hl 0 rfl) ?_
      refine fg_cVl (a := g 0) (As := []) (rest := []) (ci := 1) (q := (RX1, TX1, 4)) ⟨hx, hb, hml, hown, hts⟩ (fg_M_total (l := l) hI) (cwV 0 hts (lw_V q235 q191 q192 q18 q193) rfl rfl rfl fg_md_X1_total ⟨Nat.le_of_ble_eq_true rfl, Nat.le_of_ble_eq_true rfl⟩) rfl rfl hK hP hP hS hA rfl hl.1 rfl (Nat.le_of_ble_eq_true rfl) dX1_independent_19 ⟨Nat.zero_le _, Nat.zero_le _⟩ (fun r3 H locs hr3 hP hS => ?_)
      subst hr3
      refine lv_aload_n hx hb dX1_independent_22 rfl (lv_at hl 0 rfl) ?_
      refine lv_iload_n hx hb dX1_independent_23 rfl (lv_at hl 1 rfl) ?_
      refine lv_iload_n hx hb dX1_independent_24 rfl (lv_at hl 2 rfl) ?_
      refine fg_cVl (a := g 0) (As := [.int (nI i), .int (nI j)]) (rest := [.long (lN (fg_aTotal F va we gi))]) (ci := 1) (q := (RX1, TX1, 4)) ⟨hx, hb, hml, hown, hts⟩ (fg_M_both (l := l) hi hj hI) (cwV 2 hts (lw_V q210 q212 qs15 q18 q213) rfl rfl rfl fg_md_X1_both ⟨Nat.le_of_ble_eq_true rfl, Nat.le_of_ble_eq_true rfl⟩) rfl rfl hK hP hP hS hA rfl hl.1 rfl (Nat.le_of_ble_eq_true rfl) dX1_independent_25 ⟨Nat.zero_le _, Nat.zero_le _⟩ (fun r3 H locs hr3 hP hS => ?_)
      subst hr3
      refine lv_lmul hx hb dX1_independent_28 ?_
      refine lv_aload_n hx hb dX1_independent_29 rfl (lv_at hl 0 rfl) ?_
      refine lv_iload_n hx hb dX1_independent_30 rfl (lv_at hl 1 rfl) ?_
      refine fg_cVl (a := g 0) (As := [.int (nI i)]) (rest := [.long ((lN (fg_aTotal F va we gi)) * (lN (fg_s2 F va we gi i 1 j 1)))]) (ci := 1) (q := (RX1, TX1, 4)) ⟨hx, hb, hml, hown, hts⟩ (fg_M_share (l := l) (x := nI i) hI) (cwV 1 hts (lw_V q236 q207 q208 q18 q209) rfl rfl rfl fg_md_X1_share ⟨Nat.le_of_ble_eq_true rfl, Nat.le_of_ble_eq_true rfl⟩) rfl rfl hK hP hP hS hA rfl hl.1 rfl (Nat.le_of_ble_eq_true rfl) dX1_independent_31 ⟨Nat.zero_le _, Nat.zero_le _⟩ (fun r3 H locs hr3 hP hS => ?_)
      subst hr3
      refine fg_topl (y := lN (fg_s1 F va we gi i 1)) (by unfold fg_aShare; rw [if_neg (fg_bad_n hi), nI_clamp (by omega)]) ?_
      refine lv_aload_n hx hb dX1_independent_34 rfl (lv_at hl 0 rfl) ?_
      refine lv_iload_n hx hb dX1_independent_35 rfl (lv_at hl 2 rfl) ?_
      refine fg_cVl (a := g 0) (As := [.int (nI j)]) (rest := [.long (lN (fg_s1 F va we gi i 1)), .long ((lN (fg_aTotal F va we gi)) * (lN (fg_s2 F va we gi i 1 j 1)))]) (ci := 1) (q := (RX1, TX1, 4)) ⟨hx, hb, hml, hown, hts⟩ (fg_M_share (l := l) (x := nI j) hI) (cwV 1 hts (lw_V q236 q207 q208 q18 q209) rfl rfl rfl fg_md_X1_share ⟨Nat.le_of_ble_eq_true rfl, Nat.le_of_ble_eq_true rfl⟩) rfl rfl hK hP hP hS hA rfl hl.1 rfl (Nat.le_of_ble_eq_true rfl) dX1_independent_36 ⟨Nat.zero_le _, Nat.zero_le _⟩ (fun r3 H locs hr3 hP hS => ?_)
      subst hr3
      refine fg_topl (y := lN (fg_s1 F va we gi j 1)) (by unfold fg_aShare; rw [if_neg (fg_bad_n hj), nI_clamp (by omega)]) ?_
      refine lv_lmul hx hb dX1_independent_39 ?_
      refine W.lcmp hx hb dX1_independent_40 ?_
      refine lv_if_ne (tgt := 48) hx hb dX1_independent_41 (by decide) (fun hc3 => ?_) (fun hc3 => ?_)
      · refine lv_iconst (v := nI 0) hx hb dX1_independent_48 (by decide) ?_
        exact ret _ _ _ _ _ dX1_independent_49 hS (by unfold fg_aInd; rw [if_neg hnb, nI_clamp (by omega), nI_clamp (by omega), if_neg (fun z => hc3 ((lg_cmp_eq _ _).mpr z))]; rfl)
      · refine lv_iconst (v := nI 1) hx hb dX1_independent_44 (by decide) ?_
        refine lv_goto (tgt := 49) hx hb dX1_independent_45 (by decide) ?_
        exact ret _ _ _ _ _ dX1_independent_49 hS (by unfold fg_aInd; rw [if_neg hnb, nI_clamp (by omega), nI_clamp (by omega), if_pos ((lg_cmp_eq _ _).mp hc3)]; rfl)
    · have hbd : fg_bad x ∨ fg_bad y := Or.inr (Decidable.byContradiction (fun z => hc2 ((fg_ite0 hr2).mpr z)))
      refine lv_iconst (v := nI 1) hx hb dX1_independent_16 (by decide) ?_
      exact ret _ _ _ _ _ dX1_independent_17 hS (by unfold fg_aInd; rw [if_pos hbd]; rfl)

end FGM
end
section
section FGM2
variable {l : Launch} {D : va_G} {g : Nat → Nat} {dA : ClassId} {F : Nat} {fa : Int32} {ar va we gi : Nat → Int32}
set_option maxHeartbeats 4000000 in
set_option maxRecDepth 100000 in
/-- factor(x, y, z) -/
theorem fg_M_factor {x y z : Int32} (hI : fg_inv F ar va we gi) : fg_Mi l yX1_factor cX1_factor 6 .int fg_rm_X1_factor D [.ref (g 0), .int x, .int y, .int z] (fg_wM g dA (nI F) va we gi) (fg_tM dA) (fun (r : Int32) (_ : Unit) => r = fg_fr F x y z) (fun _ => fg_wM g dA (nI (fg_fF F x y z)) (fg_fV F va x y z) (fg_fW F we x y z) gi) := by
  refine fg_Mi_of (own := RX1) (by decide) rfl (Nat.le_of_ble_eq_true rfl) (fun _ _ _ => rfl) ?_
  intro p e s m args below meth c ls A Q hC hP hK hD hl hA hS ret
  obtain ⟨hx, hb, hr, hts, hown, hlocks, hml⟩ := hC
  have hl : lv_has ls 6 [(0, .ref (g 0)), (1, .int x), (2, .int y), (3, .int z)] := hl
  obtain ⟨hF7, -⟩ := id hI
  have tail12 : ∀ (ls : Array Slot) (t : Int32), ((y = -1 ∧ t = -1) ∨ (¬ y = -1 ∧ t = z)) → lv_has ls 6 [(0, .ref (g 0)), (1, .int x), (2, .int y), (4, .int t)] → W p l e fg_rm_X1_factor s m args below meth c s.heap [] 0 0 Q (F0 m 12 ls []) := by
    intro ls t ht hl
    refine lv_aload_n hx hb dX1_factor_12 rfl (lv_at hl 0 rfl) ?_
    refine lv_iload_n hx hb dX1_factor_13 rfl (lv_at hl 1 rfl) ?_
    refine fg_cVi (a := g 0) (As := [.int x]) (rest := []) (ci := 1) (q := (RX1, TX1, 4)) ⟨hx, hb, hml, hown, hts⟩ (fg_M_bad (l := l) (x := x)) (cwV 1 hts (lw_V q174 q176 qs11 q18 q177) rfl rfl rfl fg_md_X1_bad ⟨Nat.le_of_ble_eq_true rfl, Nat.le_of_ble_eq_true rfl⟩) rfl rfl hK hP hP hS hA rfl hl.1 rfl (Nat.le_of_ble_eq_true rfl) dX1_factor_14 ⟨Nat.zero_le _, Nat.zero_le _⟩ (fun r1 H locs hr1 hP hS => ?_)
    have tail70 : ∀ (ls : Array Slot), ¬ fg_fbad x y z → lv_has ls 6 [(0, .ref (g 0)), (1, .int x), (2, .int y), (4, .int (fg_3 y z))] → W p l e fg_rm_X1_factor s m args below meth c H locs 0 0 Q (F0 m 70 ls []) := by
      intro ls hnb hl
      refine lv_aload_n hx hb dX1_factor_70 rfl (lv_at hl 0 rfl) ?_
      refine gm_factors hx hb hts hown hK hP dX1_factor_71 ?_
      refine lv_bipush (v := nI 7) hx hb dX1_factor_74 (by decide) ?_
      refine fg_ine (tgt := 82) hx hb dX1_factor_76 (by decide) (by omega) (by omega) (fun hc6 => ?_) (fun hc6 => ?_)
      · have hF : ¬ F = 7 := hc6
        have hgood : ¬ (fg_fbad x y z ∨ F = 7) := fun q => q.elim hnb hF
        have loop : ∀ (k i : Nat), i ≤ 8 → 8 < i + k → ∀ (H : Heap) (locs : List Loc), va_P D vwCl (fg_wM g dA (nI F) (upd (upd (upd va (F * 3) x) (F * 3 + 1) y) (F * 3 + 2) (fg_3 y z)) (fg_w8 we F i) gi) H → va_D A (fg_wM g dA (nI F) (upd (upd (upd va (F * 3) x) (F * 3 + 1) y) (F * 3 + 2) (fg_3 y z)) (fg_w8 we F i) gi) → va_S A s.heap H locs → ∀ (ls : Array Slot), lv_has ls 6 [(0, .ref (g 0)), (5, .int (nI i))] → W p l e fg_rm_X1_factor s m args below meth c H locs 0 0 Q (F0 m 126 ls []) := by
          intro k
          induction k with
          | zero => intro i h1 h2; exact absurd h2 (by omega)
          | succ k ih =>
            intro i hi hk H locs hP hD hS ls hl
            refine lv_iload hx hb dX1_factor_126 (lv_at hl 1 rfl) ?_
            refine lv_bipush (v := nI 8) hx hb dX1_factor_128 (by decide) ?_
            refine fg_ige (tgt := 155) hx hb dX1_factor_130 (by decide) (by omega) (by omega) (fun hc9 => ?_) (fun hc9 => ?_)
            · have hi8 : i = 8 := by omega
              subst hi8
              refine lv_aload_n hx hb dX1_factor_155 rfl (lv_at hl 0 rfl) ?_
              refine lv_aload_n hx hb dX1_factor_156 rfl (lv_at hl 0 rfl) ?_
              refine gm_factors hx hb hts hown hK hP dX1_factor_157 ?_
              refine lv_iconst (v := nI 1) hx hb dX1_factor_160 (by decide) ?_
              refine fg_iadd hx hb dX1_factor_161 ?_
              refine pm_factors hx hb hts hown hK hP hD hS dX1_factor_162 (fun H locs hP hD hS => ?_)
              refine lv_aload_n hx hb dX1_factor_165 rfl (lv_at hl 0 rfl) ?_
              refine gm_factors hx hb hts hown hK hP dX1_factor_166 ?_
              refine lv_iconst (v := nI 1) hx hb dX1_factor_169 (by decide) ?_
              refine fg_isub (by omega) hx hb dX1_factor_170 ?_
              obtain ⟨e1, -, e3, e4⟩ := fg_f_new (ar := ar) (va := va) (we := we) hgood
              exact ret _ () _ _ _ _ dX1_factor_171 hS (by rw [Nat.add_sub_cancel]; exact (fg_f_ok hnb hF).symm) (by rw [e1, e3, e4]; exact hP) (by rw [e1, e3, e4]; exact hD)
            · refine lv_aload_n hx hb dX1_factor_133 rfl (lv_at hl 0 rfl) ?_
              refine gm_weights hx hb hts hown hK hP dX1_factor_134 ?_
              refine lv_aload_n hx hb dX1_factor_137 rfl (lv_at hl 0 rfl) ?_
              refine gm_factors hx hb hts hown hK hP dX1_factor_138 ?_
              refine lv_bipush (v := nI 8) hx hb dX1_factor_141 (by decide) ?_
              refine fg_imul hx hb dX1_factor_143 ?_
              refine lv_iload hx hb dX1_factor_144 (lv_at hl 1 rfl) ?_
              refine fg_iadd hx hb dX1_factor_146 ?_
              refine lv_iconst (v := nI 1) hx hb dX1_factor_147 (by decide) ?_
              refine sm_weights hx hb hK hP hD hS (by omega) dX1_factor_148 (fun H locs hP hD hS => ?_)
              rw [fg_w8_s] at hP hD
              refine lv_iinc (v := nI (i + 1)) (lv' := [(5, .int (nI (i + 1))), (0, .ref (g 0))]) hx hb dX1_factor_149 hl (k := 1) rfl (fg_inc _) (by decide) rfl (fun ls hl => ?_)
              refine lv_goto (tgt := 126) hx hb dX1_factor_152 (by decide) ?_
              exact ih (i + 1) (by omega) (by omega) _ _ hP hD hS ls (lv_sub hl [1, 0] rfl)
        refine lv_aload_n hx hb dX1_factor_82 rfl (lv_at hl 0 rfl) ?_
        refine gm_vars hx hb hts hown hK hP dX1_factor_83 ?_
        refine lv_aload_n hx hb dX1_factor_86 rfl (lv_at hl 0 rfl) ?_
        refine gm_factors hx hb hts hown hK hP dX1_factor_87 ?_
        refine lv_iconst (v := nI 3) hx hb dX1_factor_90 (by decide) ?_
        refine fg_imul hx hb dX1_factor_91 ?_
        refine lv_iload_n hx hb dX1_factor_92 rfl (lv_at hl 1 rfl) ?_
        refine sm_vars hx hb hK hP hD hS (by omega) dX1_factor_93 (fun H locs hP hD hS => ?_)
        refine lv_aload_n hx hb dX1_factor_94 rfl (lv_at hl 0 rfl) ?_
        refine gm_vars hx hb hts hown hK hP dX1_factor_95 ?_
        refine lv_aload_n hx hb dX1_factor_98 rfl (lv_at hl 0 rfl) ?_
        refine gm_factors hx hb hts hown hK hP dX1_factor_99 ?_
        refine lv_iconst (v := nI 3) hx hb dX1_factor_102 (by decide) ?_
        refine fg_imul hx hb dX1_factor_103 ?_
        refine lv_iconst (v := nI 1) hx hb dX1_factor_104 (by decide) ?_
        refine fg_iadd hx hb dX1_factor_105 ?_
        refine lv_iload_n hx hb dX1_factor_106 rfl (lv_at hl 2 rfl) ?_
        refine sm_vars hx hb hK hP hD hS (by omega) dX1_factor_107 (fun H locs hP hD hS => ?_)
        refine lv_aload_n hx hb dX1_factor_108 rfl (lv_at hl 0 rfl) ?_
        refine gm_vars hx hb hts hown hK hP dX1_factor_109 ?_
        refine lv_aload_n hx hb dX1_factor_112 rfl (lv_at hl 0 rfl) ?_
        refine gm_factors hx hb hts hown hK hP dX1_factor_113 ?_
        refine lv_iconst (v := nI 3) hx hb dX1_factor_116 (by decide) ?_
        refine fg_imul hx hb dX1_factor_117 ?_
        refine lv_iconst (v := nI 2) hx hb dX1_factor_118 (by decide) ?_
        refine fg_iadd hx hb dX1_factor_119 ?_
        refine lv_iload hx hb dX1_factor_120 (lv_at hl 3 rfl) ?_
        refine sm_vars hx hb hK hP hD hS (by omega) dX1_factor_122 (fun H locs hP hD hS => ?_)
        refine lv_iconst (v := nI 0) hx hb dX1_factor_123 (by decide) ?_
        refine lv_istore (lv' := [(5, .int (nI 0)), (0, .ref (g 0)), (1, .int x), (2, .int y), (4, .int (fg_3 y z))]) hx hb dX1_factor_124 hl (by decide) rfl (fun ls hl => ?_)
        rw [← fg_w8_0 we F] at hP hD
        exact loop 9 0 (by omega) (by omega) _ _ hP hD hS ls (lv_sub hl [1, 0] rfl)
      · obtain ⟨e1, -, e3, e4⟩ := fg_f_same (F := F) (ar := ar) (va := va) (we := we) (x := x) (y := y) (z := z) (Or.inr hc6)
        refine lv_bipush (v := -4) hx hb dX1_factor_79 (by decide) ?_
        exact ret _ () _ _ _ _ dX1_factor_81 hS (fg_f_full hnb hc6).symm (by rw [e1, e3, e4]; exact hP) (by rw [e1, e3, e4]; exact hD)
    have tail31 : ∀ (ls : Array Slot), ¬ fg_bad x → ¬ y < -1 → ¬ 7 ≤ y → lv_has ls 6 [(0, .ref (g 0)), (1, .int x), (2, .int y), (4, .int (fg_3 y z))] → W p l e fg_rm_X1_factor s m args below meth c H locs 0 0 Q (F0 m 31 ls []) := by
      intro ls n1 n2 n3 hl
      refine lv_iload hx hb dX1_factor_31 (lv_at hl 3 rfl) ?_
      refine lv_iconst (v := -1) hx hb dX1_factor_33 (by decide) ?_
      refine lv_icmp_lt (tgt := 55) hx hb dX1_factor_34 (by decide) (fun hc1 => ?_) (fun hc1 => ?_)
      · have hbd : fg_fbad x y z := Or.inr (Or.inr (Or.inr (Or.inr (Or.inl hc1))))
        obtain ⟨e1, -, e3, e4⟩ := fg_f_same (F := F) (ar := ar) (va := va) (we := we) (x := x) (y := y) (z := z) (Or.inl hbd)
        refine lv_iconst (v := -1) hx hb dX1_factor_55 (by decide) ?_
        exact ret _ () _ _ _ _ dX1_factor_56 hS (fg_f_bad hbd).symm (by rw [e1, e3, e4]; exact hP) (by rw [e1, e3, e4]; exact hD)
      · refine lv_iload hx hb dX1_factor_37 (lv_at hl 3 rfl) ?_
        refine lv_bipush (v := nI 6) hx hb dX1_factor_39 (by decide) ?_
        refine lv_icmp_gt (tgt := 55) hx hb dX1_factor_41 (by decide) (fun hc2 => ?_) (fun hc2 => ?_)
        · have hbd : fg_fbad x y z := Or.inr (Or.inr (Or.inr (Or.inr (Or.inr (Or.inl (fg_lt6.mp hc2))))))
          obtain ⟨e1, -, e3, e4⟩ := fg_f_same (F := F) (ar := ar) (va := va) (we := we) (x := x) (y := y) (z := z) (Or.inl hbd)
          refine lv_iconst (v := -1) hx hb dX1_factor_55 (by decide) ?_
          exact ret _ () _ _ _ _ dX1_factor_56 hS (fg_f_bad hbd).symm (by rw [e1, e3, e4]; exact hP) (by rw [e1, e3, e4]; exact hD)
        · have n6 : ¬ 7 ≤ fg_3 y z := fun q => hc2 (fg_lt6.mpr q)
          refine lv_iload_n hx hb dX1_factor_44 rfl (lv_at hl 1 rfl) ?_
          refine lv_iload_n hx hb dX1_factor_45 rfl (lv_at hl 2 rfl) ?_
          refine lv_icmp_eq (tgt := 55) hx hb dX1_factor_46 (by decide) (fun hc3 => ?_) (fun hc3 => ?_)
          · have hbd : fg_fbad x y z := Or.inr (Or.inr (Or.inr (Or.inl hc3.symm)))
            obtain ⟨e1, -, e3, e4⟩ := fg_f_same (F := F) (ar := ar) (va := va) (we := we) (x := x) (y := y) (z := z) (Or.inl hbd)
            refine lv_iconst (v := -1) hx hb dX1_factor_55 (by decide) ?_
            exact ret _ () _ _ _ _ dX1_factor_56 hS (fg_f_bad hbd).symm (by rw [e1, e3, e4]; exact hP) (by rw [e1, e3, e4]; exact hD)
          · have n4 : ¬ y = x := fun q => hc3 q.symm
            refine lv_iload_n hx hb dX1_factor_49 rfl (lv_at hl 1 rfl) ?_
            refine lv_iload hx hb dX1_factor_50 (lv_at hl 3 rfl) ?_
            refine lv_icmp_ne (tgt := 57) hx hb dX1_factor_52 (by decide) (fun hc4 => ?_) (fun hc4 => ?_)
            · refine lv_iload_n hx hb dX1_factor_57 rfl (lv_at hl 2 rfl) ?_
              refine lv_iconst (v := -1) hx hb dX1_factor_58 (by decide) ?_
              refine lv_icmp_eq (tgt := 70) hx hb dX1_factor_59 (by decide) (fun hc5 => ?_) (fun hc5 => ?_)
              · have h3 : fg_3 y z = -1 := by unfold fg_3; rw [if_pos (by rw [hc5]; decide)]
                exact tail70 ls (fun q => q.elim n1 (fun q => q.elim n2 (fun q => q.elim n3 (fun q => q.elim n4 (fun q => q.elim hc1 (fun q => q.elim n6 (fun q => absurd q.1 (by rw [h3]; decide)))))))) (lv_sub hl [0, 1, 2, 3] rfl)
              · refine lv_iload_n hx hb dX1_factor_62 rfl (lv_at hl 2 rfl) ?_
                refine lv_iload hx hb dX1_factor_63 (lv_at hl 3 rfl) ?_
                refine lv_icmp_ne (tgt := 70) hx hb dX1_factor_65 (by decide) (fun hc7 => ?_) (fun hc7 => ?_)
                · exact tail70 ls (fun q => q.elim n1 (fun q => q.elim n2 (fun q => q.elim n3 (fun q => q.elim n4 (fun q => q.elim hc1 (fun q => q.elim n6 (fun q => q.2.elim (fun q => hc4 q.symm) (fun q => hc7 q.symm)))))))) (lv_sub hl [0, 1, 2, 3] rfl)
                · have hbd : fg_fbad x y z := Or.inr (Or.inr (Or.inr (Or.inr (Or.inr (Or.inr ⟨by rw [← hc7]; exact Int32.not_lt.mp (fg_nge0 n2 hc5), Or.inr hc7.symm⟩)))))
                  obtain ⟨e1, -, e3, e4⟩ := fg_f_same (F := F) (ar := ar) (va := va) (we := we) (x := x) (y := y) (z := z) (Or.inl hbd)
                  refine lv_iconst (v := -1) hx hb dX1_factor_68 (by decide) ?_
                  exact ret _ () _ _ _ _ dX1_factor_69 hS (fg_f_bad hbd).symm (by rw [e1, e3, e4]; exact hP) (by rw [e1, e3, e4]; exact hD)
            · have hbd : fg_fbad x y z := Or.inr (Or.inr (Or.inr (Or.inr (Or.inr (Or.inr ⟨by rw [← hc4]; exact Int32.not_lt.mp (fun q => n1 (Or.inl q)), Or.inl hc4.symm⟩)))))
              obtain ⟨e1, -, e3, e4⟩ := fg_f_same (F := F) (ar := ar) (va := va) (we := we) (x := x) (y := y) (z := z) (Or.inl hbd)
              refine lv_iconst (v := -1) hx hb dX1_factor_55 (by decide) ?_
              exact ret _ () _ _ _ _ dX1_factor_56 hS (fg_f_bad hbd).symm (by rw [e1, e3, e4]; exact hP) (by rw [e1, e3, e4]; exact hD)
    refine lv_if_ne (tgt := 55) hx hb dX1_factor_17 (by decide) (fun hd1 => ?_) (fun hd1 => ?_)
    · have hbd : fg_fbad x y z := Or.inl (Decidable.byContradiction (fun q => hd1 ((fg_ite0 hr1).mpr q)))
      obtain ⟨e1, -, e3, e4⟩ := fg_f_same (F := F) (ar := ar) (va := va) (we := we) (x := x) (y := y) (z := z) (Or.inl hbd)
      refine lv_iconst (v := -1) hx hb dX1_factor_55 (by decide) ?_
      exact ret _ () _ _ _ _ dX1_factor_56 hS (fg_f_bad hbd).symm (by rw [e1, e3, e4]; exact hP) (by rw [e1, e3, e4]; exact hD)
    · have n1 : ¬ fg_bad x := (fg_ite0 hr1).mp hd1
      refine lv_iload_n hx hb dX1_factor_20 rfl (lv_at hl 2 rfl) ?_
      refine lv_iconst (v := -1) hx hb dX1_factor_21 (by decide) ?_
      refine lv_icmp_lt (tgt := 55) hx hb dX1_factor_22 (by decide) (fun hd2 => ?_) (fun hd2 => ?_)
      · have hbd : fg_fbad x y z := Or.inr (Or.inl hd2)
        obtain ⟨e1, -, e3, e4⟩ := fg_f_same (F := F) (ar := ar) (va := va) (we := we) (x := x) (y := y) (z := z) (Or.inl hbd)
        refine lv_iconst (v := -1) hx hb dX1_factor_55 (by decide) ?_
        exact ret _ () _ _ _ _ dX1_factor_56 hS (fg_f_bad hbd).symm (by rw [e1, e3, e4]; exact hP) (by rw [e1, e3, e4]; exact hD)
      · refine lv_iload_n hx hb dX1_factor_25 rfl (lv_at hl 2 rfl) ?_
        refine lv_bipush (v := nI 6) hx hb dX1_factor_26 (by decide) ?_
        refine lv_icmp_gt (tgt := 55) hx hb dX1_factor_28 (by decide) (fun hd3 => ?_) (fun hd3 => ?_)
        · have hbd : fg_fbad x y z := Or.inr (Or.inr (Or.inl (fg_lt6.mp hd3)))
          obtain ⟨e1, -, e3, e4⟩ := fg_f_same (F := F) (ar := ar) (va := va) (we := we) (x := x) (y := y) (z := z) (Or.inl hbd)
          refine lv_iconst (v := -1) hx hb dX1_factor_55 (by decide) ?_
          exact ret _ () _ _ _ _ dX1_factor_56 hS (fg_f_bad hbd).symm (by rw [e1, e3, e4]; exact hP) (by rw [e1, e3, e4]; exact hD)
        · have h3 : t = fg_3 y z := by
            unfold fg_3
            rcases ht with ⟨q1, q2⟩ | ⟨q1, q2⟩
            · rw [if_pos (by rw [q1]; decide)]; exact q2
            · rw [if_neg (fg_nge0 hd2 q1)]; exact q2
          subst h3
          exact tail31 ls n1 hd2 (fun q => hd3 (fg_lt6.mpr q)) (lv_sub hl [0, 1, 2, 3] rfl)
  refine lv_iload_n hx hb dX1_factor_0 rfl (lv_at hl 2 rfl) ?_
  refine lv_iconst (v := -1) hx hb dX1_factor_1 (by decide) ?_
  refine lv_icmp_ne (tgt := 9) hx hb dX1_factor_2 (by decide) (fun hc0 => ?_) (fun hc0 => ?_)
  · refine lv_iload_n hx hb dX1_factor_9 rfl (lv_at hl 3 rfl) ?_
    refine lv_istore (lv' := [(4, .int z), (0, .ref (g 0)), (1, .int x), (2, .int y), (3, .int z)]) hx hb dX1_factor_10 hl (by decide) rfl (fun ls hl => ?_)
    exact tail12 ls z (Or.inr ⟨hc0, rfl⟩) (lv_sub hl [1, 2, 3, 0] rfl)
  · refine lv_iconst (v := -1) hx hb dX1_factor_5 (by decide) ?_
    refine lv_goto (tgt := 10) hx hb dX1_factor_6 (by decide) ?_
    refine lv_istore (lv' := [(4, .int (-1)), (0, .ref (g 0)), (1, .int x), (2, .int y), (3, .int z)]) hx hb dX1_factor_10 hl (by decide) rfl (fun ls hl => ?_)
    exact tail12 ls (-1) (Or.inl ⟨hc0, rfl⟩) (lv_sub hl [1, 2, 3, 0] rfl)

set_option maxHeartbeats 4000000 in
set_option maxRecDepth 100000 in
/-- weight(f, y, w) -/
theorem fg_M_weight {f y w : Int32} (hI : fg_inv F ar va we gi) : fg_Mi l yX1_weight cX1_weight 6 .int fg_rm_X1_weight D [.ref (g 0), .int f, .int y, .int w] (fg_wM g dA (nI F) va we gi) (fg_tM dA) (fun (r : Int32) (_ : Unit) => r = fg_wr F va we f y w) (fun _ => fg_wM g dA (nI F) va (fg_wW F va we f y w) gi) := by
  refine fg_Mi_of (own := RX1) (by decide) rfl (Nat.le_of_ble_eq_true rfl) (fun _ _ _ => rfl) ?_
  intro p e s m args below meth c ls A Q hC hP hK hD hl hA hS ret
  obtain ⟨hx, hb, hr, hts, hown, hlocks, hml⟩ := hC
  have hl : lv_has ls 6 [(0, .ref (g 0)), (1, .int f), (2, .int y), (3, .int w)] := hl
  obtain ⟨hF7, hff, -⟩ := id hI
  refine lv_iload_n hx hb dX1_weight_0 rfl (lv_at hl 1 rfl) ?_
  refine lv_if_lt (tgt := 12) hx hb dX1_weight_1 (by decide) (fun hc1 => ?_) (fun hc1 => ?_)
  · obtain ⟨e1, e2⟩ := fg_wr1 (F := F) (va := va) (we := we) (f := f) (y := y) (w := w) (Or.inl hc1)
    refine lv_bipush (v := -2) hx hb dX1_weight_12 (by decide) ?_
    exact ret _ () _ _ _ _ dX1_weight_14 hS e1.symm (by rw [e2]; exact hP) (by rw [e2]; exact hD)
  · refine lv_iload_n hx hb dX1_weight_4 rfl (lv_at hl 1 rfl) ?_
    refine lv_aload_n hx hb dX1_weight_5 rfl (lv_at hl 0 rfl) ?_
    refine gm_factors hx hb hts hown hK hP dX1_weight_6 ?_
    refine lv_icmp_lt (tgt := 15) hx hb dX1_weight_9 (by decide) (fun hc2 => ?_) (fun hc2 => ?_)
    · have n1 : ¬ fg_b1 F f := fun q => q.elim hc1 (fun q => Int32.not_lt.mpr q hc2)
      obtain ⟨j, hj, rfl⟩ := fg_not_b1 (by omega) n1
      have hw8 := fg_ww_le va j
      have hcl : (nI j).toNatClampNeg = j := nI_clamp (by omega)
      have tail : ∀ (ls : Array Slot), lv_has ls 6 [(0, .ref (g 0)), (1, .int (nI j)), (2, .int y), (3, .int w), (4, .int (nI (fg_ww va j)))] → W p l e fg_rm_X1_weight s m args below meth c s.heap [] 0 0 Q (F0 m 53 ls []) := by
        intro ls hl
        refine lv_iload_n hx hb dX1_weight_53 rfl (lv_at hl 2 rfl) ?_
        refine lv_if_lt (tgt := 63) hx hb dX1_weight_54 (by decide) (fun hc3 => ?_) (fun hc3 => ?_)
        · obtain ⟨e1, e2⟩ := fg_wr2 (we := we) (w := w) n1 (Or.inl hc3)
          refine lv_bipush (v := -5) hx hb dX1_weight_63 (by decide) ?_
          exact ret _ () _ _ _ _ dX1_weight_65 hS e1.symm (by rw [e2]; exact hP) (by rw [e2]; exact hD)
        · refine lv_iload_n hx hb dX1_weight_57 rfl (lv_at hl 2 rfl) ?_
          refine lv_iload hx hb dX1_weight_58 (lv_at hl 4 rfl) ?_
          refine lv_icmp_lt (tgt := 66) hx hb dX1_weight_60 (by decide) (fun hc4 => ?_) (fun hc4 => ?_)
          · have n2 : ¬ fg_b2 va (nI j) y := fun q => q.elim hc3 (fun q => Int32.not_lt.mpr (by rw [hcl] at q; exact q) hc4)
            obtain ⟨i, hi, rfl⟩ := fg_not_b1 (F := fg_ww va j) (by omega) (fun q => q.elim hc3 (fun q => Int32.not_lt.mpr q hc4))
            have hci : (nI i).toNatClampNeg = i := nI_clamp (by omega)
            refine lv_iload_n hx hb dX1_weight_66 rfl (lv_at hl 3 rfl) ?_
            refine lv_if_lt (tgt := 76) hx hb dX1_weight_67 (by decide) (fun hc5 => ?_) (fun hc5 => ?_)
            · obtain ⟨e1, e2⟩ := fg_wr3 (we := we) n1 n2 (Or.inl hc5)
              refine lv_bipush (v := -3) hx hb dX1_weight_76 (by decide) ?_
              exact ret _ () _ _ _ _ dX1_weight_78 hS e1.symm (by rw [e2]; exact hP) (by rw [e2]; exact hD)
            · refine lv_iload_n hx hb dX1_weight_70 rfl (lv_at hl 3 rfl) ?_
              refine lv_bipush (v := nI 9) hx hb dX1_weight_71 (by decide) ?_
              refine lv_icmp_le (tgt := 79) hx hb dX1_weight_73 (by decide) (fun hc6 => ?_) (fun hc6 => ?_)
              · have n3 : ¬ fg_b3 w := fun q => q.elim hc5 (fun q => Int32.not_le.mpr q hc6)
                obtain ⟨e1, e2⟩ := fg_wr4 (we := we) n1 n2 n3
                rw [hcl, hci] at e1 e2
                refine lv_aload_n hx hb dX1_weight_79 rfl (lv_at hl 0 rfl) ?_
                refine gm_weights hx hb hts hown hK hP dX1_weight_80 ?_
                refine lv_iload_n hx hb dX1_weight_83 rfl (lv_at hl 1 rfl) ?_
                refine lv_bipush (v := nI 8) hx hb dX1_weight_84 (by decide) ?_
                refine fg_imul hx hb dX1_weight_86 ?_
                refine lv_iload_n hx hb dX1_weight_87 rfl (lv_at hl 2 rfl) ?_
                refine fg_iadd hx hb dX1_weight_88 ?_
                refine lm_weights hx hb hK hP (by omega) dX1_weight_89 ?_
                refine lv_istore (lv' := [(5, .int (we ((j * 8) + i))), (0, .ref (g 0)), (1, .int (nI j)), (2, .int (nI i)), (3, .int w), (4, .int (nI (fg_ww va j)))]) hx hb dX1_weight_90 hl (by decide) rfl (fun ls hl => ?_)
                refine lv_aload_n hx hb dX1_weight_92 rfl (lv_at hl 1 rfl) ?_
                refine gm_weights hx hb hts hown hK hP dX1_weight_93 ?_
                refine lv_iload_n hx hb dX1_weight_96 rfl (lv_at hl 2 rfl) ?_
                refine lv_bipush (v := nI 8) hx hb dX1_weight_97 (by decide) ?_
                refine fg_imul hx hb dX1_weight_99 ?_
                refine lv_iload_n hx hb dX1_weight_100 rfl (lv_at hl 3 rfl) ?_
                refine fg_iadd hx hb dX1_weight_101 ?_
                refine lv_iload_n hx hb dX1_weight_102 rfl (lv_at hl 4 rfl) ?_
                refine sm_weights hx hb hK hP hD hS (by omega) dX1_weight_103 (fun H locs hP hD hS => ?_)
                refine lv_iload hx hb dX1_weight_104 (lv_at hl 0 rfl) ?_
                exact ret _ () _ _ _ _ dX1_weight_106 hS e1.symm (by rw [e2]; exact hP) (by rw [e2]; exact hD)
              · obtain ⟨e1, e2⟩ := fg_wr3 (we := we) n1 n2 (Or.inr (Int32.not_le.mp hc6))
                refine lv_bipush (v := -3) hx hb dX1_weight_76 (by decide) ?_
                exact ret _ () _ _ _ _ dX1_weight_78 hS e1.symm (by rw [e2]; exact hP) (by rw [e2]; exact hD)
          · obtain ⟨e1, e2⟩ := fg_wr2 (we := we) (w := w) n1 (Or.inr (by rw [hcl]; exact Int32.not_lt.mp hc4))
            refine lv_bipush (v := -5) hx hb dX1_weight_63 (by decide) ?_
            exact ret _ () _ _ _ _ dX1_weight_65 hS e1.symm (by rw [e2]; exact hP) (by rw [e2]; exact hD)
      refine lv_aload_n hx hb dX1_weight_15 rfl (lv_at hl 0 rfl) ?_
      refine gm_vars hx hb hts hown hK hP dX1_weight_16 ?_
      refine lv_iload_n hx hb dX1_weight_19 rfl (lv_at hl 1 rfl) ?_
      refine lv_iconst (v := nI 3) hx hb dX1_weight_20 (by decide) ?_
      refine fg_imul hx hb dX1_weight_21 ?_
      refine lv_iconst (v := nI 1) hx hb dX1_weight_22 (by decide) ?_
      refine fg_iadd hx hb dX1_weight_23 ?_
      refine lm_vars hx hb hK hP (by omega) dX1_weight_24 ?_
      refine lv_if_ge (tgt := 32) hx hb dX1_weight_25 (by decide) (fun hd1 => ?_) (fun hd1 => ?_)
      · refine lv_aload_n hx hb dX1_weight_32 rfl (lv_at hl 0 rfl) ?_
        refine gm_vars hx hb hts hown hK hP dX1_weight_33 ?_
        refine lv_iload_n hx hb dX1_weight_36 rfl (lv_at hl 1 rfl) ?_
        refine lv_iconst (v := nI 3) hx hb dX1_weight_37 (by decide) ?_
        refine fg_imul hx hb dX1_weight_38 ?_
        refine lv_iconst (v := nI 2) hx hb dX1_weight_39 (by decide) ?_
        refine fg_iadd hx hb dX1_weight_40 ?_
        refine lm_vars hx hb hK hP (by omega) dX1_weight_41 ?_
        refine lv_if_ge (tgt := 49) hx hb dX1_weight_42 (by decide) (fun hd2 => ?_) (fun hd2 => ?_)
        · refine lv_bipush (v := nI 8) hx hb dX1_weight_49 (by decide) ?_
          refine fg_top (y := nI (fg_ww va j)) (congrArg nI (by unfold fg_ww; rw [if_neg (Int32.not_lt.mpr hd1), if_neg (Int32.not_lt.mpr hd2)])) ?_
          refine lv_istore (lv' := [(4, .int (nI (fg_ww va j))), (0, .ref (g 0)), (1, .int (nI j)), (2, .int y), (3, .int w)]) hx hb dX1_weight_51 hl (by decide) rfl (fun ls hl => ?_)
          exact tail ls (lv_sub hl [1, 2, 3, 4, 0] rfl)
        · refine lv_iconst (v := nI 4) hx hb dX1_weight_45 (by decide) ?_
          refine lv_goto (tgt := 51) hx hb dX1_weight_46 (by decide) ?_
          refine fg_top (y := nI (fg_ww va j)) (congrArg nI (by unfold fg_ww; rw [if_neg (Int32.not_lt.mpr hd1), if_pos (Int32.not_le.mp hd2)])) ?_
          refine lv_istore (lv' := [(4, .int (nI (fg_ww va j))), (0, .ref (g 0)), (1, .int (nI j)), (2, .int y), (3, .int w)]) hx hb dX1_weight_51 hl (by decide) rfl (fun ls hl => ?_)
          exact tail ls (lv_sub hl [1, 2, 3, 4, 0] rfl)
      · refine lv_iconst (v := nI 2) hx hb dX1_weight_28 (by decide) ?_
        refine lv_goto (tgt := 51) hx hb dX1_weight_29 (by decide) ?_
        refine fg_top (y := nI (fg_ww va j)) (congrArg nI (by unfold fg_ww; rw [if_pos (Int32.not_le.mp hd1)])) ?_
        refine lv_istore (lv' := [(4, .int (nI (fg_ww va j))), (0, .ref (g 0)), (1, .int (nI j)), (2, .int y), (3, .int w)]) hx hb dX1_weight_51 hl (by decide) rfl (fun ls hl => ?_)
        exact tail ls (lv_sub hl [1, 2, 3, 4, 0] rfl)
    · obtain ⟨e1, e2⟩ := fg_wr1 (va := va) (we := we) (y := y) (w := w) (Or.inr (Int32.not_lt.mp hc2))
      refine lv_bipush (v := -2) hx hb dX1_weight_12 (by decide) ?_
      exact ret _ () _ _ _ _ dX1_weight_14 hS e1.symm (by rw [e2]; exact hP) (by rw [e2]; exact hD)

set_option maxHeartbeats 4000000 in
set_option maxRecDepth 100000 in
/-- evidence(v, x) -/
theorem fg_M_evidence {v x : Int32} : fg_Mi l yX1_evidence cX1_evidence 4 .int fg_rm_X1_evidence D [.ref (g 0), .int v, .int x] (fg_wM g dA (nI F) va we gi) (fg_tM dA) (fun (r : Int32) (_ : Unit) => r = fg_er gi v x) (fun _ => fg_wM g dA (nI F) va we (fg_eG gi v x)) := by
  refine fg_Mi_of (own := RX1) (by decide) rfl (Nat.le_of_ble_eq_true rfl) (fun _ _ _ => rfl) ?_
  intro p e s m args below meth c ls A Q hC hP hK hD hl hA hS ret
  obtain ⟨hx, hb, hr, hts, hown, hlocks, hml⟩ := hC
  have hl : lv_has ls 4 [(0, .ref (g 0)), (1, .int v), (2, .int x)] := hl
  refine lv_aload_n hx hb dX1_evidence_0 rfl (lv_at hl 0 rfl) ?_
  refine lv_iload_n hx hb dX1_evidence_1 rfl (lv_at hl 1 rfl) ?_
  refine fg_cVi (a := g 0) (As := [.int v]) (rest := []) (ci := 1) (q := (RX1, TX1, 4)) ⟨hx, hb, hml, hown, hts⟩ (fg_M_bad (l := l) (x := v)) (cwV 1 hts (lw_V q174 q176 qs11 q18 q177) rfl rfl rfl fg_md_X1_bad ⟨Nat.le_of_ble_eq_true rfl, Nat.le_of_ble_eq_true rfl⟩) rfl rfl hK hP hP hS hA rfl hl.1 rfl (Nat.le_of_ble_eq_true rfl) dX1_evidence_2 ⟨Nat.zero_le _, Nat.zero_le _⟩ (fun r1 H locs hr1 hP hS => ?_)
  refine lv_if_eq (tgt := 10) hx hb dX1_evidence_5 (by decide) (fun hc1 => ?_) (fun hc1 => ?_)
  · have n1 : ¬ fg_bad v := (fg_ite0 hr1).mp hc1
    refine lv_iload_n hx hb dX1_evidence_10 rfl (lv_at hl 2 rfl) ?_
    refine lv_iconst (v := -1) hx hb dX1_evidence_11 (by decide) ?_
    refine lv_icmp_lt (tgt := 20) hx hb dX1_evidence_12 (by decide) (fun hc2 => ?_) (fun hc2 => ?_)
    · obtain ⟨e1, e2⟩ := fg_er2 (gi := gi) n1 (Or.inl hc2)
      refine lv_bipush (v := -5) hx hb dX1_evidence_20 (by decide) ?_
      exact ret _ () _ _ _ _ dX1_evidence_22 hS e1.symm (by rw [e2]; exact hP) (by rw [e2]; exact hD)
    · refine lv_iload_n hx hb dX1_evidence_15 rfl (lv_at hl 2 rfl) ?_
      refine lv_iconst (v := nI 1) hx hb dX1_evidence_16 (by decide) ?_
      refine lv_icmp_le (tgt := 23) hx hb dX1_evidence_17 (by decide) (fun hc3 => ?_) (fun hc3 => ?_)
      · have n2 : ¬ fg_e2 x := fun q => q.elim hc2 (fun q => Int32.not_le.mpr q hc3)
        obtain ⟨e1, e2⟩ := fg_er3 (gi := gi) n1 n2
        obtain ⟨j, hj, rfl⟩ := fg_notbad n1
        rw [nI_clamp (by omega)] at e1 e2
        refine lv_aload_n hx hb dX1_evidence_23 rfl (lv_at hl 0 rfl) ?_
        refine gm_fixed hx hb hts hown hK hP dX1_evidence_24 ?_
        refine lv_iload_n hx hb dX1_evidence_27 rfl (lv_at hl 1 rfl) ?_
        refine lm_fixed hx hb hK hP hj dX1_evidence_28 ?_
        refine lv_istore_n (lv' := [(3, .int (gi j)), (0, .ref (g 0)), (1, .int (nI j)), (2, .int x)]) hx hb dX1_evidence_29 rfl hl (by decide) rfl (fun ls hl => ?_)
        refine lv_aload_n hx hb dX1_evidence_30 rfl (lv_at hl 1 rfl) ?_
        refine gm_fixed hx hb hts hown hK hP dX1_evidence_31 ?_
        refine lv_iload_n hx hb dX1_evidence_34 rfl (lv_at hl 2 rfl) ?_
        refine lv_iload_n hx hb dX1_evidence_35 rfl (lv_at hl 3 rfl) ?_
        refine sm_fixed hx hb hK hP hD hS hj dX1_evidence_36 (fun H locs hP hD hS => ?_)
        refine lv_iload_n hx hb dX1_evidence_37 rfl (lv_at hl 0 rfl) ?_
        exact ret _ () _ _ _ _ dX1_evidence_38 hS e1.symm (by rw [e2]; exact hP) (by rw [e2]; exact hD)
      · obtain ⟨e1, e2⟩ := fg_er2 (gi := gi) n1 (Or.inr (Int32.not_le.mp hc3))
        refine lv_bipush (v := -5) hx hb dX1_evidence_20 (by decide) ?_
        exact ret _ () _ _ _ _ dX1_evidence_22 hS e1.symm (by rw [e2]; exact hP) (by rw [e2]; exact hD)
  · obtain ⟨e1, e2⟩ := fg_er1 (gi := gi) (x := x) (Decidable.byContradiction (fun q => hc1 ((fg_ite0 hr1).mpr q)) : fg_bad v)
    refine lv_iconst (v := -1) hx hb dX1_evidence_8 (by decide) ?_
    exact ret _ () _ _ _ _ dX1_evidence_9 hS e1.symm (by rw [e2]; exact hP) (by rw [e2]; exact hD)

set_option maxHeartbeats 4000000 in
set_option maxRecDepth 100000 in
/-- drop() -/
theorem fg_M_drop (hF : F ≤ 7) : fg_Mi l yX1_drop cX1_drop 1 .int fg_rm_X1_drop D [.ref (g 0)] (fg_wM g dA (nI F) va we gi) (fg_tM dA) (fun (r : Int32) (_ : Unit) => r = fg_dr F) (fun _ => fg_wM g dA (nI (F - 1)) va we gi) := by
  refine fg_Mi_of (own := RX1) (by decide) rfl (Nat.le_of_ble_eq_true rfl) (fun _ _ _ => rfl) ?_
  intro p e s m args below meth c ls A Q hC hP hK hD hl hA hS ret
  obtain ⟨hx, hb, hr, hts, hown, hlocks, hml⟩ := hC
  have hl : lv_has ls 1 [(0, .ref (g 0))] := hl
  refine lv_aload_n hx hb dX1_drop_0 rfl (lv_at hl 0 rfl) ?_
  refine gm_factors hx hb hts hown hK hP dX1_drop_1 ?_
  refine lv_if_ne (tgt := 10) hx hb dX1_drop_4 (by decide) (fun hc => ?_) (fun hc => ?_)
  · have h0 : ¬ F = 0 := fun q => hc (by rw [q]; exact nI_0)
    refine lv_aload_n hx hb dX1_drop_10 rfl (lv_at hl 0 rfl) ?_
    refine lv_aload_n hx hb dX1_drop_11 rfl (lv_at hl 0 rfl) ?_
    refine gm_factors hx hb hts hown hK hP dX1_drop_12 ?_
    refine lv_iconst (v := nI 1) hx hb dX1_drop_15 (by decide) ?_
    refine fg_isub (by omega) hx hb dX1_drop_16 ?_
    refine pm_factors hx hb hts hown hK hP hD hS dX1_drop_17 (fun H locs hP hD hS => ?_)
    refine lv_aload_n hx hb dX1_drop_20 rfl (lv_at hl 0 rfl) ?_
    refine gm_factors hx hb hts hown hK hP dX1_drop_21 ?_
    exact ret _ () _ _ _ _ dX1_drop_24 hS (by unfold fg_dr; rw [if_neg h0]) hP hD
  · have h0 : F = 0 := (nI_eq (by omega) (by decide)).mp (hc.trans nI_0.symm)
    subst h0
    refine lv_bipush (v := -2) hx hb dX1_drop_7 (by decide) ?_
    exact ret _ () _ _ _ _ dX1_drop_9 hS rfl hP hD

end FGM2
end
section
/-! CONSTRUCTORS: a contract that makes cells, its entry and its call -/
def fg_In {S : Type} (l : Launch) (y : MethodName) (b : ByteArray) (L : Nat) (rm : Room) (D : va_G) (h0 : Nat) (w0 : va_W) (mc ms : Nat) (post : S → Prop) (wf : S → va_W) (tf : S → List (ClassId × FieldType)) : Prop :=
  ∀ sz : Nat, Met l y (ws_ y b L none) rm (va_Pc [.ref h0] (fun U => U.heap.size = sz ∧ va_P D vwCl w0 U.heap ∧ va_K D vwCl [] U ∧ va_D (fun _ => True) w0)) (va_Qv post (fun (u : S) (t : State) => va_P D vwCl (wf u) t.heap ∧ va_K D vwCl (tf u) t ∧ va_D (va_A w0 sz) (wf u)) (va_A w0 sz)) mc ms (va_A w0 sz)
section FGI
variable {l : Launch} {y : MethodName} {b : ByteArray} {L mc ms h0 : Nat} {rm : Room} {D : va_G} {w0 : va_W} {own : String}
theorem fg_In_of {S : Type} {post : S → Prop} {wf : S → va_W} {tf : S → List (ClassId × FieldType)} (hy : plainName y.cls = true) (ho : y.cls = own) (hn : y.name = "<init>") (hL : 1 ≤ L)
    (body : ∀ (p : Program) (e : Env) (s : State) (m : MethodId) (args : Array Value) (below : List Frame) (meth : Method) (c : Code) (ls : Array Slot) (A : Nat → Prop) (Q : State → Prop), fg_C p s m meth c args b none own L → meth.name = "<init>" → va_P D vwCl w0 s.heap → va_K D vwCl [] s → va_D A w0 → lv_has ls L [(0, .ref h0)] → (∀ q : Nat, s.heap.size ≤ q → A q) → va_S A s.heap s.heap [] →
      (∀ (u : S) (H : Heap) (locs : List Loc) (pc : Nat) (ls : Array Slot), decode b pc = .ok (.return_, 1) → va_S A s.heap H locs → post u → va_P D vwCl (wf u) H → va_K D vwCl (tf u) s → va_D A (wf u) → W p l e rm s m args below meth c H locs mc ms Q (F0 m pc ls [])) →
      W p l e rm s m args below meth c s.heap [] 0 0 Q (F0 m 0 ls [])) : fg_In l y b L rm D h0 w0 mc ms post wf tf := by
  intro sz
  refine Met.ofW (cc := b) (maxL := L) (ret := none) hy rfl ?_
  intro p e s m args below meth c s₁ B hml hv
  obtain ⟨rfl, hsz, hP, hK, hD0⟩ := hv
  have hts := atoms_spec (ws := ws_ y b L none) B.pre
  have hts : ∀ w ∈ lw_all, w.before _ s = true := fun w h => hts w (List.mem_cons_of_mem _ h)
  have hown : s.vm.findClass y.cls = some m.cls := findClass_of_methodNamed B.named
  have hin : meth.name = "<init>" := ((name_of_methodNamed B.named B.method).1).trans hn
  have hl := lv_entry [Value.ref h0] (n := L) hL
  rw [lg_entry_eq]
  generalize (lg_sl [Value.ref h0] ++ List.replicate (L - (lg_sl [Value.ref h0]).length) Slot.unset).toArray = ls at hl ⊢
  subst hsz
  subst ho
  have hx := B.exec
  have hb := B.bytes
  have hr := B.returns
  have hlocks := B.notSynchronized
  refine body p e s m _ below meth c ls (va_A w0 s.heap.size) _ ⟨B.exec, B.bytes, B.returns, hts, hown, B.notSynchronized, hml⟩ hin hP hK (hD0.self (sz := s.heap.size)) hl (fun q h => Or.inr h) va_S.rf ?_
  intro u H locs pc ls d hS hpost hP9 hK9 hD9
  exact W.vret hx hb hr (fun t ht hW => ⟨⟨u, rfl, hpost, by rw [ht]; exact hP9, va_K.moved hW.alike hK9, hD9⟩, hS.F ht⟩) hS.2.2 d hlocks
end FGI
section FGIC
variable {p : Program} {l : Launch} {e : Env} {R : Room} {s : State} {m : MethodId} {args : Array Value} {below : List Frame} {meth : Method} {c : Code} {H H0 : Heap} {locs : List Loc} {cells slots : Nat} {Q : State → Prop}
variable {cc : ByteArray} {pc : Nat} {ls : Array Slot} {rest st : List Value} {A : Nat → Prop}
variable {y : MethodName} {b : ByteArray} {L nL index a mc ms : Nat} {rm : Room} {D : va_G} {wc ws wr : va_W} {own : String}
theorem fg_cI {S0 : Type} {post : S0 → Prop} {wf : S0 → va_W} {tf : S0 → List (ClassId × FieldType)} (S : CallFix p m c cc nL s args lw_all own) (hM : fg_In l y b L rm D a wc mc ms post wf tf)
    (cw : CallB R s args own index y b L none (ws_ y b L none) rm mc ms 0 ∧ y.name = "<init>" ∧ (Cond.instanceMethod y).before args s = true)
    (hK : va_K D vwCl [] s) (hP : va_P D vwCl ws H) (hD : va_D A ws) (hPc : va_P D vwCl wc H) (hDc : va_D A wc) (hS : va_S A H0 H locs) (hA : ∀ q : Nat, H0.size ≤ q → A q)
    (isC isR : List Nat) (hC : isC.map (fun i => ws[i]?) = wc.map some) (hR : isR.map (fun i => ws[i]?) = wr.map some) (hnd : va_nd isR = true) (hdis : ∀ i ∈ isR, i ∉ isC)
    (hsize : ls.size = nL) (hst : st = .ref a :: rest) (hW : (rest.map fun v => v.category).sum ≤ 8) (hd : decode cc pc = .ok (.invokespecial index, 3)) (hf : cells + mc ≤ R.cells ∧ slots + ms ≤ R.slots)
    (kk : ∀ (u : S0) (H1 : Heap) (locs1 : List Loc), post u → va_P D vwCl (wr ++ wf u) H1 → va_D A (wr ++ wf u) → va_K D vwCl (tf u) s → va_S A H0 H1 locs1 → W p l e R s m args below meth c H1 locs1 (cells + mc) (slots + ms) Q (F0 m (pc + 3) ls rest)) :
    W p l e R s m args below meth c H locs cells slots Q (F0 m pc ls st) := by
  have hF := va_free (wc := wc) hD hS hA isC hC
  refine va_callv (va_runI (As := []) (rest := rest) (b := a) S (hM H.size) cw ⟨fun a U g mk q => by obtain ⟨q0, q1, qP, qK, qD⟩ := q; exact ⟨q0, q1, qP, va_K.moved (u := U) (U := U.calling g mk a) (Vm.Alike.refl U.vm) qK, qD⟩, fun U hU hW => ⟨rfl, by rw [hU], by rw [hU]; exact hPc, va_K.moved hW.alike hK, hDc.weaken (fun _ _ _ _ => trivial)⟩⟩ rfl rfl hsize hst (lv_room hW) hd hf) hS (fun q _ h => hF q h) hF (fun u t H1 locs1 ht hvm hw hB hz1 hk1 hS1 => ?_)
  obtain ⟨hP1, hK1, hD1⟩ := hB
  rw [ht] at hP1
  have hK1 := va_K.moved hvm.symm hK1
  obtain ⟨hP2, hD2⟩ := va_join (wr := wr) (w1 := wf u) hP hD isC isR hC hR hnd hdis hk1 hF hP1 hD1
  exact kk u H1 locs1 hw hP2 hD2 hK1 hS1
theorem fg_sameA {dA dB : ClassId} {ty : FieldType} (hK : va_K D vwCl [(dA, ty), (dB, ty)] s) (h : ty = .int) : dB = dA := by
  subst h
  have h1 : s.vm.findClass _ = some dA := (hK.2 0 _ rfl).2
  have h2 : s.vm.findClass _ = some dB := (hK.2 1 _ rfl).2
  exact Option.some.inj (h2.symm.trans h1)
end FGIC
def fg_h8 (a b c d e f g h : Nat) : Nat → Nat
  | 0 => a
  | 1 => b
  | 2 => c
  | 3 => d
  | 4 => e
  | 5 => f
  | 6 => g
  | _ => h
def fg_h4 (a b c d : Nat) : Nat → Nat
  | 0 => a
  | 1 => b
  | 2 => c
  | _ => d
abbrev fg_oX (h0 : Nat) : va_W := [(h0, .inr (0, [.int 0, .null, .null, .null, .null, .null, .int 0, .null, .null]))]
abbrev fg_oM (g0 : Nat) : va_W := [(g0, .inr (1, [.int 0, .null, .null, .null]))]
end
section
def fg_g0 (i : Nat) : Nat → Int32 := fun v => if v < i then -1 else 0
theorem fg_g0_0 : fg_g0 0 = fun _ => 0 := by
  funext v
  unfold fg_g0
  rw [if_neg (by omega)]
theorem fg_g0_s (i : Nat) : upd (fg_g0 i) i (-1) = fg_g0 (i + 1) := by
  funext j
  by_cases e : j = i
  · subst e
    rw [pk_us]
    unfold fg_g0
    rw [if_pos (by omega)]
  · rw [pk_un e]
    unfold fg_g0
    by_cases q : j < i
    · rw [if_pos q, if_pos (by omega)]
    · rw [if_neg q, if_neg (by omega)]
theorem fg_inv_0 : fg_inv 0 (fun _ => 0) (fun _ => 0) (fun _ => 0) (fg_g0 7) := by
  refine ⟨by omega, fun f hf => absurd hf (by omega), fun k _ => ⟨0, by omega, rfl⟩, fun v hv => ?_⟩
  left
  unfold fg_g0
  rw [if_pos hv]
abbrev fg_rm_X0_init : Room := { frames := 1, cells := 7, slots := 2162, locals := 12 }
abbrev fg_rm_X1_init : Room := { frames := 1, cells := 3, slots := 84, locals := 12 }
theorem fg_md_X0_init : yX0_init.cls ≠ "java/lang/invoke/MethodHandle" ∧ yX0_init.cls ≠ "java/lang/invoke/VarHandle" ∧ (parseMethodDescriptor yX0_init.desc).map (fun d => d.parameters.length) = some 0 := by decide +kernel
theorem fg_md_X1_init : yX1_init.cls ≠ "java/lang/invoke/MethodHandle" ∧ yX1_init.cls ≠ "java/lang/invoke/VarHandle" ∧ (parseMethodDescriptor yX1_init.desc).map (fun d => d.parameters.length) = some 0 := by decide +kernel
set_option maxHeartbeats 1000000 in
set_option maxRecDepth 100000 in
/-- FactorGraph() -/
theorem fg_X_init {l : Launch} {D : va_G} {h0 : Nat} : fg_In l yX0_init cX0_init 2 fg_rm_X0_init D h0 (fg_oX h0) 7 2162 (fun u : (Nat → Nat) × ClassId × ClassId => u.1 0 = h0) (fun u => fg_wX u.1 u.2.1 u.2.2 (nI 0) (fun _ => 0) (fun _ => 0) (fun _ => 0) (fg_g0 7) (fun _ => 0) (nI 0) (fun _ => 0) (fun _ => 0)) (fun u => fg_tX u.2.1 u.2.2) := by
  refine fg_In_of (own := RX0) (by decide) rfl rfl (by decide) ?_
  intro p e s m args below meth c ls A Q hC hin hP hK hD hl hA hS ret
  obtain ⟨hx, hb, hr, hts, hown, hlocks, hml⟩ := hC
  refine lv_aload_n hx hb dX0_init_0 rfl (lv_at hl 0 rfl) ?_
  refine W.objInit hx hb hown (hts _ q24) (hts _ q25) (hts _ q26) rfl (by rw [hml]; exact hl.1) rfl dX0_init_1 (Nat.le_of_ble_eq_true rfl) (Nat.le_of_ble_eq_true rfl) ?_
  refine W.eq (g2 := F0 m 4 ls []) rfl ?_
  refine lv_aload_n hx hb dX0_init_4 rfl (lv_at hl 0 rfl) ?_
  refine lv_bipush (v := nI 7) hx hb dX0_init_5 (by decide) ?_
  refine va_newa (atype := .int) (ty := .int) (n := nI 7) (N' := 7) (a0 := (7, .inl (fun _ => 0))) hx hb (hts _ q55) rfl hK hP hD hS hA (fun _ => rfl) (by decide) (by decide) (by decide) (Nat.le_of_ble_eq_true rfl) (Nat.le_of_ble_eq_true rfl) dX0_init_7 (fun q1 dA H hK hP hD hS => ?_)
  have hP : va_P D vwCl [(h0, .inr (0, [.int 0, .null, .null, .null, .null, .null, .int 0, .null, .null])), (q1, .inl (dA, 7, .inl (fun _ => 0)))] H := hP
  have hD : va_D A [(h0, .inr (0, [.int 0, .null, .null, .null, .null, .null, .int 0, .null, .null])), (q1, .inl (dA, 7, .inl (fun _ => 0)))] := hD
  refine va_putF (D := D) (ci := 0) (v := .ref q1) (ty := .array .int) (C := RX0) (T := TX0) (N := 9) hx hb hts in_X0 tyX0 tyX0_ok nmX0 hown hK hP hD hS 0 rfl rfl 1 (by decide) (hts _ q28) (fun _ h9 => h9) rfl hin rfl (by decide +kernel) rfl rfl (Nat.le_of_ble_eq_true rfl) dX0_init_9 (fun H locs hP hD hS => ?_)
  have hP : va_P D vwCl [(h0, .inr (0, [.int 0, .ref q1, .null, .null, .null, .null, .int 0, .null, .null])), (q1, .inl (dA, 7, .inl (fun _ => 0)))] H := hP
  have hD : va_D A [(h0, .inr (0, [.int 0, .ref q1, .null, .null, .null, .null, .int 0, .null, .null])), (q1, .inl (dA, 7, .inl (fun _ => 0)))] := hD
  refine lv_aload_n hx hb dX0_init_12 rfl (lv_at hl 0 rfl) ?_
  refine lv_bipush (v := nI 21) hx hb dX0_init_13 (by decide) ?_
  refine va_newa (atype := .int) (ty := .int) (n := nI 21) (N' := 21) (a0 := (21, .inl (fun _ => 0))) hx hb (hts _ q55) rfl hK hP hD hS hA (fun _ => rfl) (by decide) (by decide) (by decide) (Nat.le_of_ble_eq_true rfl) (Nat.le_of_ble_eq_true rfl) dX0_init_15 (fun q2 dB H hK hP hD hS => ?_)
  have hdd : dB = dA := fg_sameA hK rfl
  rw [hdd] at hP hD
  have hK := hK.sub (tys' := [(dA, .int)]) [0] rfl
  have hP : va_P D vwCl [(h0, .inr (0, [.int 0, .ref q1, .null, .null, .null, .null, .int 0, .null, .null])), (q1, .inl (dA, 7, .inl (fun _ => 0))), (q2, .inl (dA, 21, .inl (fun _ => 0)))] H := hP
  have hD : va_D A [(h0, .inr (0, [.int 0, .ref q1, .null, .null, .null, .null, .int 0, .null, .null])), (q1, .inl (dA, 7, .inl (fun _ => 0))), (q2, .inl (dA, 21, .inl (fun _ => 0)))] := hD
  refine va_putF (D := D) (ci := 0) (v := .ref q2) (ty := .array .int) (C := RX0) (T := TX0) (N := 9) hx hb hts in_X0 tyX0 tyX0_ok nmX0 hown hK hP hD hS 0 rfl rfl 2 (by decide) (hts _ q29) (fun _ h9 => h9) rfl hin rfl (by decide +kernel) rfl rfl (Nat.le_of_ble_eq_true rfl) dX0_init_17 (fun H locs hP hD hS => ?_)
  have hP : va_P D vwCl [(h0, .inr (0, [.int 0, .ref q1, .ref q2, .null, .null, .null, .int 0, .null, .null])), (q1, .inl (dA, 7, .inl (fun _ => 0))), (q2, .inl (dA, 21, .inl (fun _ => 0)))] H := hP
  have hD : va_D A [(h0, .inr (0, [.int 0, .ref q1, .ref q2, .null, .null, .null, .int 0, .null, .null])), (q1, .inl (dA, 7, .inl (fun _ => 0))), (q2, .inl (dA, 21, .inl (fun _ => 0)))] := hD
  refine lv_aload_n hx hb dX0_init_20 rfl (lv_at hl 0 rfl) ?_
  refine lv_bipush (v := nI 56) hx hb dX0_init_21 (by decide) ?_
  refine va_newa (atype := .int) (ty := .int) (n := nI 56) (N' := 56) (a0 := (56, .inl (fun _ => 0))) hx hb (hts _ q55) rfl hK hP hD hS hA (fun _ => rfl) (by decide) (by decide) (by decide) (Nat.le_of_ble_eq_true rfl) (Nat.le_of_ble_eq_true rfl) dX0_init_23 (fun q3 dB H hK hP hD hS => ?_)
  have hdd : dB = dA := fg_sameA hK rfl
  rw [hdd] at hP hD
  have hK := hK.sub (tys' := [(dA, .int)]) [0] rfl
  have hP : va_P D vwCl [(h0, .inr (0, [.int 0, .ref q1, .ref q2, .null, .null, .null, .int 0, .null, .null])), (q1, .inl (dA, 7, .inl (fun _ => 0))), (q2, .inl (dA, 21, .inl (fun _ => 0))), (q3, .inl (dA, 56, .inl (fun _ => 0)))] H := hP
  have hD : va_D A [(h0, .inr (0, [.int 0, .ref q1, .ref q2, .null, .null, .null, .int 0, .null, .null])), (q1, .inl (dA, 7, .inl (fun _ => 0))), (q2, .inl (dA, 21, .inl (fun _ => 0))), (q3, .inl (dA, 56, .inl (fun _ => 0)))] := hD
  refine va_putF (D := D) (ci := 0) (v := .ref q3) (ty := .array .int) (C := RX0) (T := TX0) (N := 9) hx hb hts in_X0 tyX0 tyX0_ok nmX0 hown hK hP hD hS 0 rfl rfl 3 (by decide) (hts _ q30) (fun _ h9 => h9) rfl hin rfl (by decide +kernel) rfl rfl (Nat.le_of_ble_eq_true rfl) dX0_init_25 (fun H locs hP hD hS => ?_)
  have hP : va_P D vwCl [(h0, .inr (0, [.int 0, .ref q1, .ref q2, .ref q3, .null, .null, .int 0, .null, .null])), (q1, .inl (dA, 7, .inl (fun _ => 0))), (q2, .inl (dA, 21, .inl (fun _ => 0))), (q3, .inl (dA, 56, .inl (fun _ => 0)))] H := hP
  have hD : va_D A [(h0, .inr (0, [.int 0, .ref q1, .ref q2, .ref q3, .null, .null, .int 0, .null, .null])), (q1, .inl (dA, 7, .inl (fun _ => 0))), (q2, .inl (dA, 21, .inl (fun _ => 0))), (q3, .inl (dA, 56, .inl (fun _ => 0)))] := hD
  refine lv_aload_n hx hb dX0_init_28 rfl (lv_at hl 0 rfl) ?_
  refine lv_bipush (v := nI 7) hx hb dX0_init_29 (by decide) ?_
  refine va_newa (atype := .int) (ty := .int) (n := nI 7) (N' := 7) (a0 := (7, .inl (fun _ => 0))) hx hb (hts _ q55) rfl hK hP hD hS hA (fun _ => rfl) (by decide) (by decide) (by decide) (Nat.le_of_ble_eq_true rfl) (Nat.le_of_ble_eq_true rfl) dX0_init_31 (fun q4 dB H hK hP hD hS => ?_)
  have hdd : dB = dA := fg_sameA hK rfl
  rw [hdd] at hP hD
  have hK := hK.sub (tys' := [(dA, .int)]) [0] rfl
  have hP : va_P D vwCl [(h0, .inr (0, [.int 0, .ref q1, .ref q2, .ref q3, .null, .null, .int 0, .null, .null])), (q1, .inl (dA, 7, .inl (fun _ => 0))), (q2, .inl (dA, 21, .inl (fun _ => 0))), (q3, .inl (dA, 56, .inl (fun _ => 0))), (q4, .inl (dA, 7, .inl (fun _ => 0)))] H := hP
  have hD : va_D A [(h0, .inr (0, [.int 0, .ref q1, .ref q2, .ref q3, .null, .null, .int 0, .null, .null])), (q1, .inl (dA, 7, .inl (fun _ => 0))), (q2, .inl (dA, 21, .inl (fun _ => 0))), (q3, .inl (dA, 56, .inl (fun _ => 0))), (q4, .inl (dA, 7, .inl (fun _ => 0)))] := hD
  refine va_putF (D := D) (ci := 0) (v := .ref q4) (ty := .array .int) (C := RX0) (T := TX0) (N := 9) hx hb hts in_X0 tyX0 tyX0_ok nmX0 hown hK hP hD hS 0 rfl rfl 4 (by decide) (hts _ q31) (fun _ h9 => h9) rfl hin rfl (by decide +kernel) rfl rfl (Nat.le_of_ble_eq_true rfl) dX0_init_33 (fun H locs hP hD hS => ?_)
  have hP : va_P D vwCl [(h0, .inr (0, [.int 0, .ref q1, .ref q2, .ref q3, .ref q4, .null, .int 0, .null, .null])), (q1, .inl (dA, 7, .inl (fun _ => 0))), (q2, .inl (dA, 21, .inl (fun _ => 0))), (q3, .inl (dA, 56, .inl (fun _ => 0))), (q4, .inl (dA, 7, .inl (fun _ => 0)))] H := hP
  have hD : va_D A [(h0, .inr (0, [.int 0, .ref q1, .ref q2, .ref q3, .ref q4, .null, .int 0, .null, .null])), (q1, .inl (dA, 7, .inl (fun _ => 0))), (q2, .inl (dA, 21, .inl (fun _ => 0))), (q3, .inl (dA, 56, .inl (fun _ => 0))), (q4, .inl (dA, 7, .inl (fun _ => 0)))] := hD
  refine lv_aload_n hx hb dX0_init_36 rfl (lv_at hl 0 rfl) ?_
  refine lv_bipush (v := nI 7) hx hb dX0_init_37 (by decide) ?_
  refine va_newa (atype := .int) (ty := .int) (n := nI 7) (N' := 7) (a0 := (7, .inl (fun _ => 0))) hx hb (hts _ q55) rfl hK hP hD hS hA (fun _ => rfl) (by decide) (by decide) (by decide) (Nat.le_of_ble_eq_true rfl) (Nat.le_of_ble_eq_true rfl) dX0_init_39 (fun q5 dB H hK hP hD hS => ?_)
  have hdd : dB = dA := fg_sameA hK rfl
  rw [hdd] at hP hD
  have hK := hK.sub (tys' := [(dA, .int)]) [0] rfl
  have hP : va_P D vwCl [(h0, .inr (0, [.int 0, .ref q1, .ref q2, .ref q3, .ref q4, .null, .int 0, .null, .null])), (q1, .inl (dA, 7, .inl (fun _ => 0))), (q2, .inl (dA, 21, .inl (fun _ => 0))), (q3, .inl (dA, 56, .inl (fun _ => 0))), (q4, .inl (dA, 7, .inl (fun _ => 0))), (q5, .inl (dA, 7, .inl (fun _ => 0)))] H := hP
  have hD : va_D A [(h0, .inr (0, [.int 0, .ref q1, .ref q2, .ref q3, .ref q4, .null, .int 0, .null, .null])), (q1, .inl (dA, 7, .inl (fun _ => 0))), (q2, .inl (dA, 21, .inl (fun _ => 0))), (q3, .inl (dA, 56, .inl (fun _ => 0))), (q4, .inl (dA, 7, .inl (fun _ => 0))), (q5, .inl (dA, 7, .inl (fun _ => 0)))] := hD
  refine va_putF (D := D) (ci := 0) (v := .ref q5) (ty := .array .int) (C := RX0) (T := TX0) (N := 9) hx hb hts in_X0 tyX0 tyX0_ok nmX0 hown hK hP hD hS 0 rfl rfl 5 (by decide) (hts _ q32) (fun _ h9 => h9) rfl hin rfl (by decide +kernel) rfl rfl (Nat.le_of_ble_eq_true rfl) dX0_init_41 (fun H locs hP hD hS => ?_)
  have hP : va_P D vwCl [(h0, .inr (0, [.int 0, .ref q1, .ref q2, .ref q3, .ref q4, .ref q5, .int 0, .null, .null])), (q1, .inl (dA, 7, .inl (fun _ => 0))), (q2, .inl (dA, 21, .inl (fun _ => 0))), (q3, .inl (dA, 56, .inl (fun _ => 0))), (q4, .inl (dA, 7, .inl (fun _ => 0))), (q5, .inl (dA, 7, .inl (fun _ => 0)))] H := hP
  have hD : va_D A [(h0, .inr (0, [.int 0, .ref q1, .ref q2, .ref q3, .ref q4, .ref q5, .int 0, .null, .null])), (q1, .inl (dA, 7, .inl (fun _ => 0))), (q2, .inl (dA, 21, .inl (fun _ => 0))), (q3, .inl (dA, 56, .inl (fun _ => 0))), (q4, .inl (dA, 7, .inl (fun _ => 0))), (q5, .inl (dA, 7, .inl (fun _ => 0)))] := hD
  refine lv_aload_n hx hb dX0_init_44 rfl (lv_at hl 0 rfl) ?_
  refine lv_bipush (v := nI 16) hx hb dX0_init_45 (by decide) ?_
  refine va_newa (atype := .int) (ty := .int) (n := nI 16) (N' := 16) (a0 := (16, .inl (fun _ => 0))) hx hb (hts _ q55) rfl hK hP hD hS hA (fun _ => rfl) (by decide) (by decide) (by decide) (Nat.le_of_ble_eq_true rfl) (Nat.le_of_ble_eq_true rfl) dX0_init_47 (fun q6 dB H hK hP hD hS => ?_)
  have hdd : dB = dA := fg_sameA hK rfl
  rw [hdd] at hP hD
  have hK := hK.sub (tys' := [(dA, .int)]) [0] rfl
  have hP : va_P D vwCl [(h0, .inr (0, [.int 0, .ref q1, .ref q2, .ref q3, .ref q4, .ref q5, .int 0, .null, .null])), (q1, .inl (dA, 7, .inl (fun _ => 0))), (q2, .inl (dA, 21, .inl (fun _ => 0))), (q3, .inl (dA, 56, .inl (fun _ => 0))), (q4, .inl (dA, 7, .inl (fun _ => 0))), (q5, .inl (dA, 7, .inl (fun _ => 0))), (q6, .inl (dA, 16, .inl (fun _ => 0)))] H := hP
  have hD : va_D A [(h0, .inr (0, [.int 0, .ref q1, .ref q2, .ref q3, .ref q4, .ref q5, .int 0, .null, .null])), (q1, .inl (dA, 7, .inl (fun _ => 0))), (q2, .inl (dA, 21, .inl (fun _ => 0))), (q3, .inl (dA, 56, .inl (fun _ => 0))), (q4, .inl (dA, 7, .inl (fun _ => 0))), (q5, .inl (dA, 7, .inl (fun _ => 0))), (q6, .inl (dA, 16, .inl (fun _ => 0)))] := hD
  refine va_putF (D := D) (ci := 0) (v := .ref q6) (ty := .array .int) (C := RX0) (T := TX0) (N := 9) hx hb hts in_X0 tyX0 tyX0_ok nmX0 hown hK hP hD hS 0 rfl rfl 7 (by decide) (hts _ q34) (fun _ h9 => h9) rfl hin rfl (by decide +kernel) rfl rfl (Nat.le_of_ble_eq_true rfl) dX0_init_49 (fun H locs hP hD hS => ?_)
  have hP : va_P D vwCl [(h0, .inr (0, [.int 0, .ref q1, .ref q2, .ref q3, .ref q4, .ref q5, .int 0, .ref q6, .null])), (q1, .inl (dA, 7, .inl (fun _ => 0))), (q2, .inl (dA, 21, .inl (fun _ => 0))), (q3, .inl (dA, 56, .inl (fun _ => 0))), (q4, .inl (dA, 7, .inl (fun _ => 0))), (q5, .inl (dA, 7, .inl (fun _ => 0))), (q6, .inl (dA, 16, .inl (fun _ => 0)))] H := hP
  have hD : va_D A [(h0, .inr (0, [.int 0, .ref q1, .ref q2, .ref q3, .ref q4, .ref q5, .int 0, .ref q6, .null])), (q1, .inl (dA, 7, .inl (fun _ => 0))), (q2, .inl (dA, 21, .inl (fun _ => 0))), (q3, .inl (dA, 56, .inl (fun _ => 0))), (q4, .inl (dA, 7, .inl (fun _ => 0))), (q5, .inl (dA, 7, .inl (fun _ => 0))), (q6, .inl (dA, 16, .inl (fun _ => 0)))] := hD
  refine lv_aload_n hx hb dX0_init_52 rfl (lv_at hl 0 rfl) ?_
  refine lv_sipush (v := nI 2048) hx hb dX0_init_53 (by decide) ?_
  refine va_newa (atype := .long) (ty := .long) (n := nI 2048) (N' := 2048) (a0 := (2048, .inr (.inl (fun _ => 0)))) hx hb (hts _ q56) rfl hK hP hD hS hA (fun _ => rfl) (by decide) (by decide) (by decide) (Nat.le_of_ble_eq_true rfl) (Nat.le_of_ble_eq_true rfl) dX0_init_56 (fun q7 dL H hK hP hD hS => ?_)
  have hP : va_P D vwCl [(h0, .inr (0, [.int 0, .ref q1, .ref q2, .ref q3, .ref q4, .ref q5, .int 0, .ref q6, .null])), (q1, .inl (dA, 7, .inl (fun _ => 0))), (q2, .inl (dA, 21, .inl (fun _ => 0))), (q3, .inl (dA, 56, .inl (fun _ => 0))), (q4, .inl (dA, 7, .inl (fun _ => 0))), (q5, .inl (dA, 7, .inl (fun _ => 0))), (q6, .inl (dA, 16, .inl (fun _ => 0))), (q7, .inl (dL, 2048, .inr (.inl (fun _ => 0))))] H := hP
  have hD : va_D A [(h0, .inr (0, [.int 0, .ref q1, .ref q2, .ref q3, .ref q4, .ref q5, .int 0, .ref q6, .null])), (q1, .inl (dA, 7, .inl (fun _ => 0))), (q2, .inl (dA, 21, .inl (fun _ => 0))), (q3, .inl (dA, 56, .inl (fun _ => 0))), (q4, .inl (dA, 7, .inl (fun _ => 0))), (q5, .inl (dA, 7, .inl (fun _ => 0))), (q6, .inl (dA, 16, .inl (fun _ => 0))), (q7, .inl (dL, 2048, .inr (.inl (fun _ => 0))))] := hD
  refine va_putF (D := D) (ci := 0) (v := .ref q7) (ty := .array .long) (C := RX0) (T := TX0) (N := 9) hx hb hts in_X0 tyX0 tyX0_ok nmX0 hown hK hP hD hS 0 rfl rfl 8 (by decide) (hts _ q35) (fun _ h9 => h9) rfl hin rfl (by decide +kernel) rfl rfl (Nat.le_of_ble_eq_true rfl) dX0_init_58 (fun H locs hP hD hS => ?_)
  have hP : va_P D vwCl [(h0, .inr (0, [.int 0, .ref q1, .ref q2, .ref q3, .ref q4, .ref q5, .int 0, .ref q6, .ref q7])), (q1, .inl (dA, 7, .inl (fun _ => 0))), (q2, .inl (dA, 21, .inl (fun _ => 0))), (q3, .inl (dA, 56, .inl (fun _ => 0))), (q4, .inl (dA, 7, .inl (fun _ => 0))), (q5, .inl (dA, 7, .inl (fun _ => 0))), (q6, .inl (dA, 16, .inl (fun _ => 0))), (q7, .inl (dL, 2048, .inr (.inl (fun _ => 0))))] H := hP
  have hD : va_D A [(h0, .inr (0, [.int 0, .ref q1, .ref q2, .ref q3, .ref q4, .ref q5, .int 0, .ref q6, .ref q7])), (q1, .inl (dA, 7, .inl (fun _ => 0))), (q2, .inl (dA, 21, .inl (fun _ => 0))), (q3, .inl (dA, 56, .inl (fun _ => 0))), (q4, .inl (dA, 7, .inl (fun _ => 0))), (q5, .inl (dA, 7, .inl (fun _ => 0))), (q6, .inl (dA, 16, .inl (fun _ => 0))), (q7, .inl (dL, 2048, .inr (.inl (fun _ => 0))))] := hD
  refine W.widen (k := 7) (n := 2162) (by decide) (by decide) ?_
  have hP : va_P D vwCl (fg_wX (fg_h8 h0 q1 q2 q3 q4 q5 q6 q7) dA dL (nI 0) (fun _ => 0) (fun _ => 0) (fun _ => 0) (fun _ => 0) (fun _ => 0) (nI 0) (fun _ => 0) (fun _ => 0)) H := hP
  have hD : va_D A (fg_wX (fg_h8 h0 q1 q2 q3 q4 q5 q6 q7) dA dL (nI 0) (fun _ => 0) (fun _ => 0) (fun _ => 0) (fun _ => 0) (fun _ => 0) (nI 0) (fun _ => 0) (fun _ => 0)) := hD
  generalize hhe : fg_h8 h0 q1 q2 q3 q4 q5 q6 q7 = h at hP hD
  have hh0 : h 0 = h0 := by rw [← hhe]; rfl
  rw [← hh0] at hl
  have loop : ∀ (k i : Nat), i ≤ 7 → 7 < i + k → ∀ (H : Heap) (locs : List Loc), va_P D vwCl (fg_wX h dA dL (nI 0) (fun _ => 0) (fun _ => 0) (fun _ => 0) (fg_g0 i) (fun _ => 0) (nI 0) (fun _ => 0) (fun _ => 0)) H → va_D A (fg_wX h dA dL (nI 0) (fun _ => 0) (fun _ => 0) (fun _ => 0) (fg_g0 i) (fun _ => 0) (nI 0) (fun _ => 0) (fun _ => 0)) → va_S A s.heap H locs → ∀ (ls : Array Slot), lv_has ls 2 [(0, .ref (h 0)), (1, .int (nI i))] → W p l e fg_rm_X0_init s m args below meth c H locs 7 2162 Q (F0 m 63 ls []) := by
    intro k
    induction k with
    | zero => intro i h1 h2; exact absurd h2 (by omega)
    | succ k ih =>
      intro i hi hk H locs hP hD hS ls hl
      refine lv_iload_n hx hb dX0_init_63 rfl (lv_at hl 1 rfl) ?_
      refine lv_bipush (v := nI 7) hx hb dX0_init_64 (by decide) ?_
      refine fg_ige (tgt := 82) hx hb dX0_init_66 (by decide) (by omega) (by omega) (fun hc => ?_) (fun hc => ?_)
      · have hi7 : i = 7 := by omega
        subst hi7
        exact ret (h, dA, dL) _ _ _ _ dX0_init_82 hS hh0 hP hK hD
      · refine lv_aload_n hx hb dX0_init_69 rfl (lv_at hl 0 rfl) ?_
        refine gx_given hx hb hts hown hK hP dX0_init_70 ?_
        refine lv_iload_n hx hb dX0_init_73 rfl (lv_at hl 1 rfl) ?_
        refine lv_iconst (v := -1) hx hb dX0_init_74 (by decide) ?_
        refine sx_given hx hb hK hP hD hS hc dX0_init_75 (fun H locs hP hD hS => ?_)
        refine lv_iinc (v := nI (i + 1)) (lv' := [(1, .int (nI (i + 1))), (0, .ref (h 0))]) hx hb dX0_init_76 hl (k := 1) rfl (fg_inc _) (by decide) rfl (fun ls hl => ?_)
        refine lv_goto (tgt := 63) hx hb dX0_init_79 (by decide) ?_
        rw [fg_g0_s] at hP hD
        exact ih (i + 1) (by omega) (by omega) _ _ hP hD hS ls (lv_sub hl [1, 0] rfl)
  refine lv_iconst (v := nI 0) hx hb dX0_init_61 (by decide) ?_
  refine lv_istore_n (lv' := [(1, .int (nI 0)), (0, .ref (h 0))]) hx hb dX0_init_62 rfl hl (by decide) rfl (fun ls hl => ?_)
  exact loop 8 0 (by omega) (by omega) _ _ (by rw [fg_g0_0]; exact hP) (by rw [fg_g0_0]; exact hD) hS ls (lv_sub hl [1, 0] rfl)

set_option maxHeartbeats 1000000 in
set_option maxRecDepth 100000 in
/-- FactorGraphModel() -/
theorem fg_M_init {l : Launch} {D : va_G} {h0 : Nat} : fg_In l yX1_init cX1_init 2 fg_rm_X1_init D h0 (fg_oM h0) 3 84 (fun u : (Nat → Nat) × ClassId => u.1 0 = h0) (fun u => fg_wM u.1 u.2 (nI 0) (fun _ => 0) (fun _ => 0) (fg_g0 7)) (fun u => fg_tM u.2) := by
  refine fg_In_of (own := RX1) (by decide) rfl rfl (by decide) ?_
  intro p e s m args below meth c ls A Q hC hin hP hK hD hl hA hS ret
  obtain ⟨hx, hb, hr, hts, hown, hlocks, hml⟩ := hC
  refine lv_aload_n hx hb dX1_init_0 rfl (lv_at hl 0 rfl) ?_
  refine W.objInit hx hb hown (hts _ q156) (hts _ q25) (hts _ q26) rfl (by rw [hml]; exact hl.1) rfl dX1_init_1 (Nat.le_of_ble_eq_true rfl) (Nat.le_of_ble_eq_true rfl) ?_
  refine W.eq (g2 := F0 m 4 ls []) rfl ?_
  refine lv_aload_n hx hb dX1_init_4 rfl (lv_at hl 0 rfl) ?_
  refine lv_bipush (v := nI 21) hx hb dX1_init_5 (by decide) ?_
  refine va_newa (atype := .int) (ty := .int) (n := nI 21) (N' := 21) (a0 := (21, .inl (fun _ => 0))) hx hb (hts _ q55) rfl hK hP hD hS hA (fun _ => rfl) (by decide) (by decide) (by decide) (Nat.le_of_ble_eq_true rfl) (Nat.le_of_ble_eq_true rfl) dX1_init_7 (fun q1 dA H hK hP hD hS => ?_)
  have hP : va_P D vwCl [(h0, .inr (1, [.int 0, .null, .null, .null])), (q1, .inl (dA, 21, .inl (fun _ => 0)))] H := hP
  have hD : va_D A [(h0, .inr (1, [.int 0, .null, .null, .null])), (q1, .inl (dA, 21, .inl (fun _ => 0)))] := hD
  refine va_putF (D := D) (ci := 1) (v := .ref q1) (ty := .array .int) (C := RX1) (T := TX1) (N := 4) hx hb hts in_X1 tyX1 tyX1_ok nmX1 hown hK hP hD hS 0 rfl rfl 1 (by decide) (hts _ q158) (fun _ h9 => h9) rfl hin rfl (by decide +kernel) rfl rfl (Nat.le_of_ble_eq_true rfl) dX1_init_9 (fun H locs hP hD hS => ?_)
  have hP : va_P D vwCl [(h0, .inr (1, [.int 0, .ref q1, .null, .null])), (q1, .inl (dA, 21, .inl (fun _ => 0)))] H := hP
  have hD : va_D A [(h0, .inr (1, [.int 0, .ref q1, .null, .null])), (q1, .inl (dA, 21, .inl (fun _ => 0)))] := hD
  refine lv_aload_n hx hb dX1_init_12 rfl (lv_at hl 0 rfl) ?_
  refine lv_bipush (v := nI 56) hx hb dX1_init_13 (by decide) ?_
  refine va_newa (atype := .int) (ty := .int) (n := nI 56) (N' := 56) (a0 := (56, .inl (fun _ => 0))) hx hb (hts _ q55) rfl hK hP hD hS hA (fun _ => rfl) (by decide) (by decide) (by decide) (Nat.le_of_ble_eq_true rfl) (Nat.le_of_ble_eq_true rfl) dX1_init_15 (fun q2 dB H hK hP hD hS => ?_)
  have hdd : dB = dA := fg_sameA hK rfl
  rw [hdd] at hP hD
  have hK := hK.sub (tys' := [(dA, .int)]) [0] rfl
  have hP : va_P D vwCl [(h0, .inr (1, [.int 0, .ref q1, .null, .null])), (q1, .inl (dA, 21, .inl (fun _ => 0))), (q2, .inl (dA, 56, .inl (fun _ => 0)))] H := hP
  have hD : va_D A [(h0, .inr (1, [.int 0, .ref q1, .null, .null])), (q1, .inl (dA, 21, .inl (fun _ => 0))), (q2, .inl (dA, 56, .inl (fun _ => 0)))] := hD
  refine va_putF (D := D) (ci := 1) (v := .ref q2) (ty := .array .int) (C := RX1) (T := TX1) (N := 4) hx hb hts in_X1 tyX1 tyX1_ok nmX1 hown hK hP hD hS 0 rfl rfl 2 (by decide) (hts _ q159) (fun _ h9 => h9) rfl hin rfl (by decide +kernel) rfl rfl (Nat.le_of_ble_eq_true rfl) dX1_init_17 (fun H locs hP hD hS => ?_)
  have hP : va_P D vwCl [(h0, .inr (1, [.int 0, .ref q1, .ref q2, .null])), (q1, .inl (dA, 21, .inl (fun _ => 0))), (q2, .inl (dA, 56, .inl (fun _ => 0)))] H := hP
  have hD : va_D A [(h0, .inr (1, [.int 0, .ref q1, .ref q2, .null])), (q1, .inl (dA, 21, .inl (fun _ => 0))), (q2, .inl (dA, 56, .inl (fun _ => 0)))] := hD
  refine lv_aload_n hx hb dX1_init_20 rfl (lv_at hl 0 rfl) ?_
  refine lv_bipush (v := nI 7) hx hb dX1_init_21 (by decide) ?_
  refine va_newa (atype := .int) (ty := .int) (n := nI 7) (N' := 7) (a0 := (7, .inl (fun _ => 0))) hx hb (hts _ q55) rfl hK hP hD hS hA (fun _ => rfl) (by decide) (by decide) (by decide) (Nat.le_of_ble_eq_true rfl) (Nat.le_of_ble_eq_true rfl) dX1_init_23 (fun q3 dB H hK hP hD hS => ?_)
  have hdd : dB = dA := fg_sameA hK rfl
  rw [hdd] at hP hD
  have hK := hK.sub (tys' := [(dA, .int)]) [0] rfl
  have hP : va_P D vwCl [(h0, .inr (1, [.int 0, .ref q1, .ref q2, .null])), (q1, .inl (dA, 21, .inl (fun _ => 0))), (q2, .inl (dA, 56, .inl (fun _ => 0))), (q3, .inl (dA, 7, .inl (fun _ => 0)))] H := hP
  have hD : va_D A [(h0, .inr (1, [.int 0, .ref q1, .ref q2, .null])), (q1, .inl (dA, 21, .inl (fun _ => 0))), (q2, .inl (dA, 56, .inl (fun _ => 0))), (q3, .inl (dA, 7, .inl (fun _ => 0)))] := hD
  refine va_putF (D := D) (ci := 1) (v := .ref q3) (ty := .array .int) (C := RX1) (T := TX1) (N := 4) hx hb hts in_X1 tyX1 tyX1_ok nmX1 hown hK hP hD hS 0 rfl rfl 3 (by decide) (hts _ q160) (fun _ h9 => h9) rfl hin rfl (by decide +kernel) rfl rfl (Nat.le_of_ble_eq_true rfl) dX1_init_25 (fun H locs hP hD hS => ?_)
  have hP : va_P D vwCl [(h0, .inr (1, [.int 0, .ref q1, .ref q2, .ref q3])), (q1, .inl (dA, 21, .inl (fun _ => 0))), (q2, .inl (dA, 56, .inl (fun _ => 0))), (q3, .inl (dA, 7, .inl (fun _ => 0)))] H := hP
  have hD : va_D A [(h0, .inr (1, [.int 0, .ref q1, .ref q2, .ref q3])), (q1, .inl (dA, 21, .inl (fun _ => 0))), (q2, .inl (dA, 56, .inl (fun _ => 0))), (q3, .inl (dA, 7, .inl (fun _ => 0)))] := hD
  refine W.widen (k := 3) (n := 84) (by decide) (by decide) ?_
  have hP : va_P D vwCl (fg_wM (fg_h4 h0 q1 q2 q3) dA (nI 0) (fun _ => 0) (fun _ => 0) (fun _ => 0)) H := hP
  have hD : va_D A (fg_wM (fg_h4 h0 q1 q2 q3) dA (nI 0) (fun _ => 0) (fun _ => 0) (fun _ => 0)) := hD
  generalize hhe : fg_h4 h0 q1 q2 q3 = g at hP hD
  have hh0 : g 0 = h0 := by rw [← hhe]; rfl
  rw [← hh0] at hl
  have loop : ∀ (k i : Nat), i ≤ 7 → 7 < i + k → ∀ (H : Heap) (locs : List Loc), va_P D vwCl (fg_wM g dA (nI 0) (fun _ => 0) (fun _ => 0) (fg_g0 i)) H → va_D A (fg_wM g dA (nI 0) (fun _ => 0) (fun _ => 0) (fg_g0 i)) → va_S A s.heap H locs → ∀ (ls : Array Slot), lv_has ls 2 [(0, .ref (g 0)), (1, .int (nI i))] → W p l e fg_rm_X1_init s m args below meth c H locs 3 84 Q (F0 m 30 ls []) := by
    intro k
    induction k with
    | zero => intro i h1 h2; exact absurd h2 (by omega)
    | succ k ih =>
      intro i hi hk H locs hP hD hS ls hl
      refine lv_iload_n hx hb dX1_init_30 rfl (lv_at hl 1 rfl) ?_
      refine lv_bipush (v := nI 7) hx hb dX1_init_31 (by decide) ?_
      refine fg_ige (tgt := 49) hx hb dX1_init_33 (by decide) (by omega) (by omega) (fun hc => ?_) (fun hc => ?_)
      · have hi7 : i = 7 := by omega
        subst hi7
        exact ret (g, dA) _ _ _ _ dX1_init_49 hS hh0 hP hK hD
      · refine lv_aload_n hx hb dX1_init_36 rfl (lv_at hl 0 rfl) ?_
        refine gm_fixed hx hb hts hown hK hP dX1_init_37 ?_
        refine lv_iload_n hx hb dX1_init_40 rfl (lv_at hl 1 rfl) ?_
        refine lv_iconst (v := -1) hx hb dX1_init_41 (by decide) ?_
        refine sm_fixed hx hb hK hP hD hS hc dX1_init_42 (fun H locs hP hD hS => ?_)
        refine lv_iinc (v := nI (i + 1)) (lv' := [(1, .int (nI (i + 1))), (0, .ref (g 0))]) hx hb dX1_init_43 hl (k := 1) rfl (fg_inc _) (by decide) rfl (fun ls hl => ?_)
        refine lv_goto (tgt := 30) hx hb dX1_init_46 (by decide) ?_
        rw [fg_g0_s] at hP hD
        exact ih (i + 1) (by omega) (by omega) _ _ hP hD hS ls (lv_sub hl [1, 0] rfl)
  refine lv_iconst (v := nI 0) hx hb dX1_init_28 (by decide) ?_
  refine lv_istore_n (lv' := [(1, .int (nI 0)), (0, .ref (g 0))]) hx hb dX1_init_29 rfl hl (by decide) rfl (fun ls hl => ?_)
  exact loop 8 0 (by omega) (by omega) _ _ (by rw [fg_g0_0]; exact hP) (by rw [fg_g0_0]; exact hD) hS ls (lv_sub hl [1, 0] rfl)
end
section
/-! THE CLAIM OUT OF ONE WALK OF THE LAW'S BODY. Your part is whole_start (and what it stands on); all else here is the same for every law, but numbers. -/
def R_law : String := "FactorGraphLaw"
def lw_P (b : Addr) (xs : List Int32) (args : Array Value) (s : State) : Prop := args = #[.ref b] ∧ s.IntsAt b xs ∧ xs.length ≤ 256 ∧ (Jvm.Cond.and given_1 narrow_1).before args s = true
def lw_Q (_ : Array Value) (s : State) (o : Outcome) (t : State) : Prop := o = .returned (some (.int 1)) ∧ Framed s o t [] 600000 7290000
def lw_Z (below : List Frame) (a : Array Value) (s : State) : State → Prop := fun t => ∃ o, t.status = .running ∧ Ended t below o ∧ lw_Q a s o t
/-- the law's own end, with 1 on the stack, nothing written that was there before, its room as the claim has it -/
theorem lw_ret {p : Program} {l : Launch} {e : Env} {s : State} {m : MethodId} {below : List Frame} {meth : Method} {c : Code} {b : Nat} (hx : p.tables.exec = Jvm.exec) (hb : c.code = code) (hr : meth.sig.returnType = ret) (hlocks : meth.locks = false) {pc : Nat} {H : Heap} {ls : Array Slot} (hdg : decode code pc = .ok (.ireturn, 1)) : W p l e room_1 s m #[Value.ref b] below meth c H [] 600000 7290000 (lw_Z below #[Value.ref b] s) (F0 m pc ls [.int 1]) := by
  intro T hT X
  obtain ⟨fs, hret, hrun, hended, hW, hframe⟩ := X.leave (v := some (.int 1)) (hlocks := hlocks) (fun h => by rw [hr] at h; cases h)
  have hmeth' : T.vm.method? m = some meth := X.method'
  refine ⟨T.setFrames fs, ?_, .returned (some (.int 1)), hrun, hended, rfl, ⟨_, rfl⟩, hW, hframe⟩
  jvm_step X.here [X.here.top, hx, hb, hdg, hmeth', hr, ret, narrow_b1]
  (try refine ⟨rfl, ?_⟩); (try refine ⟨rfl, ?_⟩)
  first | (intro acts; rw [hret _ acts rfl rfl rfl]) | rw [hret _ _ rfl rfl rfl]
  exact Steps.refl _
/-- what holds at the law's entry: the machine, the code, the tables' words (any of lw_tbl by 'hts w (by decide +kernel)'), the script of L ints xs at the cell b, what the Statement gives of the start (any of its parts by flat_of_before) -/
def lw_At (p : Program) (s : State) (m : MethodId) (meth : Method) (c : Code) (b L : Nat) (xs : Nat → Int32) : Prop :=
  p.tables.exec = Jvm.exec ∧ c.code = code ∧ meth.sig.returnType = ret ∧ c.maxLocals = 4 ∧ s.vm.findClass R_law = some m.cls ∧ (∀ w ∈ lw_tbl, w.before #[Value.ref b] s = true) ∧ va_X b L xs s s.heap ∧ b < s.heap.size ∧ meth.locks = false ∧ (Jvm.Cond.and given_1 narrow_1).before #[Value.ref b] s = true
end
section
section FGL
variable {p : Program} {l : Launch} {e : Env} {R : Room} {s : State} {m : MethodId} {args : Array Value} {below : List Frame} {meth : Method} {c : Code} {H H0 : Heap} {locs : List Loc} {cells slots : Nat} {Q : State → Prop}
variable {cc : ByteArray} {pc : Nat} {ls : Array Slot} {rest : List Value} {A : Nat → Prop}
theorem fg_sld (hx : p.tables.exec = Jvm.exec) (hb : c.code = cc) {b L j : Nat} {xs : Nat → Int32} (hX : va_X b L xs s H0) (hbl : b < H0.size) (hbA : ¬ A b) (hS : va_S A H0 H locs) (hL : L ≤ 256) (hj : j < L) (d : decode cc pc = .ok (.iaload, 1))
    (kk : W p l e R s m args below meth c H locs cells slots Q (F0 m (pc + 1) ls (.int (xs j) :: rest))) : W p l e R s m args below meth c H locs cells slots Q (F0 m pc ls (.int (nI j) :: .ref b :: rest)) := by
  refine va_sld hx hb hX hbl hbA hS (vp_in_nI hj (by omega)) d ?_
  rw [nI_clamp (by omega)]
  exact kk
end FGL
theorem fg_l4a {L i : Nat} (hL : L ≤ 256) (hi : i ≤ L) (h : ¬ nI L - nI 4 < nI i) : i + 4 ≤ L := by
  rw [Int32.lt_iff_toInt_lt, pk_sub_toInt (by omega) (by decide), nI_toInt (by omega)] at h
  omega
set_option maxHeartbeats 4000000 in
set_option maxRecDepth 100000 in
/-- the law at the head of its loop: both hold the same factors, weights and evidence -/
theorem fg_law_loop {p : Program} {l : Launch} {e : Env} {s : State} {m : MethodId} {below : List Frame} {meth : Method} {c : Code} {D : va_G} {h g : Nat → Nat} {dA dL : ClassId} {b L : Nat} {xs : Nat → Int32} (hL : L ≤ 256) (C0 : lw_At p s m meth c b L xs) (hK : va_K D vwCl (fg_tX dA dL) s) :
    ∀ (n i : Nat), i ≤ L → L < i + n → ∀ (F : Nat) (ar va we gi fi : Nat → Int32) (tb : Int32) (sc : Nat → Int32) (ta : Nat → Int64), fg_inv F ar va we gi → ∀ (H : Heap) (locs : List Loc), va_P D vwCl (fg_wX h dA dL (nI F) ar va we gi fi tb sc ta ++ fg_wM g dA (nI F) va we gi) H → va_D (fun q : Nat => s.heap.size ≤ q) (fg_wX h dA dL (nI F) ar va we gi fi tb sc ta ++ fg_wM g dA (nI F) va we gi) → va_S (fun q : Nat => s.heap.size ≤ q) s.heap H locs → ∀ (ls : Array Slot), lv_has ls 4 [(0, .ref b), (1, .ref (h 0)), (2, .ref (g 0)), (3, .int (nI i))] → W p l e room_1 s m #[Value.ref b] below meth c H locs 600000 7290000 (lw_Z below #[Value.ref b] s) (F0 m 18 ls []) := by
  obtain ⟨hx, hb, hr, hml, hown, hts0, hX, hbl, hlocks, hgv⟩ := C0
  have hts : ∀ w ∈ lw_all, w.before #[Value.ref b] s = true := fun w h => hts0 w (lw_all_tbl h)
  have hA : ∀ q : Nat, s.heap.size ≤ q → (fun q : Nat => s.heap.size ≤ q) q := fun _ h => h
  have hbA : ¬ (fun q : Nat => s.heap.size ≤ q) b := Nat.not_le.mpr hbl
  have hKM : va_K D vwCl (fg_tM dA) s := hK.sub (tys' := [(dA, .int)]) [0] rfl
  intro n
  induction n with
  | zero => intro i h1 h2; exact absurd h2 (by omega)
  | succ n ih =>
    intro i hi hn F ar va we gi fi tb sc ta hI H locs hP hD hS ls hl
    refine lv_iload_n hx hb dL_law_18 rfl (lv_at hl 3 rfl) ?_
    refine lv_aload_n hx hb dL_law_19 rfl (lv_at hl 0 rfl) ?_
    refine va_slen hx hb hX hbl hbA hS dL_law_20 ?_
    refine fg_top (y := nI L) rfl ?_
    refine lv_iconst (v := nI 4) hx hb dL_law_21 (by decide) ?_
    refine lv_isub hx hb dL_law_22 ?_
    refine lv_icmp_gt (tgt := 375) hx hb dL_law_23 (by decide) (fun hc => ?_) (fun hc => ?_)
    · refine lv_iconst (v := 1) hx hb dL_law_375 (by decide) ?_
      refine va_forget (fun q hq => hS.2.2 q hq) ?_
      exact lw_ret hx hb hr hlocks dL_law_376
    · have hi4 : i + 4 ≤ L := fg_l4a hL hi hc
      have step : ∀ (F : Nat) (ar va we gi fi : Nat → Int32) (tb : Int32) (sc : Nat → Int32) (ta : Nat → Int64), fg_inv F ar va we gi → ∀ (H : Heap) (locs : List Loc), va_P D vwCl (fg_wX h dA dL (nI F) ar va we gi fi tb sc ta ++ fg_wM g dA (nI F) va we gi) H → va_D (fun q : Nat => s.heap.size ≤ q) (fg_wX h dA dL (nI F) ar va we gi fi tb sc ta ++ fg_wM g dA (nI F) va we gi) → va_S (fun q : Nat => s.heap.size ≤ q) s.heap H locs → ∀ (ls : Array Slot), lv_has ls 4 [(0, .ref b), (1, .ref (h 0)), (2, .ref (g 0)), (3, .int (nI i))] → W p l e room_1 s m #[Value.ref b] below meth c H locs 600000 7290000 (lw_Z below #[Value.ref b] s) (F0 m 369 ls []) := by
        intro F ar va we gi fi tb sc ta hI H locs hP hD hS ls hl
        refine lv_iinc (v := nI (i + 4)) (lv' := [(3, .int (nI (i + 4))), (0, .ref b), (1, .ref (h 0)), (2, .ref (g 0))]) hx hb dL_law_369 hl (k := 3) rfl (fg_inc4 _) (by decide) rfl (fun ls hl => ?_)
        refine lv_goto (tgt := 18) hx hb dL_law_372 (by decide) ?_
        exact ih (i + 4) (by omega) (by omega) F ar va we gi fi tb sc ta hI _ _ hP hD hS ls (lv_sub hl [1, 2, 3, 0] rfl)
      refine lv_aload_n hx hb dL_law_26 rfl (lv_at hl 0 rfl) ?_
      refine lv_iload_n hx hb dL_law_27 rfl (lv_at hl 3 rfl) ?_
      refine fg_sld hx hb hX hbl hbA hS hL (by omega) dL_law_28 ?_
      refine lv_bipush (v := nI 15) hx hb dL_law_29 (by decide) ?_
      obtain ⟨j, hj, ej⟩ := pk_andE (xs i) (m := nI 15) 4 (by decide)
      refine lv_iand hx hb dL_law_31 ?_
      refine fg_top ej ?_
      rcases (show j = 0 ∨ j = 1 ∨ j = 2 ∨ j = 3 ∨ j = 4 ∨ j = 5 ∨ j = 6 ∨ j = 7 ∨ j = 8 ∨ j = 9 ∨ j = 10 ∨ (10 < j ∧ j < 16) by omega) with rfl | rfl | rfl | rfl | rfl | rfl | rfl | rfl | rfl | rfl | rfl | hj2
      · refine lv_tableIn (tgt := 92) (off := 60) hx hb dL_law_32 (by decide) (by decide) (by decide) (by decide) ?_
        refine lv_aload_n hx hb dL_law_92 rfl (lv_at hl 1 rfl) ?_
        refine lv_aload_n hx hb dL_law_93 rfl (lv_at hl 0 rfl) ?_
        refine lv_iload_n hx hb dL_law_94 rfl (lv_at hl 3 rfl) ?_
        refine lv_iconst (v := nI 1) hx hb dL_law_95 (by decide) ?_
        refine fg_iadd hx hb dL_law_96 ?_
        refine fg_sld hx hb hX hbl hbA hS hL (by omega) dL_law_97 ?_
        refine lv_aload_n hx hb dL_law_98 rfl (lv_at hl 0 rfl) ?_
        refine lv_iload_n hx hb dL_law_99 rfl (lv_at hl 3 rfl) ?_
        refine lv_iconst (v := nI 2) hx hb dL_law_100 (by decide) ?_
        refine fg_iadd hx hb dL_law_101 ?_
        refine fg_sld hx hb hX hbl hbA hS hL (by omega) dL_law_102 ?_
        refine lv_aload_n hx hb dL_law_103 rfl (lv_at hl 0 rfl) ?_
        refine lv_iload_n hx hb dL_law_104 rfl (lv_at hl 3 rfl) ?_
        refine lv_iconst (v := nI 3) hx hb dL_law_105 (by decide) ?_
        refine fg_iadd hx hb dL_law_106 ?_
        refine fg_sld hx hb hX hbl hbA hS hL (by omega) dL_law_107 ?_
        refine fg_mVi (a := h 0) (As := [.int (xs (i + 1)), .int (xs (i + 2)), .int (xs (i + 3))]) (rest := []) (ci := 0) (q := (RX0, TX0, 9)) (wr := fg_wM g dA (nI F) va we gi) ⟨hx, hb, hml, hown, hts⟩ (fg_X_factor (l := l) (D := D) (h := h) (dA := dA) (dL := dL) (fi := fi) (tb := tb) (sc := sc) (ta := ta) (x := (xs (i + 1))) (y := (xs (i + 2))) (z := (xs (i + 3))) hI) (cwV 3 hts (lw_V q57 q58 q59 q17 q60) rfl rfl rfl fg_md_X0_factor ⟨Nat.le_of_ble_eq_true rfl, Nat.le_of_ble_eq_true rfl⟩) rfl rfl hK hP hD (hP.sub [0, 1, 2, 3, 4, 5, 6, 7] rfl) (hD.sub [0, 1, 2, 3, 4, 5, 6, 7] (by decide) rfl) hS hA [0, 1, 2, 3, 4, 5, 6, 7] [8, 9, 10, 11] rfl rfl (by decide) (by decide) rfl hl.1 rfl (Nat.le_of_ble_eq_true rfl) dL_law_108 ⟨Nat.le_refl _, Nat.le_refl _⟩ (fun r1 u H locs hr1 hP hD hS => ?_)
        subst hr1
        have hP : va_P D vwCl (fg_wX h dA dL (nI (fg_fF F (xs (i + 1)) (xs (i + 2)) (xs (i + 3)))) (fg_fA F ar (xs (i + 1)) (xs (i + 2)) (xs (i + 3))) (fg_fV F va (xs (i + 1)) (xs (i + 2)) (xs (i + 3))) (fg_fW F we (xs (i + 1)) (xs (i + 2)) (xs (i + 3))) gi fi tb sc ta ++ fg_wM g dA (nI F) va we gi) H := hP.sub [4, 5, 6, 7, 8, 9, 10, 11, 0, 1, 2, 3] rfl
        have hD : va_D (fun q : Nat => s.heap.size ≤ q) (fg_wX h dA dL (nI (fg_fF F (xs (i + 1)) (xs (i + 2)) (xs (i + 3)))) (fg_fA F ar (xs (i + 1)) (xs (i + 2)) (xs (i + 3))) (fg_fV F va (xs (i + 1)) (xs (i + 2)) (xs (i + 3))) (fg_fW F we (xs (i + 1)) (xs (i + 2)) (xs (i + 3))) gi fi tb sc ta ++ fg_wM g dA (nI F) va we gi) := hD.sub [4, 5, 6, 7, 8, 9, 10, 11, 0, 1, 2, 3] (by decide) rfl
        refine lv_aload_n hx hb dL_law_111 rfl (lv_at hl 2 rfl) ?_
        refine lv_aload_n hx hb dL_law_112 rfl (lv_at hl 0 rfl) ?_
        refine lv_iload_n hx hb dL_law_113 rfl (lv_at hl 3 rfl) ?_
        refine lv_iconst (v := nI 1) hx hb dL_law_114 (by decide) ?_
        refine fg_iadd hx hb dL_law_115 ?_
        refine fg_sld hx hb hX hbl hbA hS hL (by omega) dL_law_116 ?_
        refine lv_aload_n hx hb dL_law_117 rfl (lv_at hl 0 rfl) ?_
        refine lv_iload_n hx hb dL_law_118 rfl (lv_at hl 3 rfl) ?_
        refine lv_iconst (v := nI 2) hx hb dL_law_119 (by decide) ?_
        refine fg_iadd hx hb dL_law_120 ?_
        refine fg_sld hx hb hX hbl hbA hS hL (by omega) dL_law_121 ?_
        refine lv_aload_n hx hb dL_law_122 rfl (lv_at hl 0 rfl) ?_
        refine lv_iload_n hx hb dL_law_123 rfl (lv_at hl 3 rfl) ?_
        refine lv_iconst (v := nI 3) hx hb dL_law_124 (by decide) ?_
        refine fg_iadd hx hb dL_law_125 ?_
        refine fg_sld hx hb hX hbl hbA hS hL (by omega) dL_law_126 ?_
        refine fg_mVi (a := g 0) (As := [.int (xs (i + 1)), .int (xs (i + 2)), .int (xs (i + 3))]) (rest := [.int (fg_fr F (xs (i + 1)) (xs (i + 2)) (xs (i + 3)))]) (ci := 1) (q := (RX1, TX1, 4)) (wr := fg_wX h dA dL (nI (fg_fF F (xs (i + 1)) (xs (i + 2)) (xs (i + 3)))) (fg_fA F ar (xs (i + 1)) (xs (i + 2)) (xs (i + 3))) (fg_fV F va (xs (i + 1)) (xs (i + 2)) (xs (i + 3))) (fg_fW F we (xs (i + 1)) (xs (i + 2)) (xs (i + 3))) gi fi tb sc ta) ⟨hx, hb, hml, hown, hts⟩ (fg_M_factor (l := l) (D := D) (g := g) (dA := dA) (x := (xs (i + 1))) (y := (xs (i + 2))) (z := (xs (i + 3))) hI) (cwV 3 hts (lw_V q170 q171 q172 q18 q173) rfl rfl rfl fg_md_X1_factor ⟨Nat.le_of_ble_eq_true rfl, Nat.le_of_ble_eq_true rfl⟩) rfl rfl hKM hP hD (hP.sub [8, 9, 10, 11] rfl) (hD.sub [8, 9, 10, 11] (by decide) rfl) hS hA [8, 9, 10, 11] [0, 1, 2, 3, 4, 5, 6, 7] rfl rfl (by decide) (by decide) rfl hl.1 rfl (Nat.le_of_ble_eq_true rfl) dL_law_127 ⟨Nat.le_refl _, Nat.le_refl _⟩ (fun r2 u2 H locs hr2 hP hD hS => ?_)
        subst hr2
        refine lv_icmp_eq (tgt := 369) hx hb dL_law_130 (by decide) (fun hc9 => ?_) (fun hc9 => ?_)
        · exact step (fg_fF F (xs (i + 1)) (xs (i + 2)) (xs (i + 3))) (fg_fA F ar (xs (i + 1)) (xs (i + 2)) (xs (i + 3))) (fg_fV F va (xs (i + 1)) (xs (i + 2)) (xs (i + 3))) (fg_fW F we (xs (i + 1)) (xs (i + 2)) (xs (i + 3))) gi fi tb sc ta (fg_inv_factor hI) _ _ hP hD hS ls hl
        · exact absurd rfl hc9
      · refine lv_tableIn (tgt := 135) (off := 103) hx hb dL_law_32 (by decide) (by decide) (by decide) (by decide) ?_
        refine lv_aload_n hx hb dL_law_135 rfl (lv_at hl 1 rfl) ?_
        refine lv_aload_n hx hb dL_law_136 rfl (lv_at hl 0 rfl) ?_
        refine lv_iload_n hx hb dL_law_137 rfl (lv_at hl 3 rfl) ?_
        refine lv_iconst (v := nI 1) hx hb dL_law_138 (by decide) ?_
        refine fg_iadd hx hb dL_law_139 ?_
        refine fg_sld hx hb hX hbl hbA hS hL (by omega) dL_law_140 ?_
        refine lv_aload_n hx hb dL_law_141 rfl (lv_at hl 0 rfl) ?_
        refine lv_iload_n hx hb dL_law_142 rfl (lv_at hl 3 rfl) ?_
        refine lv_iconst (v := nI 2) hx hb dL_law_143 (by decide) ?_
        refine fg_iadd hx hb dL_law_144 ?_
        refine fg_sld hx hb hX hbl hbA hS hL (by omega) dL_law_145 ?_
        refine lv_aload_n hx hb dL_law_146 rfl (lv_at hl 0 rfl) ?_
        refine lv_iload_n hx hb dL_law_147 rfl (lv_at hl 3 rfl) ?_
        refine lv_iconst (v := nI 3) hx hb dL_law_148 (by decide) ?_
        refine fg_iadd hx hb dL_law_149 ?_
        refine fg_sld hx hb hX hbl hbA hS hL (by omega) dL_law_150 ?_
        refine fg_mVi (a := h 0) (As := [.int (xs (i + 1)), .int (xs (i + 2)), .int (xs (i + 3))]) (rest := []) (ci := 0) (q := (RX0, TX0, 9)) (wr := fg_wM g dA (nI F) va we gi) ⟨hx, hb, hml, hown, hts⟩ (fg_X_weight (l := l) (D := D) (h := h) (dA := dA) (dL := dL) (fi := fi) (tb := tb) (sc := sc) (ta := ta) (f := (xs (i + 1))) (y := (xs (i + 2))) (w := (xs (i + 3))) hI) (cwV 3 hts (lw_V q64 q65 q66 q17 q67) rfl rfl rfl fg_md_X0_weight ⟨Nat.le_of_ble_eq_true rfl, Nat.le_of_ble_eq_true rfl⟩) rfl rfl hK hP hD (hP.sub [0, 1, 2, 3, 4, 5, 6, 7] rfl) (hD.sub [0, 1, 2, 3, 4, 5, 6, 7] (by decide) rfl) hS hA [0, 1, 2, 3, 4, 5, 6, 7] [8, 9, 10, 11] rfl rfl (by decide) (by decide) rfl hl.1 rfl (Nat.le_of_ble_eq_true rfl) dL_law_151 ⟨Nat.le_refl _, Nat.le_refl _⟩ (fun r1 u H locs hr1 hP hD hS => ?_)
        subst hr1
        have hP : va_P D vwCl (fg_wX h dA dL (nI F) ar va (fg_wW F va we (xs (i + 1)) (xs (i + 2)) (xs (i + 3))) gi fi tb sc ta ++ fg_wM g dA (nI F) va we gi) H := hP.sub [4, 5, 6, 7, 8, 9, 10, 11, 0, 1, 2, 3] rfl
        have hD : va_D (fun q : Nat => s.heap.size ≤ q) (fg_wX h dA dL (nI F) ar va (fg_wW F va we (xs (i + 1)) (xs (i + 2)) (xs (i + 3))) gi fi tb sc ta ++ fg_wM g dA (nI F) va we gi) := hD.sub [4, 5, 6, 7, 8, 9, 10, 11, 0, 1, 2, 3] (by decide) rfl
        refine lv_aload_n hx hb dL_law_154 rfl (lv_at hl 2 rfl) ?_
        refine lv_aload_n hx hb dL_law_155 rfl (lv_at hl 0 rfl) ?_
        refine lv_iload_n hx hb dL_law_156 rfl (lv_at hl 3 rfl) ?_
        refine lv_iconst (v := nI 1) hx hb dL_law_157 (by decide) ?_
        refine fg_iadd hx hb dL_law_158 ?_
        refine fg_sld hx hb hX hbl hbA hS hL (by omega) dL_law_159 ?_
        refine lv_aload_n hx hb dL_law_160 rfl (lv_at hl 0 rfl) ?_
        refine lv_iload_n hx hb dL_law_161 rfl (lv_at hl 3 rfl) ?_
        refine lv_iconst (v := nI 2) hx hb dL_law_162 (by decide) ?_
        refine fg_iadd hx hb dL_law_163 ?_
        refine fg_sld hx hb hX hbl hbA hS hL (by omega) dL_law_164 ?_
        refine lv_aload_n hx hb dL_law_165 rfl (lv_at hl 0 rfl) ?_
        refine lv_iload_n hx hb dL_law_166 rfl (lv_at hl 3 rfl) ?_
        refine lv_iconst (v := nI 3) hx hb dL_law_167 (by decide) ?_
        refine fg_iadd hx hb dL_law_168 ?_
        refine fg_sld hx hb hX hbl hbA hS hL (by omega) dL_law_169 ?_
        refine fg_mVi (a := g 0) (As := [.int (xs (i + 1)), .int (xs (i + 2)), .int (xs (i + 3))]) (rest := [.int (fg_wr F va we (xs (i + 1)) (xs (i + 2)) (xs (i + 3)))]) (ci := 1) (q := (RX1, TX1, 4)) (wr := fg_wX h dA dL (nI F) ar va (fg_wW F va we (xs (i + 1)) (xs (i + 2)) (xs (i + 3))) gi fi tb sc ta) ⟨hx, hb, hml, hown, hts⟩ (fg_M_weight (l := l) (D := D) (g := g) (dA := dA) (f := (xs (i + 1))) (y := (xs (i + 2))) (w := (xs (i + 3))) hI) (cwV 3 hts (lw_V q178 q179 q180 q18 q181) rfl rfl rfl fg_md_X1_weight ⟨Nat.le_of_ble_eq_true rfl, Nat.le_of_ble_eq_true rfl⟩) rfl rfl hKM hP hD (hP.sub [8, 9, 10, 11] rfl) (hD.sub [8, 9, 10, 11] (by decide) rfl) hS hA [8, 9, 10, 11] [0, 1, 2, 3, 4, 5, 6, 7] rfl rfl (by decide) (by decide) rfl hl.1 rfl (Nat.le_of_ble_eq_true rfl) dL_law_170 ⟨Nat.le_refl _, Nat.le_refl _⟩ (fun r2 u2 H locs hr2 hP hD hS => ?_)
        subst hr2
        refine lv_icmp_eq (tgt := 369) hx hb dL_law_173 (by decide) (fun hc9 => ?_) (fun hc9 => ?_)
        · exact step F ar va (fg_wW F va we (xs (i + 1)) (xs (i + 2)) (xs (i + 3))) gi fi tb sc ta (fg_inv_weight hI) _ _ hP hD hS ls hl
        · exact absurd rfl hc9
      · refine lv_tableIn (tgt := 178) (off := 146) hx hb dL_law_32 (by decide) (by decide) (by decide) (by decide) ?_
        refine lv_aload_n hx hb dL_law_178 rfl (lv_at hl 1 rfl) ?_
        refine lv_aload_n hx hb dL_law_179 rfl (lv_at hl 0 rfl) ?_
        refine lv_iload_n hx hb dL_law_180 rfl (lv_at hl 3 rfl) ?_
        refine lv_iconst (v := nI 1) hx hb dL_law_181 (by decide) ?_
        refine fg_iadd hx hb dL_law_182 ?_
        refine fg_sld hx hb hX hbl hbA hS hL (by omega) dL_law_183 ?_
        refine lv_aload_n hx hb dL_law_184 rfl (lv_at hl 0 rfl) ?_
        refine lv_iload_n hx hb dL_law_185 rfl (lv_at hl 3 rfl) ?_
        refine lv_iconst (v := nI 2) hx hb dL_law_186 (by decide) ?_
        refine fg_iadd hx hb dL_law_187 ?_
        refine fg_sld hx hb hX hbl hbA hS hL (by omega) dL_law_188 ?_
        refine fg_mVi (a := h 0) (As := [.int (xs (i + 1)), .int (xs (i + 2))]) (rest := []) (ci := 0) (q := (RX0, TX0, 9)) (wr := fg_wM g dA (nI F) va we gi) ⟨hx, hb, hml, hown, hts⟩ (fg_X_evidence (l := l) (D := D) (h := h) (dA := dA) (dL := dL) (fi := fi) (tb := tb) (sc := sc) (ta := ta) (fa := nI F) (ar := ar) (va := va) (we := we) (gi := gi) (v := (xs (i + 1))) (x := (xs (i + 2)))) (cwV 2 hts (lw_V q68 q69 q70 q17 q71) rfl rfl rfl fg_md_X0_evidence ⟨Nat.le_of_ble_eq_true rfl, Nat.le_of_ble_eq_true rfl⟩) rfl rfl hK hP hD (hP.sub [0, 1, 2, 3, 4, 5, 6, 7] rfl) (hD.sub [0, 1, 2, 3, 4, 5, 6, 7] (by decide) rfl) hS hA [0, 1, 2, 3, 4, 5, 6, 7] [8, 9, 10, 11] rfl rfl (by decide) (by decide) rfl hl.1 rfl (Nat.le_of_ble_eq_true rfl) dL_law_189 ⟨Nat.le_refl _, Nat.le_refl _⟩ (fun r1 u H locs hr1 hP hD hS => ?_)
        subst hr1
        have hP : va_P D vwCl (fg_wX h dA dL (nI F) ar va we (fg_eG gi (xs (i + 1)) (xs (i + 2))) fi tb sc ta ++ fg_wM g dA (nI F) va we gi) H := hP.sub [4, 5, 6, 7, 8, 9, 10, 11, 0, 1, 2, 3] rfl
        have hD : va_D (fun q : Nat => s.heap.size ≤ q) (fg_wX h dA dL (nI F) ar va we (fg_eG gi (xs (i + 1)) (xs (i + 2))) fi tb sc ta ++ fg_wM g dA (nI F) va we gi) := hD.sub [4, 5, 6, 7, 8, 9, 10, 11, 0, 1, 2, 3] (by decide) rfl
        refine lv_aload_n hx hb dL_law_192 rfl (lv_at hl 2 rfl) ?_
        refine lv_aload_n hx hb dL_law_193 rfl (lv_at hl 0 rfl) ?_
        refine lv_iload_n hx hb dL_law_194 rfl (lv_at hl 3 rfl) ?_
        refine lv_iconst (v := nI 1) hx hb dL_law_195 (by decide) ?_
        refine fg_iadd hx hb dL_law_196 ?_
        refine fg_sld hx hb hX hbl hbA hS hL (by omega) dL_law_197 ?_
        refine lv_aload_n hx hb dL_law_198 rfl (lv_at hl 0 rfl) ?_
        refine lv_iload_n hx hb dL_law_199 rfl (lv_at hl 3 rfl) ?_
        refine lv_iconst (v := nI 2) hx hb dL_law_200 (by decide) ?_
        refine fg_iadd hx hb dL_law_201 ?_
        refine fg_sld hx hb hX hbl hbA hS hL (by omega) dL_law_202 ?_
        refine fg_mVi (a := g 0) (As := [.int (xs (i + 1)), .int (xs (i + 2))]) (rest := [.int (fg_er gi (xs (i + 1)) (xs (i + 2)))]) (ci := 1) (q := (RX1, TX1, 4)) (wr := fg_wX h dA dL (nI F) ar va we (fg_eG gi (xs (i + 1)) (xs (i + 2))) fi tb sc ta) ⟨hx, hb, hml, hown, hts⟩ (fg_M_evidence (l := l) (D := D) (g := g) (dA := dA) (F := F) (va := va) (we := we) (gi := gi) (v := (xs (i + 1))) (x := (xs (i + 2)))) (cwV 2 hts (lw_V q182 q183 q184 q18 q185) rfl rfl rfl fg_md_X1_evidence ⟨Nat.le_of_ble_eq_true rfl, Nat.le_of_ble_eq_true rfl⟩) rfl rfl hKM hP hD (hP.sub [8, 9, 10, 11] rfl) (hD.sub [8, 9, 10, 11] (by decide) rfl) hS hA [8, 9, 10, 11] [0, 1, 2, 3, 4, 5, 6, 7] rfl rfl (by decide) (by decide) rfl hl.1 rfl (Nat.le_of_ble_eq_true rfl) dL_law_203 ⟨Nat.le_refl _, Nat.le_refl _⟩ (fun r2 u2 H locs hr2 hP hD hS => ?_)
        subst hr2
        refine lv_icmp_eq (tgt := 369) hx hb dL_law_206 (by decide) (fun hc9 => ?_) (fun hc9 => ?_)
        · exact step F ar va we (fg_eG gi (xs (i + 1)) (xs (i + 2))) fi tb sc ta (fg_inv_evidence hI) _ _ hP hD hS ls hl
        · exact absurd rfl hc9
      · refine lv_tableIn (tgt := 211) (off := 179) hx hb dL_law_32 (by decide) (by decide) (by decide) (by decide) ?_
        refine lv_aload_n hx hb dL_law_211 rfl (lv_at hl 1 rfl) ?_
        refine fg_mVi (a := h 0) (As := []) (rest := []) (ci := 0) (q := (RX0, TX0, 9)) (wr := fg_wM g dA (nI F) va we gi) ⟨hx, hb, hml, hown, hts⟩ (fg_X_drop (l := l) (D := D) (h := h) (dA := dA) (dL := dL) (fi := fi) (tb := tb) (sc := sc) (ta := ta) (ar := ar) (va := va) (we := we) (gi := gi) (F := F) hI.1) (cwV 0 hts (lw_V q72 q73 q74 q17 q75) rfl rfl rfl fg_md_X0_drop ⟨Nat.le_of_ble_eq_true rfl, Nat.le_of_ble_eq_true rfl⟩) rfl rfl hK hP hD (hP.sub [0, 1, 2, 3, 4, 5, 6, 7] rfl) (hD.sub [0, 1, 2, 3, 4, 5, 6, 7] (by decide) rfl) hS hA [0, 1, 2, 3, 4, 5, 6, 7] [8, 9, 10, 11] rfl rfl (by decide) (by decide) rfl hl.1 rfl (Nat.le_of_ble_eq_true rfl) dL_law_212 ⟨Nat.le_refl _, Nat.le_refl _⟩ (fun r1 u H locs hr1 hP hD hS => ?_)
        subst hr1
        have hP : va_P D vwCl (fg_wX h dA dL (nI (F - 1)) ar va we gi fi tb sc ta ++ fg_wM g dA (nI F) va we gi) H := hP.sub [4, 5, 6, 7, 8, 9, 10, 11, 0, 1, 2, 3] rfl
        have hD : va_D (fun q : Nat => s.heap.size ≤ q) (fg_wX h dA dL (nI (F - 1)) ar va we gi fi tb sc ta ++ fg_wM g dA (nI F) va we gi) := hD.sub [4, 5, 6, 7, 8, 9, 10, 11, 0, 1, 2, 3] (by decide) rfl
        refine lv_aload_n hx hb dL_law_215 rfl (lv_at hl 2 rfl) ?_
        refine fg_mVi (a := g 0) (As := []) (rest := [.int (fg_dr F)]) (ci := 1) (q := (RX1, TX1, 4)) (wr := fg_wX h dA dL (nI (F - 1)) ar va we gi fi tb sc ta) ⟨hx, hb, hml, hown, hts⟩ (fg_M_drop (l := l) (D := D) (g := g) (dA := dA) (va := va) (we := we) (gi := gi) (F := F) hI.1) (cwV 0 hts (lw_V q186 q187 q188 q18 q189) rfl rfl rfl fg_md_X1_drop ⟨Nat.le_of_ble_eq_true rfl, Nat.le_of_ble_eq_true rfl⟩) rfl rfl hKM hP hD (hP.sub [8, 9, 10, 11] rfl) (hD.sub [8, 9, 10, 11] (by decide) rfl) hS hA [8, 9, 10, 11] [0, 1, 2, 3, 4, 5, 6, 7] rfl rfl (by decide) (by decide) rfl hl.1 rfl (Nat.le_of_ble_eq_true rfl) dL_law_216 ⟨Nat.le_refl _, Nat.le_refl _⟩ (fun r2 u2 H locs hr2 hP hD hS => ?_)
        subst hr2
        refine lv_icmp_eq (tgt := 369) hx hb dL_law_219 (by decide) (fun hc9 => ?_) (fun hc9 => ?_)
        · exact step (F - 1) ar va we gi fi tb sc ta (fg_inv_drop hI) _ _ hP hD hS ls hl
        · exact absurd rfl hc9
      · refine lv_tableIn (tgt := 224) (off := 192) hx hb dL_law_32 (by decide) (by decide) (by decide) (by decide) ?_
        refine lv_aload_n hx hb dL_law_224 rfl (lv_at hl 1 rfl) ?_
        refine fg_mVl (a := h 0) (As := []) (rest := []) (ci := 0) (q := (RX0, TX0, 9)) (wr := fg_wM g dA (nI F) va we gi) ⟨hx, hb, hml, hown, hts⟩ (fg_X_total (l := l) (D := D) (h := h) (dA := dA) (dL := dL) (fi := fi) (tb := tb) (sc := sc) (ta := ta) hI) (cwV 0 hts (lw_V q76 q77 q78 q17 q79) rfl rfl rfl fg_md_X0_total ⟨Nat.le_of_ble_eq_true rfl, Nat.le_of_ble_eq_true rfl⟩) rfl rfl hK hP hD (hP.sub [0, 1, 2, 3, 4, 5, 6, 7] rfl) (hD.sub [0, 1, 2, 3, 4, 5, 6, 7] (by decide) rfl) hS hA [0, 1, 2, 3, 4, 5, 6, 7] [8, 9, 10, 11] rfl rfl (by decide) (by decide) rfl hl.1 rfl (Nat.le_of_ble_eq_true rfl) dL_law_225 ⟨Nat.le_refl _, Nat.le_refl _⟩ (fun r1 u H locs hr1 hP hD hS => ?_)
        obtain ⟨fi1, tb1, sc1, ta1⟩ := u
        have hP : va_P D vwCl (fg_wX h dA dL (nI F) ar va we gi fi1 tb1 sc1 ta1 ++ fg_wM g dA (nI F) va we gi) H := hP.sub [4, 5, 6, 7, 8, 9, 10, 11, 0, 1, 2, 3] rfl
        have hD : va_D (fun q : Nat => s.heap.size ≤ q) (fg_wX h dA dL (nI F) ar va we gi fi1 tb1 sc1 ta1 ++ fg_wM g dA (nI F) va we gi) := hD.sub [4, 5, 6, 7, 8, 9, 10, 11, 0, 1, 2, 3] (by decide) rfl
        refine lv_aload_n hx hb dL_law_228 rfl (lv_at hl 2 rfl) ?_
        refine fg_cVl (a := g 0) (As := []) (rest := [.long r1]) (ci := 1) (q := (RX1, TX1, 4)) ⟨hx, hb, hml, hown, hts⟩ (fg_M_total (l := l) (D := D) (g := g) (dA := dA) hI) (cwV 0 hts (lw_V q190 q191 q192 q18 q193) rfl rfl rfl fg_md_X1_total ⟨Nat.le_of_ble_eq_true rfl, Nat.le_of_ble_eq_true rfl⟩) rfl rfl hKM (hP.sub [8, 9, 10, 11] rfl) hP hS hA rfl hl.1 rfl (Nat.le_of_ble_eq_true rfl) dL_law_229 ⟨Nat.le_refl _, Nat.le_refl _⟩ (fun r2 H locs hr2 hP hS => ?_)
        have h12 : r1 = r2 := hr1.trans hr2.symm
        refine W.lcmp hx hb dL_law_232 ?_
        refine lv_if_eq (tgt := 369) hx hb dL_law_233 (by decide) (fun hc9 => ?_) (fun hc9 => ?_)
        · exact step F ar va we gi fi1 tb1 sc1 ta1 hI _ _ hP hD hS ls hl
        · exact absurd ((lg_cmp_eq _ _).mpr h12) hc9
      · refine lv_tableIn (tgt := 238) (off := 206) hx hb dL_law_32 (by decide) (by decide) (by decide) (by decide) ?_
        refine lv_aload_n hx hb dL_law_238 rfl (lv_at hl 1 rfl) ?_
        refine lv_aload_n hx hb dL_law_239 rfl (lv_at hl 0 rfl) ?_
        refine lv_iload_n hx hb dL_law_240 rfl (lv_at hl 3 rfl) ?_
        refine lv_iconst (v := nI 1) hx hb dL_law_241 (by decide) ?_
        refine fg_iadd hx hb dL_law_242 ?_
        refine fg_sld hx hb hX hbl hbA hS hL (by omega) dL_law_243 ?_
        refine fg_mVl (a := h 0) (As := [.int (xs (i + 1))]) (rest := []) (ci := 0) (q := (RX0, TX0, 9)) (wr := fg_wM g dA (nI F) va we gi) ⟨hx, hb, hml, hown, hts⟩ (fg_X_share (l := l) (D := D) (h := h) (dA := dA) (dL := dL) (fi := fi) (tb := tb) (sc := sc) (ta := ta) (x := (xs (i + 1))) hI) (cwV 1 hts (lw_V q119 q120 q121 q17 q122) rfl rfl rfl fg_md_X0_share ⟨Nat.le_of_ble_eq_true rfl, Nat.le_of_ble_eq_true rfl⟩) rfl rfl hK hP hD (hP.sub [0, 1, 2, 3, 4, 5, 6, 7] rfl) (hD.sub [0, 1, 2, 3, 4, 5, 6, 7] (by decide) rfl) hS hA [0, 1, 2, 3, 4, 5, 6, 7] [8, 9, 10, 11] rfl rfl (by decide) (by decide) rfl hl.1 rfl (Nat.le_of_ble_eq_true rfl) dL_law_244 ⟨Nat.le_refl _, Nat.le_refl _⟩ (fun r1 u H locs hr1 hP hD hS => ?_)
        obtain ⟨fi1, tb1, sc1, ta1⟩ := u
        have hP : va_P D vwCl (fg_wX h dA dL (nI F) ar va we gi fi1 tb1 sc1 ta1 ++ fg_wM g dA (nI F) va we gi) H := hP.sub [4, 5, 6, 7, 8, 9, 10, 11, 0, 1, 2, 3] rfl
        have hD : va_D (fun q : Nat => s.heap.size ≤ q) (fg_wX h dA dL (nI F) ar va we gi fi1 tb1 sc1 ta1 ++ fg_wM g dA (nI F) va we gi) := hD.sub [4, 5, 6, 7, 8, 9, 10, 11, 0, 1, 2, 3] (by decide) rfl
        refine lv_aload_n hx hb dL_law_247 rfl (lv_at hl 2 rfl) ?_
        refine lv_aload_n hx hb dL_law_248 rfl (lv_at hl 0 rfl) ?_
        refine lv_iload_n hx hb dL_law_249 rfl (lv_at hl 3 rfl) ?_
        refine lv_iconst (v := nI 1) hx hb dL_law_250 (by decide) ?_
        refine fg_iadd hx hb dL_law_251 ?_
        refine fg_sld hx hb hX hbl hbA hS hL (by omega) dL_law_252 ?_
        refine fg_cVl (a := g 0) (As := [.int (xs (i + 1))]) (rest := [.long r1]) (ci := 1) (q := (RX1, TX1, 4)) ⟨hx, hb, hml, hown, hts⟩ (fg_M_share (l := l) (D := D) (g := g) (dA := dA) (x := (xs (i + 1))) hI) (cwV 1 hts (lw_V q206 q207 q208 q18 q209) rfl rfl rfl fg_md_X1_share ⟨Nat.le_of_ble_eq_true rfl, Nat.le_of_ble_eq_true rfl⟩) rfl rfl hKM (hP.sub [8, 9, 10, 11] rfl) hP hS hA rfl hl.1 rfl (Nat.le_of_ble_eq_true rfl) dL_law_253 ⟨Nat.le_refl _, Nat.le_refl _⟩ (fun r2 H locs hr2 hP hS => ?_)
        have h12 : r1 = r2 := hr1.trans hr2.symm
        refine W.lcmp hx hb dL_law_256 ?_
        refine lv_if_eq (tgt := 369) hx hb dL_law_257 (by decide) (fun hc9 => ?_) (fun hc9 => ?_)
        · exact step F ar va we gi fi1 tb1 sc1 ta1 hI _ _ hP hD hS ls hl
        · exact absurd ((lg_cmp_eq _ _).mpr h12) hc9
      · refine lv_tableIn (tgt := 262) (off := 230) hx hb dL_law_32 (by decide) (by decide) (by decide) (by decide) ?_
        refine lv_aload_n hx hb dL_law_262 rfl (lv_at hl 1 rfl) ?_
        refine lv_aload_n hx hb dL_law_263 rfl (lv_at hl 0 rfl) ?_
        refine lv_iload_n hx hb dL_law_264 rfl (lv_at hl 3 rfl) ?_
        refine lv_iconst (v := nI 1) hx hb dL_law_265 (by decide) ?_
        refine fg_iadd hx hb dL_law_266 ?_
        refine fg_sld hx hb hX hbl hbA hS hL (by omega) dL_law_267 ?_
        refine lv_aload_n hx hb dL_law_268 rfl (lv_at hl 0 rfl) ?_
        refine lv_iload_n hx hb dL_law_269 rfl (lv_at hl 3 rfl) ?_
        refine lv_iconst (v := nI 2) hx hb dL_law_270 (by decide) ?_
        refine fg_iadd hx hb dL_law_271 ?_
        refine fg_sld hx hb hX hbl hbA hS hL (by omega) dL_law_272 ?_
        refine fg_mVl (a := h 0) (As := [.int (xs (i + 1)), .int (xs (i + 2))]) (rest := []) (ci := 0) (q := (RX0, TX0, 9)) (wr := fg_wM g dA (nI F) va we gi) ⟨hx, hb, hml, hown, hts⟩ (fg_X_alike (l := l) (D := D) (h := h) (dA := dA) (dL := dL) (fi := fi) (tb := tb) (sc := sc) (ta := ta) (x := (xs (i + 1))) (y := (xs (i + 2))) hI) (cwV 2 hts (lw_V q127 q128 q129 q17 q130) rfl rfl rfl fg_md_X0_alike ⟨Nat.le_of_ble_eq_true rfl, Nat.le_of_ble_eq_true rfl⟩) rfl rfl hK hP hD (hP.sub [0, 1, 2, 3, 4, 5, 6, 7] rfl) (hD.sub [0, 1, 2, 3, 4, 5, 6, 7] (by decide) rfl) hS hA [0, 1, 2, 3, 4, 5, 6, 7] [8, 9, 10, 11] rfl rfl (by decide) (by decide) rfl hl.1 rfl (Nat.le_of_ble_eq_true rfl) dL_law_273 ⟨Nat.le_refl _, Nat.le_refl _⟩ (fun r1 u H locs hr1 hP hD hS => ?_)
        obtain ⟨fi1, tb1, sc1, ta1⟩ := u
        have hP : va_P D vwCl (fg_wX h dA dL (nI F) ar va we gi fi1 tb1 sc1 ta1 ++ fg_wM g dA (nI F) va we gi) H := hP.sub [4, 5, 6, 7, 8, 9, 10, 11, 0, 1, 2, 3] rfl
        have hD : va_D (fun q : Nat => s.heap.size ≤ q) (fg_wX h dA dL (nI F) ar va we gi fi1 tb1 sc1 ta1 ++ fg_wM g dA (nI F) va we gi) := hD.sub [4, 5, 6, 7, 8, 9, 10, 11, 0, 1, 2, 3] (by decide) rfl
        refine lv_aload_n hx hb dL_law_276 rfl (lv_at hl 2 rfl) ?_
        refine lv_aload_n hx hb dL_law_277 rfl (lv_at hl 0 rfl) ?_
        refine lv_iload_n hx hb dL_law_278 rfl (lv_at hl 3 rfl) ?_
        refine lv_iconst (v := nI 1) hx hb dL_law_279 (by decide) ?_
        refine fg_iadd hx hb dL_law_280 ?_
        refine fg_sld hx hb hX hbl hbA hS hL (by omega) dL_law_281 ?_
        refine lv_aload_n hx hb dL_law_282 rfl (lv_at hl 0 rfl) ?_
        refine lv_iload_n hx hb dL_law_283 rfl (lv_at hl 3 rfl) ?_
        refine lv_iconst (v := nI 2) hx hb dL_law_284 (by decide) ?_
        refine fg_iadd hx hb dL_law_285 ?_
        refine fg_sld hx hb hX hbl hbA hS hL (by omega) dL_law_286 ?_
        refine fg_cVl (a := g 0) (As := [.int (xs (i + 1)), .int (xs (i + 2))]) (rest := [.long r1]) (ci := 1) (q := (RX1, TX1, 4)) ⟨hx, hb, hml, hown, hts⟩ (fg_M_alike (l := l) (D := D) (g := g) (dA := dA) (x := (xs (i + 1))) (y := (xs (i + 2))) hI) (cwV 2 hts (lw_V q214 q215 q216 q18 q217) rfl rfl rfl fg_md_X1_alike ⟨Nat.le_of_ble_eq_true rfl, Nat.le_of_ble_eq_true rfl⟩) rfl rfl hKM (hP.sub [8, 9, 10, 11] rfl) hP hS hA rfl hl.1 rfl (Nat.le_of_ble_eq_true rfl) dL_law_287 ⟨Nat.le_refl _, Nat.le_refl _⟩ (fun r2 H locs hr2 hP hS => ?_)
        have h12 : r1 = r2 := hr1.trans hr2.symm
        refine W.lcmp hx hb dL_law_290 ?_
        refine lv_if_eq (tgt := 369) hx hb dL_law_291 (by decide) (fun hc9 => ?_) (fun hc9 => ?_)
        · exact step F ar va we gi fi1 tb1 sc1 ta1 hI _ _ hP hD hS ls hl
        · exact absurd ((lg_cmp_eq _ _).mpr h12) hc9
      · refine lv_tableIn (tgt := 296) (off := 264) hx hb dL_law_32 (by decide) (by decide) (by decide) (by decide) ?_
        refine lv_aload_n hx hb dL_law_296 rfl (lv_at hl 1 rfl) ?_
        refine fg_mVl (a := h 0) (As := []) (rest := []) (ci := 0) (q := (RX0, TX0, 9)) (wr := fg_wM g dA (nI F) va we gi) ⟨hx, hb, hml, hown, hts⟩ (fg_X_best (l := l) (D := D) (h := h) (dA := dA) (dL := dL) (fi := fi) (tb := tb) (sc := sc) (ta := ta) hI) (cwV 0 hts (lw_V q135 q136 q137 q17 q138) rfl rfl rfl fg_md_X0_best ⟨Nat.le_of_ble_eq_true rfl, Nat.le_of_ble_eq_true rfl⟩) rfl rfl hK hP hD (hP.sub [0, 1, 2, 3, 4, 5, 6, 7] rfl) (hD.sub [0, 1, 2, 3, 4, 5, 6, 7] (by decide) rfl) hS hA [0, 1, 2, 3, 4, 5, 6, 7] [8, 9, 10, 11] rfl rfl (by decide) (by decide) rfl hl.1 rfl (Nat.le_of_ble_eq_true rfl) dL_law_297 ⟨Nat.le_refl _, Nat.le_refl _⟩ (fun r1 u H locs hr1 hP hD hS => ?_)
        obtain ⟨fi1, tb1, sc1, ta1⟩ := u
        have hP : va_P D vwCl (fg_wX h dA dL (nI F) ar va we gi fi1 tb1 sc1 ta1 ++ fg_wM g dA (nI F) va we gi) H := hP.sub [4, 5, 6, 7, 8, 9, 10, 11, 0, 1, 2, 3] rfl
        have hD : va_D (fun q : Nat => s.heap.size ≤ q) (fg_wX h dA dL (nI F) ar va we gi fi1 tb1 sc1 ta1 ++ fg_wM g dA (nI F) va we gi) := hD.sub [4, 5, 6, 7, 8, 9, 10, 11, 0, 1, 2, 3] (by decide) rfl
        refine lv_aload_n hx hb dL_law_300 rfl (lv_at hl 2 rfl) ?_
        refine fg_cVl (a := g 0) (As := []) (rest := [.long r1]) (ci := 1) (q := (RX1, TX1, 4)) ⟨hx, hb, hml, hown, hts⟩ (fg_M_best (l := l) (D := D) (g := g) (dA := dA) hI) (cwV 0 hts (lw_V q218 q219 q220 q18 q221) rfl rfl rfl fg_md_X1_best ⟨Nat.le_of_ble_eq_true rfl, Nat.le_of_ble_eq_true rfl⟩) rfl rfl hKM (hP.sub [8, 9, 10, 11] rfl) hP hS hA rfl hl.1 rfl (Nat.le_of_ble_eq_true rfl) dL_law_301 ⟨Nat.le_refl _, Nat.le_refl _⟩ (fun r2 H locs hr2 hP hS => ?_)
        have h12 : r1 = r2 := hr1.trans hr2.symm
        refine W.lcmp hx hb dL_law_304 ?_
        refine lv_if_eq (tgt := 369) hx hb dL_law_305 (by decide) (fun hc9 => ?_) (fun hc9 => ?_)
        · exact step F ar va we gi fi1 tb1 sc1 ta1 hI _ _ hP hD hS ls hl
        · exact absurd ((lg_cmp_eq _ _).mpr h12) hc9
      · refine lv_tableIn (tgt := 310) (off := 278) hx hb dL_law_32 (by decide) (by decide) (by decide) (by decide) ?_
        refine lv_aload_n hx hb dL_law_310 rfl (lv_at hl 1 rfl) ?_
        refine fg_mVi (a := h 0) (As := []) (rest := []) (ci := 0) (q := (RX0, TX0, 9)) (wr := fg_wM g dA (nI F) va we gi) ⟨hx, hb, hml, hown, hts⟩ (fg_X_bestAssignment (l := l) (D := D) (h := h) (dA := dA) (dL := dL) (fi := fi) (tb := tb) (sc := sc) (ta := ta) hI) (cwV 0 hts (lw_V q139 q140 q141 q17 q142) rfl rfl rfl fg_md_X0_bestAssignment ⟨Nat.le_of_ble_eq_true rfl, Nat.le_of_ble_eq_true rfl⟩) rfl rfl hK hP hD (hP.sub [0, 1, 2, 3, 4, 5, 6, 7] rfl) (hD.sub [0, 1, 2, 3, 4, 5, 6, 7] (by decide) rfl) hS hA [0, 1, 2, 3, 4, 5, 6, 7] [8, 9, 10, 11] rfl rfl (by decide) (by decide) rfl hl.1 rfl (Nat.le_of_ble_eq_true rfl) dL_law_311 ⟨Nat.le_refl _, Nat.le_refl _⟩ (fun r1 u H locs hr1 hP hD hS => ?_)
        obtain ⟨fi1, tb1, sc1, ta1⟩ := u
        have hP : va_P D vwCl (fg_wX h dA dL (nI F) ar va we gi fi1 tb1 sc1 ta1 ++ fg_wM g dA (nI F) va we gi) H := hP.sub [4, 5, 6, 7, 8, 9, 10, 11, 0, 1, 2, 3] rfl
        have hD : va_D (fun q : Nat => s.heap.size ≤ q) (fg_wX h dA dL (nI F) ar va we gi fi1 tb1 sc1 ta1 ++ fg_wM g dA (nI F) va we gi) := hD.sub [4, 5, 6, 7, 8, 9, 10, 11, 0, 1, 2, 3] (by decide) rfl
        refine lv_aload_n hx hb dL_law_314 rfl (lv_at hl 2 rfl) ?_
        refine fg_cVi (a := g 0) (As := []) (rest := [.int r1]) (ci := 1) (q := (RX1, TX1, 4)) ⟨hx, hb, hml, hown, hts⟩ (fg_M_bestAssignment (l := l) (D := D) (g := g) (dA := dA) hI) (cwV 0 hts (lw_V q222 q223 q224 q18 q225) rfl rfl rfl fg_md_X1_bestAssignment ⟨Nat.le_of_ble_eq_true rfl, Nat.le_of_ble_eq_true rfl⟩) rfl rfl hKM (hP.sub [8, 9, 10, 11] rfl) hP hS hA rfl hl.1 rfl (Nat.le_of_ble_eq_true rfl) dL_law_315 ⟨Nat.le_refl _, Nat.le_refl _⟩ (fun r2 H locs hr2 hP hS => ?_)
        have h12 : r1 = r2 := by
          obtain ⟨M1, b1, e1⟩ := hr1
          obtain ⟨M2, b2, e2⟩ := hr2
          rw [e1, e2, fg_ba_one b1 b2]
        refine lv_icmp_eq (tgt := 369) hx hb dL_law_318 (by decide) (fun hc9 => ?_) (fun hc9 => ?_)
        · exact step F ar va we gi fi1 tb1 sc1 ta1 hI _ _ hP hD hS ls hl
        · exact absurd h12 hc9
      · refine lv_tableIn (tgt := 323) (off := 291) hx hb dL_law_32 (by decide) (by decide) (by decide) (by decide) ?_
        refine lv_aload_n hx hb dL_law_323 rfl (lv_at hl 1 rfl) ?_
        refine fg_mVi (a := h 0) (As := []) (rest := []) (ci := 0) (q := (RX0, TX0, 9)) (wr := fg_wM g dA (nI F) va we gi) ⟨hx, hb, hml, hown, hts⟩ (fg_X_possible (l := l) (D := D) (h := h) (dA := dA) (dL := dL) (fi := fi) (tb := tb) (sc := sc) (ta := ta) hI) (cwV 0 hts (lw_V q143 q144 q145 q17 q146) rfl rfl rfl fg_md_X0_possible ⟨Nat.le_of_ble_eq_true rfl, Nat.le_of_ble_eq_true rfl⟩) rfl rfl hK hP hD (hP.sub [0, 1, 2, 3, 4, 5, 6, 7] rfl) (hD.sub [0, 1, 2, 3, 4, 5, 6, 7] (by decide) rfl) hS hA [0, 1, 2, 3, 4, 5, 6, 7] [8, 9, 10, 11] rfl rfl (by decide) (by decide) rfl hl.1 rfl (Nat.le_of_ble_eq_true rfl) dL_law_324 ⟨Nat.le_refl _, Nat.le_refl _⟩ (fun r1 u H locs hr1 hP hD hS => ?_)
        obtain ⟨fi1, tb1, sc1, ta1⟩ := u
        have hP : va_P D vwCl (fg_wX h dA dL (nI F) ar va we gi fi1 tb1 sc1 ta1 ++ fg_wM g dA (nI F) va we gi) H := hP.sub [4, 5, 6, 7, 8, 9, 10, 11, 0, 1, 2, 3] rfl
        have hD : va_D (fun q : Nat => s.heap.size ≤ q) (fg_wX h dA dL (nI F) ar va we gi fi1 tb1 sc1 ta1 ++ fg_wM g dA (nI F) va we gi) := hD.sub [4, 5, 6, 7, 8, 9, 10, 11, 0, 1, 2, 3] (by decide) rfl
        refine lv_aload_n hx hb dL_law_327 rfl (lv_at hl 2 rfl) ?_
        refine fg_cVi (a := g 0) (As := []) (rest := [.int r1]) (ci := 1) (q := (RX1, TX1, 4)) ⟨hx, hb, hml, hown, hts⟩ (fg_M_possible (l := l) (D := D) (g := g) (dA := dA) hI) (cwV 0 hts (lw_V q227 q228 q229 q18 q230) rfl rfl rfl fg_md_X1_possible ⟨Nat.le_of_ble_eq_true rfl, Nat.le_of_ble_eq_true rfl⟩) rfl rfl hKM (hP.sub [8, 9, 10, 11] rfl) hP hS hA rfl hl.1 rfl (Nat.le_of_ble_eq_true rfl) dL_law_328 ⟨Nat.le_refl _, Nat.le_refl _⟩ (fun r2 H locs hr2 hP hS => ?_)
        have h12 : r1 = r2 := hr1.trans hr2.symm
        refine lv_icmp_eq (tgt := 369) hx hb dL_law_331 (by decide) (fun hc9 => ?_) (fun hc9 => ?_)
        · exact step F ar va we gi fi1 tb1 sc1 ta1 hI _ _ hP hD hS ls hl
        · exact absurd h12 hc9
      · refine lv_tableIn (tgt := 336) (off := 304) hx hb dL_law_32 (by decide) (by decide) (by decide) (by decide) ?_
        refine lv_aload_n hx hb dL_law_336 rfl (lv_at hl 1 rfl) ?_
        refine lv_aload_n hx hb dL_law_337 rfl (lv_at hl 0 rfl) ?_
        refine lv_iload_n hx hb dL_law_338 rfl (lv_at hl 3 rfl) ?_
        refine lv_iconst (v := nI 1) hx hb dL_law_339 (by decide) ?_
        refine fg_iadd hx hb dL_law_340 ?_
        refine fg_sld hx hb hX hbl hbA hS hL (by omega) dL_law_341 ?_
        refine lv_aload_n hx hb dL_law_342 rfl (lv_at hl 0 rfl) ?_
        refine lv_iload_n hx hb dL_law_343 rfl (lv_at hl 3 rfl) ?_
        refine lv_iconst (v := nI 2) hx hb dL_law_344 (by decide) ?_
        refine fg_iadd hx hb dL_law_345 ?_
        refine fg_sld hx hb hX hbl hbA hS hL (by omega) dL_law_346 ?_
        refine fg_mVi (a := h 0) (As := [.int (xs (i + 1)), .int (xs (i + 2))]) (rest := []) (ci := 0) (q := (RX0, TX0, 9)) (wr := fg_wM g dA (nI F) va we gi) ⟨hx, hb, hml, hown, hts⟩ (fg_X_independent (l := l) (D := D) (h := h) (dA := dA) (dL := dL) (fi := fi) (tb := tb) (sc := sc) (ta := ta) (x := (xs (i + 1))) (y := (xs (i + 2))) hI) (cwV 2 hts (lw_V q147 q148 q149 q17 q150) rfl rfl rfl fg_md_X0_independent ⟨Nat.le_of_ble_eq_true rfl, Nat.le_of_ble_eq_true rfl⟩) rfl rfl hK hP hD (hP.sub [0, 1, 2, 3, 4, 5, 6, 7] rfl) (hD.sub [0, 1, 2, 3, 4, 5, 6, 7] (by decide) rfl) hS hA [0, 1, 2, 3, 4, 5, 6, 7] [8, 9, 10, 11] rfl rfl (by decide) (by decide) rfl hl.1 rfl (Nat.le_of_ble_eq_true rfl) dL_law_347 ⟨Nat.le_refl _, Nat.le_refl _⟩ (fun r1 u H locs hr1 hP hD hS => ?_)
        obtain ⟨fi1, tb1, sc1, ta1⟩ := u
        have hP : va_P D vwCl (fg_wX h dA dL (nI F) ar va we gi fi1 tb1 sc1 ta1 ++ fg_wM g dA (nI F) va we gi) H := hP.sub [4, 5, 6, 7, 8, 9, 10, 11, 0, 1, 2, 3] rfl
        have hD : va_D (fun q : Nat => s.heap.size ≤ q) (fg_wX h dA dL (nI F) ar va we gi fi1 tb1 sc1 ta1 ++ fg_wM g dA (nI F) va we gi) := hD.sub [4, 5, 6, 7, 8, 9, 10, 11, 0, 1, 2, 3] (by decide) rfl
        refine lv_aload_n hx hb dL_law_350 rfl (lv_at hl 2 rfl) ?_
        refine lv_aload_n hx hb dL_law_351 rfl (lv_at hl 0 rfl) ?_
        refine lv_iload_n hx hb dL_law_352 rfl (lv_at hl 3 rfl) ?_
        refine lv_iconst (v := nI 1) hx hb dL_law_353 (by decide) ?_
        refine fg_iadd hx hb dL_law_354 ?_
        refine fg_sld hx hb hX hbl hbA hS hL (by omega) dL_law_355 ?_
        refine lv_aload_n hx hb dL_law_356 rfl (lv_at hl 0 rfl) ?_
        refine lv_iload_n hx hb dL_law_357 rfl (lv_at hl 3 rfl) ?_
        refine lv_iconst (v := nI 2) hx hb dL_law_358 (by decide) ?_
        refine fg_iadd hx hb dL_law_359 ?_
        refine fg_sld hx hb hX hbl hbA hS hL (by omega) dL_law_360 ?_
        refine fg_cVi (a := g 0) (As := [.int (xs (i + 1)), .int (xs (i + 2))]) (rest := [.int r1]) (ci := 1) (q := (RX1, TX1, 4)) ⟨hx, hb, hml, hown, hts⟩ (fg_M_independent (l := l) (D := D) (g := g) (dA := dA) (x := (xs (i + 1))) (y := (xs (i + 2))) hI) (cwV 2 hts (lw_V q231 q232 q233 q18 q234) rfl rfl rfl fg_md_X1_independent ⟨Nat.le_of_ble_eq_true rfl, Nat.le_of_ble_eq_true rfl⟩) rfl rfl hKM (hP.sub [8, 9, 10, 11] rfl) hP hS hA rfl hl.1 rfl (Nat.le_of_ble_eq_true rfl) dL_law_361 ⟨Nat.le_refl _, Nat.le_refl _⟩ (fun r2 H locs hr2 hP hS => ?_)
        have h12 : r1 = r2 := hr1.trans hr2.symm
        refine lv_icmp_eq (tgt := 369) hx hb dL_law_364 (by decide) (fun hc9 => ?_) (fun hc9 => ?_)
        · exact step F ar va we gi fi1 tb1 sc1 ta1 hI _ _ hP hD hS ls hl
        · exact absurd h12 hc9
      · refine lv_tableOut (tgt := 369) hx hb dL_law_32 (Or.inr (by rw [nI_toInt (by omega)]; omega)) (by decide) ?_
        exact step F ar va we gi fi tb sc ta hI _ _ hP hD hS ls hl
end
section
set_option maxHeartbeats 2000000 in
set_option maxRecDepth 100000 in
/-- the law, from its entry -/
theorem whole_start {p : Program} {e : Env} {s : State} {m : MethodId} {below : List Frame} {meth : Method} {c : Code} (l : Launch) {b L : Nat} {xs : Nat → Int32} (hL : L ≤ 256) (C0 : lw_At p s m meth c b L xs) : W p l e room_1 s m #[Value.ref b] below meth c s.heap [] 0 0 (lw_Z below #[Value.ref b] s) (entryFrame m ([Value.ref b] : List Value).toArray 4) := by
  obtain ⟨hx, hb, hr, hml, hown, hts0, hX, hbl, hlocks, hgv⟩ := id C0
  have hts : ∀ w ∈ lw_all, w.before #[Value.ref b] s = true := fun w h => hts0 w (lw_all_tbl h)
  have hA : ∀ q : Nat, s.heap.size ≤ q → (fun q : Nat => s.heap.size ≤ q) q := fun _ h => h
  obtain ⟨c0, iS0, hKn0⟩ := u_known (C := RX0) (T := TX0) (N := 9) (n := 9) hts in_X0 (hts _ q20)
  obtain ⟨c1, iS1, hKn1⟩ := u_known (C := RX1) (T := TX1) (N := 4) (n := 4) hts in_X1 (hts _ q152)
  obtain ⟨D, hKc⟩ : ∃ (D : va_G), ∀ (k : Nat) (q : vw_C), vwCl[k]? = some q → u_Kn s q.1 q.2.1 q.2.2 (D.1 k) (D.2 k) := by
    refine ⟨(fun k => if k = 0 then c0 else c1, fun k => if k = 0 then iS0 else iS1), ?_⟩
    intro k q hq
    match k, hq with
    | 0, hq => cases hq; exact hKn0
    | 1, hq => cases hq; exact hKn1
    | k + 2, hq => simp [vwCl] at hq
  have hS : va_S (fun q : Nat => s.heap.size ≤ q) s.heap s.heap [] := va_S.rf
  have hK : va_K D vwCl [] s := ⟨hKc, fun k q h => by simp at h⟩
  have hP : va_P D vwCl [] s.heap := fun k q h => by simp at h
  have hD : va_D (fun q : Nat => s.heap.size ≤ q) [] := ⟨fun i j p q h => by simp at h, fun k q h => by simp at h⟩
  have hl := lv_entry ([.ref b]) (n := 4) (Nat.le_of_ble_eq_true rfl)
  rw [lg_entry_eq]
  generalize (lg_sl ([.ref b]) ++ List.replicate (4 - (lg_sl ([.ref b])).length) Slot.unset).toArray = ls at hl ⊢
  have hl : lv_has ls 4 [(0, .ref b)] := hl
  refine va_new (ci := 0) (fs := [.int 0, .null, .null, .null, .null, .null, .int 0, .null, .null]) (C := RX0) (T := TX0) (N := 9) hx hb hts in_X0 tyX0 tyX0_ok hown (hts _ q19) (hts _ q20) (hts _ q17) hK hP hD hS hA rfl (fun j hj => by rcases (show j = 0 ∨ j = 1 ∨ j = 2 ∨ j = 3 ∨ j = 4 ∨ j = 5 ∨ j = 6 ∨ j = 7 ∨ j = 8 by omega) with rfl | rfl | rfl | rfl | rfl | rfl | rfl | rfl | rfl <;> rfl) (Nat.le_of_ble_eq_true rfl) (Nat.le_of_ble_eq_true rfl) dL_law_0 (fun h0 H hP hD hS => ?_)
  have hP : va_P D vwCl (fg_oX h0) H := hP
  have hD : va_D (fun q : Nat => s.heap.size ≤ q) (fg_oX h0) := hD
  refine W.widen (k := 1) (n := 9) (by omega) (by omega) ?_
  refine lv_dup hx hb dL_law_3 rfl ?_
  refine fg_cI (a := h0) (rest := [.ref h0]) (wr := []) ⟨hx, hb, hml, hown, hts⟩ (fg_X_init (l := l) (D := D) (h0 := h0)) (cwI 0 hts (lw_meth q23) rfl rfl rfl (hts _ q17) (hts _ q21) (hts _ q22) rfl fg_md_X0_init ⟨Nat.le_of_ble_eq_true rfl, Nat.le_of_ble_eq_true rfl⟩) hK hP hD (hP.sub [0] rfl) (hD.sub [0] (by decide) rfl) hS hA [0] [] rfl rfl (by decide) (by decide) hl.1 rfl (Nat.le_of_ble_eq_true rfl) dL_law_4 ⟨Nat.le_of_ble_eq_true rfl, Nat.le_of_ble_eq_true rfl⟩ (fun u H locs hu hP hD hK1 hS => ?_)
  obtain ⟨h, dA, dL⟩ := u
  have hP2 : va_P D vwCl (fg_wX h dA dL (nI 0) (fun _ => 0) (fun _ => 0) (fun _ => 0) (fg_g0 7) (fun _ => 0) (nI 0) (fun _ => 0) (fun _ => 0)) H := hP
  have hD2 : va_D (fun q : Nat => s.heap.size ≤ q) (fg_wX h dA dL (nI 0) (fun _ => 0) (fun _ => 0) (fun _ => 0) (fg_g0 7) (fun _ => 0) (nI 0) (fun _ => 0) (fun _ => 0)) := hD
  have hu : h 0 = h0 := hu
  subst hu
  have hP := hP2
  have hD := hD2
  have hK1 : va_K D vwCl (fg_tX dA dL) s := hK1
  refine W.widen (k := 8) (n := 2171) (by omega) (by omega) ?_
  refine lv_astore_n (lv' := [(1, .ref (h 0)), (0, .ref b)]) hx hb dL_law_7 rfl hl (by decide) rfl (fun ls hl => ?_)
  refine va_new (ci := 1) (fs := [.int 0, .null, .null, .null]) (C := RX1) (T := TX1) (N := 4) hx hb hts in_X1 tyX1 tyX1_ok hown (hts _ q151) (hts _ q152) (hts _ q18) hK hP hD hS hA rfl (fun j hj => by rcases (show j = 0 ∨ j = 1 ∨ j = 2 ∨ j = 3 by omega) with rfl | rfl | rfl | rfl <;> rfl) (Nat.le_of_ble_eq_true rfl) (Nat.le_of_ble_eq_true rfl) dL_law_8 (fun g0 H hP hD hS => ?_)
  have hP : va_P D vwCl (fg_wX h dA dL (nI 0) (fun _ => 0) (fun _ => 0) (fun _ => 0) (fg_g0 7) (fun _ => 0) (nI 0) (fun _ => 0) (fun _ => 0) ++ fg_oM g0) H := hP
  have hD : va_D (fun q : Nat => s.heap.size ≤ q) (fg_wX h dA dL (nI 0) (fun _ => 0) (fun _ => 0) (fun _ => 0) (fg_g0 7) (fun _ => 0) (nI 0) (fun _ => 0) (fun _ => 0) ++ fg_oM g0) := hD
  refine W.widen (k := 9) (n := 2175) (by omega) (by omega) ?_
  refine lv_dup hx hb dL_law_11 rfl ?_
  refine fg_cI (a := g0) (rest := [.ref g0]) (wr := fg_wX h dA dL (nI 0) (fun _ => 0) (fun _ => 0) (fun _ => 0) (fg_g0 7) (fun _ => 0) (nI 0) (fun _ => 0) (fun _ => 0)) ⟨hx, hb, hml, hown, hts⟩ (fg_M_init (l := l) (D := D) (h0 := g0)) (cwI 0 hts (lw_meth q155) rfl rfl rfl (hts _ q18) (hts _ q153) (hts _ q154) rfl fg_md_X1_init ⟨Nat.le_of_ble_eq_true rfl, Nat.le_of_ble_eq_true rfl⟩) hK hP hD (hP.sub [8] rfl) (hD.sub [8] (by decide) rfl) hS hA [8] [0, 1, 2, 3, 4, 5, 6, 7] rfl rfl (by decide) (by decide) hl.1 rfl (Nat.le_of_ble_eq_true rfl) dL_law_12 ⟨Nat.le_of_ble_eq_true rfl, Nat.le_of_ble_eq_true rfl⟩ (fun u H locs hu hP hD hK2 hS => ?_)
  obtain ⟨g, dB⟩ := u
  have hP3 : va_P D vwCl (fg_wX h dA dL (nI 0) (fun _ => 0) (fun _ => 0) (fun _ => 0) (fg_g0 7) (fun _ => 0) (nI 0) (fun _ => 0) (fun _ => 0) ++ fg_wM g dB (nI 0) (fun _ => 0) (fun _ => 0) (fg_g0 7)) H := hP
  have hD3 : va_D (fun q : Nat => s.heap.size ≤ q) (fg_wX h dA dL (nI 0) (fun _ => 0) (fun _ => 0) (fun _ => 0) (fg_g0 7) (fun _ => 0) (nI 0) (fun _ => 0) (fun _ => 0) ++ fg_wM g dB (nI 0) (fun _ => 0) (fun _ => 0) (fg_g0 7)) := hD
  have hu : g 0 = g0 := hu
  subst hu
  have hK2 : va_K D vwCl [(dB, .int)] s := hK2
  have hK3 : va_K D vwCl [(dA, .int), (dB, .int)] s := (hK1.sub (tys' := [(dA, .int)]) [0] rfl).app hK2
  have hdd : dB = dA := fg_sameA hK3 rfl
  subst hdd
  have hP : va_P D vwCl (fg_wX h dB dL (nI 0) (fun _ => 0) (fun _ => 0) (fun _ => 0) (fg_g0 7) (fun _ => 0) (nI 0) (fun _ => 0) (fun _ => 0) ++ fg_wM g dB (nI 0) (fun _ => 0) (fun _ => 0) (fg_g0 7)) H := hP3
  have hD : va_D (fun q : Nat => s.heap.size ≤ q) (fg_wX h dB dL (nI 0) (fun _ => 0) (fun _ => 0) (fun _ => 0) (fg_g0 7) (fun _ => 0) (nI 0) (fun _ => 0) (fun _ => 0) ++ fg_wM g dB (nI 0) (fun _ => 0) (fun _ => 0) (fg_g0 7)) := hD3
  refine W.widen (k := 600000) (n := 7290000) (by omega) (by omega) ?_
  refine lv_astore_n (lv' := [(2, .ref (g 0)), (1, .ref (h 0)), (0, .ref b)]) hx hb dL_law_15 rfl hl (by decide) rfl (fun ls hl => ?_)
  refine lv_iconst (v := nI 0) hx hb dL_law_16 (by decide) ?_
  refine lv_istore_n (lv' := [(3, .int (nI 0)), (2, .ref (g 0)), (1, .ref (h 0)), (0, .ref b)]) hx hb dL_law_17 rfl hl (by decide) rfl (fun ls hl => ?_)
  exact fg_law_loop hL C0 hK1 (L + 1) 0 (Nat.zero_le L) (by omega) 0 _ _ _ _ _ _ _ _ fg_inv_0 _ _ hP hD hS ls (lv_sub hl [3, 2, 1, 0] rfl)
end
section
set_option maxHeartbeats 4000000 in
theorem lw_walk (l : Launch) (b : Addr) (xs : List Int32) : MetFree l x (headSpec (Jvm.Cond.code x code maxLocals ret :: tables_1) room_1) (lw_P b xs) (fun _ _ _ _ _ => True) lw_Q := by
  refine MetFree.of_bodyS (code := code) (maxLocals := maxLocals) (ret := ret) (by decide) ?_ ?_
  · intro args s m h hn
    obtain ⟨meth, c, h1, h2, h3, h4, h5, h6, -, -⟩ := Cond.code_spec hn (atoms_spec (ws := Jvm.Cond.code x code maxLocals ret :: tables_1) h _ List.mem_cons_self)
    exact ⟨meth, c, h1, h2, h3, h4, h5, h6⟩
  · intro p e s m args below meth c s₁ B hml0 hP _
    obtain ⟨rfl, hx, hbd, hgv⟩ := hP
    obtain ⟨scr, harrAt, hlist, hof, hsmall⟩ := hx
    obtain ⟨hcb, hkn, -, -⟩ := State.arrayAt?_spec harrAt
    have hown : s.vm.findClass R_law = some m.cls := findClass_of_methodNamed B.named
    have hts0 : ∀ c ∈ (Jvm.Cond.code x code maxLocals ret :: tables_1), c.before #[Value.ref b] s = true := atoms_spec (ws := Jvm.Cond.code x code maxLocals ret :: tables_1) B.pre
    have hts : ∀ w ∈ lw_tbl, w.before #[Value.ref b] s = true := k2_hts_sels lw_privs (fun w hw => hts0 w (List.mem_cons_of_mem _ hw)) lw_privs_ok
    have hml : c.maxLocals = 4 := B.maxLocals_eq (hts0 _ List.mem_cons_self)
    have X₀ : Stand p l e room_1 s m #[Value.ref b] below meth c s₁ [] 0 0 := Stand.of_body B
    have hh0 : s₁.heap = s.heap := by rw [B.state]; rfl
    have hsz : scr.slots.size = xs.length := by rw [← Array.length_toList, hlist, List.length_map]
    have hval : ∀ j : Nat, j < xs.length → scr.slots[j]? = some (.int (xs.getD j 0)) := fun j hj => by
      rw [← Array.getElem?_toList, hlist]
      simp [hj]
    have hbl : b < s.heap.size := (Array.getElem?_eq_some_iff.mp hcb).1
    have hX : va_X b xs.length (fun j => xs.getD j 0) s s.heap := ⟨scr, hcb, hof, hkn, hsz, hval⟩
    have K : W p l e room_1 s m #[Value.ref b] below meth c s₁.heap [] 0 0 (lw_Z below #[Value.ref b] s) (entryFrame m ([Value.ref b] : List Value).toArray 4) := by
      rw [hh0]
      exact whole_start l hbd ⟨B.exec, B.bytes, B.returns, hml, hown, hts, hX, hbl, B.notSynchronized, hgv⟩
    obtain ⟨t, a1, o, b1, b2, b3⟩ := K s₁ rfl X₀
    exact ⟨t, o, a1, b1, b2, b3⟩
theorem lw_pre_spec {args : Array Value} {s : State} (h : (Jvm.Cond.and given_1 narrow_1).before args s = true) (hr : rest_1_c.before args s = true) : ∃ (b : Addr) (xs : List Int32), lw_P b xs args s := by
  have hs := flat_of_before _ h
  have hq := flat_of_before _ hr
  have hc : (Cond.count 1).before args s = true := hs _ (by decide +kernel)
  have harr : (Cond.arrayOf (.arg 0) .int).before args s = true := hs _ (by decide +kernel)
  have hle : (Cond.le (.length (.arg 0)) (.int 256)).before args s = true := hs _ (by decide +kernel)
  have hlen : (Cond.isInt (.length (.arg 0))).before args s = true := hq _ (by decide +kernel)
  have hall : (Cond.all (.arg 0) (.isInt (.elem (.arg 0) (.index 0)))).before args s = true := hq _ (by decide +kernel)
  obtain ⟨b, xs, hb, hx⟩ := State.ints_of_pre rfl harr hlen hall
  have hsm : xs.length < 2 ^ 31 := hx.choose_spec.2.2.2
  have hev : (Term.length (.arg 0)).eval args s none [] s = some (.int xs.length.toInt32) := hx.length_eval hb
  have hv := Cond.le_ints hev (show (Term.int 256).eval args s none [] s = some (.int 256) from rfl)
  have hd : xs.length.toInt32 ≤ 256 := by
    simpa [Cond.before, Cond.holds, hv] using hle
  have hN : xs.length ≤ 256 := (Int32.ofNat_le_ofNat hsm (by decide)).mp (show Int32.ofNat xs.length ≤ Int32.ofNat 256 from hd)
  exact ⟨b, xs, Cond.one_arg hc (show args[0]? = some (.ref b) from hb), hx, hN, h⟩
theorem lw_comes (l : Launch) : Comes l x (Jvm.Cond.code x code maxLocals ret :: tables_1) room_1 (fun tb e args s => Calls_1 tb e args s ∧ rest_1 tb e args s ∧ Pre_1 tb e args s)
    (fun _ _ args s o t => lw_Q args s o t) := by
  intro p e ha hc hk s m args below hf hfit hheap happ hpre
  obtain ⟨b, xs, hP⟩ := lw_pre_spec hpre.2.2 hpre.2.1
  obtain ⟨k, o, h1, h2, h3, hQ⟩ := lw_walk l b xs p e ha hc hk s m args below hf ((Spec.applies_iff_loose hf).mp happ).1 hP trivial
  exact ⟨k, o, h1, h2, h3, hQ⟩
theorem lw_frame {s t : State} {o : Outcome} {args : Array Value} (h : Framed s o t [] 600000 7290000) :
    Framed s o t (fieldLocs frame_1_writes args s ++ arrayLocs frame_1_arrays args s ++ staticLocs frame_1_statics s) 600000 7290000 := h
theorem lw_limb (L : Cond) (hL : ∀ (args : Array Value) (s t : State), L.after args s (.returned (some (.int 1))) t = true) :
    ArmFor flags0 classFile x code maxLocals ret World_1 tables_1 room_1 Calls_1 rest_1 Pre_1
      (fun tb e a s o t => postC L tb e a s o t ∧ Framed s o t (fieldLocs frame_1_writes a s ++ arrayLocs frame_1_arrays a s ++ staticLocs frame_1_statics s) 600000 7290000) := by
  intro l _ _ _ p e ha hc hk s m args below hf hfit hheap happ hpre
  obtain ⟨k, o, h1, h2, h3, rfl, hF⟩ := lw_comes l p e ha hc hk s m args below hf hfit hheap happ hpre
  exact ⟨k, _, h1, h2, h3, hL args s _, lw_frame hF⟩
theorem i_vc : Claimed_1_1 ∧ Claimed_1_2 := ⟨lw_limb limb_1_1 (fun args s t => by simp [limb_1_1, Cond.after, Cond.holds, Cond.value]), lw_limb limb_1_2 (fun args s t => Cond.after_iff.mpr (by
  first | (rw [show limb_1_2 = Cond.eq .result (.int 1) from rfl, Cond.eq_ints (x := 1) (y := 1) rfl rfl]; simp; done) | (simp [limb_1_2, Cond.value, Term.eval]; done)))⟩
end
