section
-- ===== PART A: goes FIRST, ahead of the names: the tables' words, and 'selects' of the private methods out of them =====
/-- a private method of a class that the tables say can be made, by its rows of tables_1 -/
def lw_okq (q : MethodName × Nat) : Prop := (q.1.cls ≠ "java/lang/invoke/MethodHandle" ∧ q.1.cls ≠ "java/lang/invoke/VarHandle") ∧ Cond.instantiable q.1.cls q.2 ∈ tables_1 ∧ Cond.privateMethod q.1 ∈ tables_1 ∧ Cond.instanceMethod q.1 ∈ tables_1
set_option maxRecDepth 100000
theorem lw_p0 : lw_okq (⟨"PointerSets", "has", "(I)Z"⟩, 8) := ⟨⟨by decide +kernel, by decide +kernel⟩, List.mem_of_getElem? (i := 4) rfl, List.mem_of_getElem? (i := 49) rfl, List.mem_of_getElem? (i := 50) rfl⟩
theorem lw_p1 : lw_okq (⟨"PointerSets", "write", "(IIII)V"⟩, 8) := ⟨⟨by decide +kernel, by decide +kernel⟩, List.mem_of_getElem? (i := 4) rfl, List.mem_of_getElem? (i := 53) rfl, List.mem_of_getElem? (i := 54) rfl⟩
theorem lw_p2 : lw_okq (⟨"PointerSets", "solve", "()V"⟩, 8) := ⟨⟨by decide +kernel, by decide +kernel⟩, List.mem_of_getElem? (i := 4) rfl, List.mem_of_getElem? (i := 69) rfl, List.mem_of_getElem? (i := 70) rfl⟩
theorem lw_p3 : lw_okq (⟨"PointerSets", "point", "(II)V"⟩, 8) := ⟨⟨by decide +kernel, by decide +kernel⟩, List.mem_of_getElem? (i := 4) rfl, List.mem_of_getElem? (i := 73) rfl, List.mem_of_getElem? (i := 74) rfl⟩
theorem lw_p4 : lw_okq (⟨"PointerSets", "link", "(II)V"⟩, 8) := ⟨⟨by decide +kernel, by decide +kernel⟩, List.mem_of_getElem? (i := 4) rfl, List.mem_of_getElem? (i := 77) rfl, List.mem_of_getElem? (i := 78) rfl⟩
theorem lw_p5 : lw_okq (⟨"PointerSets", "waiting", "()I"⟩, 8) := ⟨⟨by decide +kernel, by decide +kernel⟩, List.mem_of_getElem? (i := 4) rfl, List.mem_of_getElem? (i := 84) rfl, List.mem_of_getElem? (i := 85) rfl⟩
theorem lw_p6 : lw_okq (⟨"PointerSets", "passOn", "(I)V"⟩, 8) := ⟨⟨by decide +kernel, by decide +kernel⟩, List.mem_of_getElem? (i := 4) rfl, List.mem_of_getElem? (i := 88) rfl, List.mem_of_getElem? (i := 89) rfl⟩
theorem lw_p7 : lw_okq (⟨"PointerSets", "follow", "(III)V"⟩, 8) := ⟨⟨by decide +kernel, by decide +kernel⟩, List.mem_of_getElem? (i := 4) rfl, List.mem_of_getElem? (i := 92) rfl, List.mem_of_getElem? (i := 93) rfl⟩
theorem lw_p8 : lw_okq (⟨"PointerSetsModel", "good", "(III)Z"⟩, 6) := ⟨⟨by decide +kernel, by decide +kernel⟩, List.mem_of_getElem? (i := 134) rfl, List.mem_of_getElem? (i := 165) rfl, List.mem_of_getElem? (i := 166) rfl⟩
theorem lw_p9 : lw_okq (⟨"PointerSetsModel", "variable", "(I)Z"⟩, 6) := ⟨⟨by decide +kernel, by decide +kernel⟩, List.mem_of_getElem? (i := 134) rfl, List.mem_of_getElem? (i := 169) rfl, List.mem_of_getElem? (i := 170) rfl⟩
theorem lw_p10 : lw_okq (⟨"PointerSetsModel", "hold", "(IIII)V"⟩, 6) := ⟨⟨by decide +kernel, by decide +kernel⟩, List.mem_of_getElem? (i := 134) rfl, List.mem_of_getElem? (i := 173) rfl, List.mem_of_getElem? (i := 174) rfl⟩
theorem lw_p11 : lw_okq (⟨"PointerSetsModel", "work", "()V"⟩, 6) := ⟨⟨by decide +kernel, by decide +kernel⟩, List.mem_of_getElem? (i := 134) rfl, List.mem_of_getElem? (i := 189) rfl, List.mem_of_getElem? (i := 190) rfl⟩
theorem lw_p12 : lw_okq (⟨"PointerSetsModel", "carryOut", "(I)Z"⟩, 6) := ⟨⟨by decide +kernel, by decide +kernel⟩, List.mem_of_getElem? (i := 134) rfl, List.mem_of_getElem? (i := 193) rfl, List.mem_of_getElem? (i := 194) rfl⟩
theorem lw_p13 : lw_okq (⟨"PointerSetsModel", "reached", "(I)I"⟩, 6) := ⟨⟨by decide +kernel, by decide +kernel⟩, List.mem_of_getElem? (i := 134) rfl, List.mem_of_getElem? (i := 209) rfl, List.mem_of_getElem? (i := 210) rfl⟩
def lw_privs_1 : List (MethodName × Nat) := [(⟨"PointerSets", "has", "(I)Z"⟩, 8), (⟨"PointerSets", "write", "(IIII)V"⟩, 8), (⟨"PointerSets", "solve", "()V"⟩, 8), (⟨"PointerSets", "point", "(II)V"⟩, 8), (⟨"PointerSets", "link", "(II)V"⟩, 8), (⟨"PointerSets", "waiting", "()I"⟩, 8), (⟨"PointerSets", "passOn", "(I)V"⟩, 8), (⟨"PointerSets", "follow", "(III)V"⟩, 8), (⟨"PointerSetsModel", "good", "(III)Z"⟩, 6), (⟨"PointerSetsModel", "variable", "(I)Z"⟩, 6), (⟨"PointerSetsModel", "hold", "(IIII)V"⟩, 6), (⟨"PointerSetsModel", "work", "()V"⟩, 6), (⟨"PointerSetsModel", "carryOut", "(I)Z"⟩, 6), (⟨"PointerSetsModel", "reached", "(I)I"⟩, 6)]
theorem lw_r1 : ∀ q ∈ lw_privs_1, lw_okq q := List.forall_mem_cons.mpr ⟨lw_p0, List.forall_mem_cons.mpr ⟨lw_p1, List.forall_mem_cons.mpr ⟨lw_p2, List.forall_mem_cons.mpr ⟨lw_p3, List.forall_mem_cons.mpr ⟨lw_p4, List.forall_mem_cons.mpr ⟨lw_p5, List.forall_mem_cons.mpr ⟨lw_p6, List.forall_mem_cons.mpr ⟨lw_p7, List.forall_mem_cons.mpr ⟨lw_p8, List.forall_mem_cons.mpr ⟨lw_p9, List.forall_mem_cons.mpr ⟨lw_p10, List.forall_mem_cons.mpr ⟨lw_p11, List.forall_mem_cons.mpr ⟨lw_p12, List.forall_mem_cons.mpr ⟨lw_p13, fun _ h => absurd h List.not_mem_nil⟩⟩⟩⟩⟩⟩⟩⟩⟩⟩⟩⟩⟩⟩
def lw_privs : List (MethodName × Nat) := lw_privs_1
def lw_tbl : List Cond := k2_sels lw_privs ++ tables_1
theorem lw_privs_ok : ∀ q ∈ lw_privs, lw_okq q := lw_r1
-- ===== ONE list of words for every method: the tables' words that hold all through a run =====
def lw_all : List Cond := lw_tbl.filter goodWord
/-- a word of the tables by its place: claim/WORDS.tsv -/
theorem lw_w {w : Cond} (i : Nat) (h : lw_tbl[i]? = some w) (g : goodWord w = true) : w ∈ lw_all := List.mem_filter.mpr ⟨List.mem_of_getElem? h, g⟩
theorem lw_all_tbl {w : Cond} (h : w ∈ lw_all) : w ∈ lw_tbl := (List.mem_filter.mp h).1
theorem lw_self : GoodIn lw_all lw_all := fun w h => ⟨h, good_of_word (List.mem_filter.mp h).2⟩
/-- a class's field words, by their places -/
theorem lw_in (ws : List Cond) (ps : List Nat) (hp : ws = ps.filterMap (fun i => lw_tbl[i]?)) (hg : ws.all goodWord = true) : ∀ w ∈ ws, w ∈ lw_all := by
  intro w h
  have h1 := List.all_eq_true.mp hg w h
  rw [hp] at h
  obtain ⟨i, -, hi⟩ := List.mem_filterMap.mp h
  exact lw_w i hi h1
/-- the words of a contract for the method y with code b, L locals, answer r -/
abbrev ws_ (y : MethodName) (b : ByteArray) (L : Nat) (r : Option FieldType) : List Cond := Cond.code y b L r :: lw_all
theorem lw_meth {y : MethodName} {b : ByteArray} {L : Nat} {r : Option FieldType} (h : Cond.code y b L r ∈ lw_all) : GoodIn lw_all (ws_ y b L r) := by
  intro w hw
  rcases List.mem_cons.mp hw with e | e
  · rw [e]
    exact lw_self _ h
  · exact lw_self _ e
theorem lw_app {a c : List Cond} (ha : ∀ w ∈ a, w ∈ lw_all) (hc : GoodIn lw_all c) : GoodIn lw_all (a ++ c) := by
  intro w hw
  rcases List.mem_append.mp hw with e | e
  · exact lw_self w (ha w e)
  · exact hc w e
/-- what a call through an object asks: cwV n hts (lw_V ..) -/
theorem lw_V {own : String} {idx : Nat} {C : String} {y : MethodName} {b : ByteArray} {L : Nat} {r : Option FieldType} (h1 : Cond.methodLink own idx y ∈ lw_all) (h2 : Cond.instanceMethod y ∈ lw_all) (h3 : Cond.selects C y y ∈ lw_all) (h4 : Cond.initialized C ∈ lw_all) (h5 : Cond.code y b L r ∈ lw_all) : GoodIn lw_all (wsV own idx C y (ws_ y b L r)) := by
  refine lw_app ?_ (lw_meth h5)
  intro w hw
  simp only [List.mem_cons, List.not_mem_nil, or_false] at hw
  rcases hw with e | e | e | e
  · rw [e]; exact h1
  · rw [e]; exact h2
  · rw [e]; exact h3
  · rw [e]; exact h4
/-- what a static call asks: va_cwS n hts (lw_S ..) -/
theorem lw_S {own : String} {idx : Nat} {y : MethodName} {b : ByteArray} {L : Nat} {r : Option FieldType} (h1 : Cond.methodLink own idx y ∈ lw_all) (h2 : Cond.static y ∈ lw_all) (h3 : Cond.initialized y.cls ∈ lw_all) (h4 : Cond.code y b L r ∈ lw_all) : GoodIn lw_all (va_wsS own idx y (ws_ y b L r)) := by
  refine lw_app ?_ (lw_meth h4)
  intro w hw
  simp only [List.mem_cons, List.not_mem_nil, or_false] at hw
  rcases hw with e | e | e
  · rw [e]; exact h1
  · rw [e]; exact h2
  · rw [e]; exact h3
/-- the words of a contract for a method WITH HANDLERS (hh: its table) -/
abbrev wsW_ (y : MethodName) (b : ByteArray) (L : Nat) (r : Option FieldType) (hh : List (Nat × Nat × Nat × Nat)) : List Cond := Cond.codeWith y b L r hh :: lw_all
theorem lw_methW {y : MethodName} {b : ByteArray} {L : Nat} {r : Option FieldType} {hh : List (Nat × Nat × Nat × Nat)} (h : Cond.codeWith y b L r hh ∈ lw_all) : GoodIn lw_all (wsW_ y b L r hh) := by
  intro w hw
  rcases List.mem_cons.mp hw with e | e
  · rw [e]
    exact lw_self _ h
  · exact lw_self _ e
/-- any list of words by their places (lw_in), good -/
theorem lw_good {ws : List Cond} (h : ∀ w ∈ ws, w ∈ lw_all) : GoodIn lw_all ws := fun w hw => lw_self w (h w hw)
/-- what a call of a method with handlers asks: vx_cwVW n hts (lw_VW ..), vx_cwSW n hts (lw_SW ..) -/
theorem lw_VW {own : String} {idx : Nat} {C : String} {y : MethodName} {b : ByteArray} {L : Nat} {r : Option FieldType} {hh : List (Nat × Nat × Nat × Nat)} (h1 : Cond.methodLink own idx y ∈ lw_all) (h2 : Cond.instanceMethod y ∈ lw_all) (h3 : Cond.selects C y y ∈ lw_all) (h4 : Cond.initialized C ∈ lw_all) (h5 : Cond.codeWith y b L r hh ∈ lw_all) : GoodIn lw_all (wsV own idx C y (wsW_ y b L r hh)) := by
  refine lw_app ?_ (lw_methW h5)
  intro w hw
  simp only [List.mem_cons, List.not_mem_nil, or_false] at hw
  rcases hw with e | e | e | e
  · rw [e]; exact h1
  · rw [e]; exact h2
  · rw [e]; exact h3
  · rw [e]; exact h4
theorem lw_SW {own : String} {idx : Nat} {y : MethodName} {b : ByteArray} {L : Nat} {r : Option FieldType} {hh : List (Nat × Nat × Nat × Nat)} (h1 : Cond.methodLink own idx y ∈ lw_all) (h2 : Cond.static y ∈ lw_all) (h3 : Cond.initialized y.cls ∈ lw_all) (h4 : Cond.codeWith y b L r hh ∈ lw_all) : GoodIn lw_all (va_wsS own idx y (wsW_ y b L r hh)) := by
  refine lw_app ?_ (lw_methW h4)
  intro w hw
  simp only [List.mem_cons, List.not_mem_nil, or_false] at hw
  rcases hw with e | e | e
  · rw [e]; exact h1
  · rw [e]; exact h2
  · rw [e]; exact h3
/-- a word by its place in its run of the tables -/
theorem lw_at {r : List Cond} (hr : ∀ w ∈ r, w ∈ lw_tbl) {w : Cond} (i : Nat) (h : r[i]? = some w) : w ∈ lw_tbl := hr w (List.mem_of_getElem? h)
theorem lw_g {w : Cond} (h : w ∈ lw_tbl) (g : goodWord w = true) : w ∈ lw_all := List.mem_filter.mpr ⟨h, g⟩
theorem lw_ms : ∀ w ∈ k2_sels lw_privs, w ∈ lw_tbl := fun w h => show w ∈ k2_sels lw_privs ++ tables_1 from List.mem_append_left _ h
theorem lw_m0 : ∀ w ∈ tables_1, w ∈ lw_tbl := fun w h => show w ∈ k2_sels lw_privs ++ tables_1 from List.mem_append_right (k2_sels lw_privs) h
theorem qs0 : (Cond.selects "PointerSets" ⟨"PointerSets", "has", "(I)Z"⟩ ⟨"PointerSets", "has", "(I)Z"⟩) ∈ lw_all := lw_g (lw_at lw_ms 0 rfl) rfl
theorem qs1 : (Cond.selects "PointerSets" ⟨"PointerSets", "write", "(IIII)V"⟩ ⟨"PointerSets", "write", "(IIII)V"⟩) ∈ lw_all := lw_g (lw_at lw_ms 1 rfl) rfl
theorem qs2 : (Cond.selects "PointerSets" ⟨"PointerSets", "solve", "()V"⟩ ⟨"PointerSets", "solve", "()V"⟩) ∈ lw_all := lw_g (lw_at lw_ms 2 rfl) rfl
theorem qs3 : (Cond.selects "PointerSets" ⟨"PointerSets", "point", "(II)V"⟩ ⟨"PointerSets", "point", "(II)V"⟩) ∈ lw_all := lw_g (lw_at lw_ms 3 rfl) rfl
theorem qs4 : (Cond.selects "PointerSets" ⟨"PointerSets", "link", "(II)V"⟩ ⟨"PointerSets", "link", "(II)V"⟩) ∈ lw_all := lw_g (lw_at lw_ms 4 rfl) rfl
theorem qs5 : (Cond.selects "PointerSets" ⟨"PointerSets", "waiting", "()I"⟩ ⟨"PointerSets", "waiting", "()I"⟩) ∈ lw_all := lw_g (lw_at lw_ms 5 rfl) rfl
theorem qs6 : (Cond.selects "PointerSets" ⟨"PointerSets", "passOn", "(I)V"⟩ ⟨"PointerSets", "passOn", "(I)V"⟩) ∈ lw_all := lw_g (lw_at lw_ms 6 rfl) rfl
theorem qs7 : (Cond.selects "PointerSets" ⟨"PointerSets", "follow", "(III)V"⟩ ⟨"PointerSets", "follow", "(III)V"⟩) ∈ lw_all := lw_g (lw_at lw_ms 7 rfl) rfl
theorem qs8 : (Cond.selects "PointerSetsModel" ⟨"PointerSetsModel", "good", "(III)Z"⟩ ⟨"PointerSetsModel", "good", "(III)Z"⟩) ∈ lw_all := lw_g (lw_at lw_ms 8 rfl) rfl
theorem qs9 : (Cond.selects "PointerSetsModel" ⟨"PointerSetsModel", "variable", "(I)Z"⟩ ⟨"PointerSetsModel", "variable", "(I)Z"⟩) ∈ lw_all := lw_g (lw_at lw_ms 9 rfl) rfl
theorem qs10 : (Cond.selects "PointerSetsModel" ⟨"PointerSetsModel", "hold", "(IIII)V"⟩ ⟨"PointerSetsModel", "hold", "(IIII)V"⟩) ∈ lw_all := lw_g (lw_at lw_ms 10 rfl) rfl
theorem qs11 : (Cond.selects "PointerSetsModel" ⟨"PointerSetsModel", "work", "()V"⟩ ⟨"PointerSetsModel", "work", "()V"⟩) ∈ lw_all := lw_g (lw_at lw_ms 11 rfl) rfl
theorem qs12 : (Cond.selects "PointerSetsModel" ⟨"PointerSetsModel", "carryOut", "(I)Z"⟩ ⟨"PointerSetsModel", "carryOut", "(I)Z"⟩) ∈ lw_all := lw_g (lw_at lw_ms 12 rfl) rfl
theorem qs13 : (Cond.selects "PointerSetsModel" ⟨"PointerSetsModel", "reached", "(I)I"⟩ ⟨"PointerSetsModel", "reached", "(I)I"⟩) ∈ lw_all := lw_g (lw_at lw_ms 13 rfl) rfl
end
section
set_option maxRecDepth 100000
/-! PointerSets -/
def RX0 : String := "PointerSets"
def TX0 : u_T := fun k => match k with
  | 0 => ("PointerSets", "present", "I", false)
  | 1 => ("PointerSets", "kinds", "[B", true)
  | 2 => ("PointerSets", "xs", "[B", true)
  | 3 => ("PointerSets", "ys", "[B", true)
  | 4 => ("PointerSets", "known", "Z", false)
  | 5 => ("PointerSets", "points", "[S", true)
  | 6 => ("PointerSets", "fresh", "[S", true)
  | _ => ("PointerSets", "links", "[S", true)
def tyX0 : Nat → FieldType := fun k => match k with
  | 0 => .int
  | 1 => .array .byte
  | 2 => .array .byte
  | 3 => .array .byte
  | 4 => .boolean
  | 5 => .array .short
  | 6 => .array .short
  | _ => .array .short
abbrev wsX00 : List Cond := u_ws RX0 TX0 8
theorem nmX0 : ∀ a, a < 8 → ∀ b, b < 8 → a ≠ b → (TX0 a).2.1 ≠ (TX0 b).2.1 := by decide +kernel
theorem tyX0_ok : ∀ k, k < 8 → parseFieldDescriptor (TX0 k).2.2.1 = some (tyX0 k) := by decide +kernel
abbrev cX0_init : ByteArray := prog_1_method_1_code
def yX0_init : MethodName := ⟨RX0, "<init>", "()V"⟩
abbrev cX0_add : ByteArray := prog_1_method_7_code
def yX0_add : MethodName := ⟨RX0, "add", "(III)I"⟩
abbrev cX0_statementOk : ByteArray := prog_1_method_6_code
def yX0_statementOk : MethodName := ⟨RX0, "statementOk", "(III)Z"⟩
abbrev cX0_isVariable : ByteArray := prog_1_method_2_code
def yX0_isVariable : MethodName := ⟨RX0, "isVariable", "(I)Z"⟩
abbrev cX0_has : ByteArray := prog_1_method_3_code
def yX0_has : MethodName := ⟨RX0, "has", "(I)Z"⟩
abbrev cX0_write : ByteArray := prog_1_method_5_code
def yX0_write : MethodName := ⟨RX0, "write", "(IIII)V"⟩
abbrev cX0_remove : ByteArray := prog_1_method_8_code
def yX0_remove : MethodName := ⟨RX0, "remove", "(I)Z"⟩
abbrev cX0_statements : ByteArray := prog_1_method_9_code
def yX0_statements : MethodName := ⟨RX0, "statements", "()I"⟩
abbrev cX0_pointsTo : ByteArray := prog_1_method_16_code
def yX0_pointsTo : MethodName := ⟨RX0, "pointsTo", "(I)I"⟩
abbrev cX0_solve : ByteArray := prog_1_method_12_code
def yX0_solve : MethodName := ⟨RX0, "solve", "()V"⟩
abbrev cX0_point : ByteArray := prog_1_method_10_code
def yX0_point : MethodName := ⟨RX0, "point", "(II)V"⟩
abbrev cX0_link : ByteArray := prog_1_method_11_code
def yX0_link : MethodName := ⟨RX0, "link", "(II)V"⟩
abbrev cX0_in : ByteArray := prog_1_method_4_code
def yX0_in : MethodName := ⟨RX0, "in", "(II)Z"⟩
abbrev cX0_waiting : ByteArray := prog_1_method_13_code
def yX0_waiting : MethodName := ⟨RX0, "waiting", "()I"⟩
abbrev cX0_passOn : ByteArray := prog_1_method_14_code
def yX0_passOn : MethodName := ⟨RX0, "passOn", "(I)V"⟩
abbrev cX0_follow : ByteArray := prog_1_method_15_code
def yX0_follow : MethodName := ⟨RX0, "follow", "(III)V"⟩
abbrev cX0_pointedBy : ByteArray := prog_1_method_17_code
def yX0_pointedBy : MethodName := ⟨RX0, "pointedBy", "(I)I"⟩
abbrev cX0_alias : ByteArray := prog_1_method_18_code
def yX0_alias : MethodName := ⟨RX0, "alias", "(II)Z"⟩
abbrev cX0_reach : ByteArray := prog_1_method_19_code
def yX0_reach : MethodName := ⟨RX0, "reach", "(I)I"⟩
abbrev cX0_flows : ByteArray := prog_1_method_20_code
def yX0_flows : MethodName := ⟨RX0, "flows", "(II)Z"⟩
abbrev cX0_total : ByteArray := prog_1_method_21_code
def yX0_total : MethodName := ⟨RX0, "total", "()I"⟩
abbrev cX0_redundant : ByteArray := prog_1_method_22_code
def yX0_redundant : MethodName := ⟨RX0, "redundant", "(I)Z"⟩
abbrev cX0_gain : ByteArray := prog_1_method_23_code
def yX0_gain : MethodName := ⟨RX0, "gain", "(III)I"⟩
abbrev cX0_cyclic : ByteArray := prog_1_method_24_code
def yX0_cyclic : MethodName := ⟨RX0, "cyclic", "()I"⟩
abbrev cX0_twins : ByteArray := prog_1_method_25_code
def yX0_twins : MethodName := ⟨RX0, "twins", "(I)I"⟩
theorem q15 : (Jvm.Cond.initialized "PointerSets") ∈ lw_all := lw_g (lw_at lw_m0 1 rfl) rfl
theorem q18 : (Jvm.Cond.instantiable "PointerSets" (8 : Nat)) ∈ lw_all := lw_g (lw_at lw_m0 4 rfl) rfl
theorem q20 : (Jvm.Cond.instanceMethod ({ cls := "PointerSets", name := "<init>", desc := "()V" } : Jvm.MethodName)) ∈ lw_all := lw_g (lw_at lw_m0 6 rfl) rfl
theorem q21 : (Jvm.Cond.code ({ cls := "PointerSets", name := "<init>", desc := "()V" } : Jvm.MethodName) prog_1_method_1_code (1 : Nat) (Option.none : Option Jvm.ClassFile.FieldType)) ∈ lw_all := lw_g (lw_at lw_m0 7 rfl) rfl
theorem q22 : (Jvm.Cond.methodLink "PointerSets" (1 : Nat) ({ cls := "java/lang/Object", name := "<init>", desc := "()V" } : Jvm.MethodName)) ∈ lw_all := lw_g (lw_at lw_m0 8 rfl) rfl
theorem q25 : (Jvm.Cond.fieldLink "PointerSets" (29 : Nat) "PointerSets" "present" "I") ∈ lw_all := lw_g (lw_at lw_m0 11 rfl) rfl
theorem q26 : (Jvm.Cond.fieldLink "PointerSets" (7 : Nat) "PointerSets" "kinds" "[B") ∈ lw_all := lw_g (lw_at lw_m0 12 rfl) rfl
theorem q27 : (Jvm.Cond.fieldLink "PointerSets" (13 : Nat) "PointerSets" "xs" "[B") ∈ lw_all := lw_g (lw_at lw_m0 13 rfl) rfl
theorem q28 : (Jvm.Cond.fieldLink "PointerSets" (16 : Nat) "PointerSets" "ys" "[B") ∈ lw_all := lw_g (lw_at lw_m0 14 rfl) rfl
theorem q29 : (Jvm.Cond.fieldLink "PointerSets" (33 : Nat) "PointerSets" "known" "Z") ∈ lw_all := lw_g (lw_at lw_m0 15 rfl) rfl
theorem q30 : (Jvm.Cond.fieldLink "PointerSets" (19 : Nat) "PointerSets" "points" "[S") ∈ lw_all := lw_g (lw_at lw_m0 16 rfl) rfl
theorem q31 : (Jvm.Cond.fieldLink "PointerSets" (23 : Nat) "PointerSets" "fresh" "[S") ∈ lw_all := lw_g (lw_at lw_m0 17 rfl) rfl
theorem q32 : (Jvm.Cond.fieldLink "PointerSets" (26 : Nat) "PointerSets" "links" "[S") ∈ lw_all := lw_g (lw_at lw_m0 18 rfl) rfl
theorem q33 : (Jvm.Cond.lays "PointerSets" "PointerSets" "present" "I") ∈ lw_all := lw_g (lw_at lw_m0 19 rfl) rfl
theorem q34 : (Jvm.Cond.soleField "PointerSets" "present") ∈ lw_all := lw_g (lw_at lw_m0 20 rfl) rfl
theorem q35 : (Jvm.Cond.laysFinal "PointerSets" "PointerSets" "kinds" "[B") ∈ lw_all := lw_g (lw_at lw_m0 21 rfl) rfl
theorem q36 : (Jvm.Cond.soleField "PointerSets" "kinds") ∈ lw_all := lw_g (lw_at lw_m0 22 rfl) rfl
theorem q37 : (Jvm.Cond.laysFinal "PointerSets" "PointerSets" "xs" "[B") ∈ lw_all := lw_g (lw_at lw_m0 23 rfl) rfl
theorem q38 : (Jvm.Cond.soleField "PointerSets" "xs") ∈ lw_all := lw_g (lw_at lw_m0 24 rfl) rfl
theorem q39 : (Jvm.Cond.laysFinal "PointerSets" "PointerSets" "ys" "[B") ∈ lw_all := lw_g (lw_at lw_m0 25 rfl) rfl
theorem q40 : (Jvm.Cond.soleField "PointerSets" "ys") ∈ lw_all := lw_g (lw_at lw_m0 26 rfl) rfl
theorem q41 : (Jvm.Cond.lays "PointerSets" "PointerSets" "known" "Z") ∈ lw_all := lw_g (lw_at lw_m0 27 rfl) rfl
theorem q42 : (Jvm.Cond.soleField "PointerSets" "known") ∈ lw_all := lw_g (lw_at lw_m0 28 rfl) rfl
theorem q43 : (Jvm.Cond.laysFinal "PointerSets" "PointerSets" "points" "[S") ∈ lw_all := lw_g (lw_at lw_m0 29 rfl) rfl
theorem q44 : (Jvm.Cond.soleField "PointerSets" "points") ∈ lw_all := lw_g (lw_at lw_m0 30 rfl) rfl
theorem q45 : (Jvm.Cond.laysFinal "PointerSets" "PointerSets" "fresh" "[S") ∈ lw_all := lw_g (lw_at lw_m0 31 rfl) rfl
theorem q46 : (Jvm.Cond.soleField "PointerSets" "fresh") ∈ lw_all := lw_g (lw_at lw_m0 32 rfl) rfl
theorem q47 : (Jvm.Cond.laysFinal "PointerSets" "PointerSets" "links" "[S") ∈ lw_all := lw_g (lw_at lw_m0 33 rfl) rfl
theorem q48 : (Jvm.Cond.soleField "PointerSets" "links") ∈ lw_all := lw_g (lw_at lw_m0 34 rfl) rfl
theorem q49 : (Jvm.Cond.superclass "PointerSets" "java/lang/Object") ∈ lw_all := lw_g (lw_at lw_m0 35 rfl) rfl
theorem q53 : (Jvm.Cond.instanceMethod ({ cls := "PointerSets", name := "add", desc := "(III)I" } : Jvm.MethodName)) ∈ lw_all := lw_g (lw_at lw_m0 39 rfl) rfl
theorem q54 : (Jvm.Cond.selects "PointerSets" ({ cls := "PointerSets", name := "add", desc := "(III)I" } : Jvm.MethodName) ({ cls := "PointerSets", name := "add", desc := "(III)I" } : Jvm.MethodName)) ∈ lw_all := lw_g (lw_at lw_m0 40 rfl) rfl
theorem q55 : (Jvm.Cond.code ({ cls := "PointerSets", name := "add", desc := "(III)I" } : Jvm.MethodName) prog_1_method_7_code (5 : Nat) (Option.some Jvm.ClassFile.FieldType.int)) ∈ lw_all := lw_g (lw_at lw_m0 41 rfl) rfl
theorem q56 : (Jvm.Cond.methodLink "PointerSets" (41 : Nat) ({ cls := "PointerSets", name := "statementOk", desc := "(III)Z" } : Jvm.MethodName)) ∈ lw_all := lw_g (lw_at lw_m0 42 rfl) rfl
theorem q57 : (Jvm.Cond.static ({ cls := "PointerSets", name := "statementOk", desc := "(III)Z" } : Jvm.MethodName)) ∈ lw_all := lw_g (lw_at lw_m0 43 rfl) rfl
theorem q58 : (Jvm.Cond.code ({ cls := "PointerSets", name := "statementOk", desc := "(III)Z" } : Jvm.MethodName) prog_1_method_6_code (3 : Nat) (Option.some Jvm.ClassFile.FieldType.boolean)) ∈ lw_all := lw_g (lw_at lw_m0 44 rfl) rfl
theorem q59 : (Jvm.Cond.methodLink "PointerSets" (37 : Nat) ({ cls := "PointerSets", name := "isVariable", desc := "(I)Z" } : Jvm.MethodName)) ∈ lw_all := lw_g (lw_at lw_m0 45 rfl) rfl
theorem q60 : (Jvm.Cond.static ({ cls := "PointerSets", name := "isVariable", desc := "(I)Z" } : Jvm.MethodName)) ∈ lw_all := lw_g (lw_at lw_m0 46 rfl) rfl
theorem q61 : (Jvm.Cond.code ({ cls := "PointerSets", name := "isVariable", desc := "(I)Z" } : Jvm.MethodName) prog_1_method_2_code (1 : Nat) (Option.some Jvm.ClassFile.FieldType.boolean)) ∈ lw_all := lw_g (lw_at lw_m0 47 rfl) rfl
theorem q62 : (Jvm.Cond.methodLink "PointerSets" (45 : Nat) ({ cls := "PointerSets", name := "has", desc := "(I)Z" } : Jvm.MethodName)) ∈ lw_all := lw_g (lw_at lw_m0 48 rfl) rfl
theorem q63 : (Jvm.Cond.privateMethod ({ cls := "PointerSets", name := "has", desc := "(I)Z" } : Jvm.MethodName)) ∈ lw_tbl := lw_at lw_m0 49 rfl
theorem q64 : (Jvm.Cond.instanceMethod ({ cls := "PointerSets", name := "has", desc := "(I)Z" } : Jvm.MethodName)) ∈ lw_all := lw_g (lw_at lw_m0 50 rfl) rfl
theorem q65 : (Jvm.Cond.code ({ cls := "PointerSets", name := "has", desc := "(I)Z" } : Jvm.MethodName) prog_1_method_3_code (2 : Nat) (Option.some Jvm.ClassFile.FieldType.boolean)) ∈ lw_all := lw_g (lw_at lw_m0 51 rfl) rfl
theorem q66 : (Jvm.Cond.methodLink "PointerSets" (48 : Nat) ({ cls := "PointerSets", name := "write", desc := "(IIII)V" } : Jvm.MethodName)) ∈ lw_all := lw_g (lw_at lw_m0 52 rfl) rfl
theorem q67 : (Jvm.Cond.privateMethod ({ cls := "PointerSets", name := "write", desc := "(IIII)V" } : Jvm.MethodName)) ∈ lw_tbl := lw_at lw_m0 53 rfl
theorem q68 : (Jvm.Cond.instanceMethod ({ cls := "PointerSets", name := "write", desc := "(IIII)V" } : Jvm.MethodName)) ∈ lw_all := lw_g (lw_at lw_m0 54 rfl) rfl
theorem q69 : (Jvm.Cond.code ({ cls := "PointerSets", name := "write", desc := "(IIII)V" } : Jvm.MethodName) prog_1_method_5_code (5 : Nat) (Option.none : Option Jvm.ClassFile.FieldType)) ∈ lw_all := lw_g (lw_at lw_m0 55 rfl) rfl
theorem q71 : (Jvm.Cond.instanceMethod ({ cls := "PointerSets", name := "remove", desc := "(I)Z" } : Jvm.MethodName)) ∈ lw_all := lw_g (lw_at lw_m0 57 rfl) rfl
theorem q72 : (Jvm.Cond.selects "PointerSets" ({ cls := "PointerSets", name := "remove", desc := "(I)Z" } : Jvm.MethodName) ({ cls := "PointerSets", name := "remove", desc := "(I)Z" } : Jvm.MethodName)) ∈ lw_all := lw_g (lw_at lw_m0 58 rfl) rfl
theorem q73 : (Jvm.Cond.code ({ cls := "PointerSets", name := "remove", desc := "(I)Z" } : Jvm.MethodName) prog_1_method_8_code (2 : Nat) (Option.some Jvm.ClassFile.FieldType.boolean)) ∈ lw_all := lw_g (lw_at lw_m0 59 rfl) rfl
theorem q75 : (Jvm.Cond.instanceMethod ({ cls := "PointerSets", name := "statements", desc := "()I" } : Jvm.MethodName)) ∈ lw_all := lw_g (lw_at lw_m0 61 rfl) rfl
theorem q76 : (Jvm.Cond.selects "PointerSets" ({ cls := "PointerSets", name := "statements", desc := "()I" } : Jvm.MethodName) ({ cls := "PointerSets", name := "statements", desc := "()I" } : Jvm.MethodName)) ∈ lw_all := lw_g (lw_at lw_m0 62 rfl) rfl
theorem q77 : (Jvm.Cond.code ({ cls := "PointerSets", name := "statements", desc := "()I" } : Jvm.MethodName) prog_1_method_9_code (1 : Nat) (Option.some Jvm.ClassFile.FieldType.int)) ∈ lw_all := lw_g (lw_at lw_m0 63 rfl) rfl
theorem q79 : (Jvm.Cond.instanceMethod ({ cls := "PointerSets", name := "pointsTo", desc := "(I)I" } : Jvm.MethodName)) ∈ lw_all := lw_g (lw_at lw_m0 65 rfl) rfl
theorem q80 : (Jvm.Cond.selects "PointerSets" ({ cls := "PointerSets", name := "pointsTo", desc := "(I)I" } : Jvm.MethodName) ({ cls := "PointerSets", name := "pointsTo", desc := "(I)I" } : Jvm.MethodName)) ∈ lw_all := lw_g (lw_at lw_m0 66 rfl) rfl
theorem q81 : (Jvm.Cond.code ({ cls := "PointerSets", name := "pointsTo", desc := "(I)I" } : Jvm.MethodName) prog_1_method_16_code (2 : Nat) (Option.some Jvm.ClassFile.FieldType.int)) ∈ lw_all := lw_g (lw_at lw_m0 67 rfl) rfl
theorem q82 : (Jvm.Cond.methodLink "PointerSets" (75 : Nat) ({ cls := "PointerSets", name := "solve", desc := "()V" } : Jvm.MethodName)) ∈ lw_all := lw_g (lw_at lw_m0 68 rfl) rfl
theorem q83 : (Jvm.Cond.privateMethod ({ cls := "PointerSets", name := "solve", desc := "()V" } : Jvm.MethodName)) ∈ lw_tbl := lw_at lw_m0 69 rfl
theorem q84 : (Jvm.Cond.instanceMethod ({ cls := "PointerSets", name := "solve", desc := "()V" } : Jvm.MethodName)) ∈ lw_all := lw_g (lw_at lw_m0 70 rfl) rfl
theorem q85 : (Jvm.Cond.code ({ cls := "PointerSets", name := "solve", desc := "()V" } : Jvm.MethodName) prog_1_method_12_code (3 : Nat) (Option.none : Option Jvm.ClassFile.FieldType)) ∈ lw_all := lw_g (lw_at lw_m0 71 rfl) rfl
theorem q86 : (Jvm.Cond.methodLink "PointerSets" (56 : Nat) ({ cls := "PointerSets", name := "point", desc := "(II)V" } : Jvm.MethodName)) ∈ lw_all := lw_g (lw_at lw_m0 72 rfl) rfl
theorem q87 : (Jvm.Cond.privateMethod ({ cls := "PointerSets", name := "point", desc := "(II)V" } : Jvm.MethodName)) ∈ lw_tbl := lw_at lw_m0 73 rfl
theorem q88 : (Jvm.Cond.instanceMethod ({ cls := "PointerSets", name := "point", desc := "(II)V" } : Jvm.MethodName)) ∈ lw_all := lw_g (lw_at lw_m0 74 rfl) rfl
theorem q89 : (Jvm.Cond.code ({ cls := "PointerSets", name := "point", desc := "(II)V" } : Jvm.MethodName) prog_1_method_10_code (4 : Nat) (Option.none : Option Jvm.ClassFile.FieldType)) ∈ lw_all := lw_g (lw_at lw_m0 75 rfl) rfl
theorem q90 : (Jvm.Cond.methodLink "PointerSets" (60 : Nat) ({ cls := "PointerSets", name := "link", desc := "(II)V" } : Jvm.MethodName)) ∈ lw_all := lw_g (lw_at lw_m0 76 rfl) rfl
theorem q91 : (Jvm.Cond.privateMethod ({ cls := "PointerSets", name := "link", desc := "(II)V" } : Jvm.MethodName)) ∈ lw_tbl := lw_at lw_m0 77 rfl
theorem q92 : (Jvm.Cond.instanceMethod ({ cls := "PointerSets", name := "link", desc := "(II)V" } : Jvm.MethodName)) ∈ lw_all := lw_g (lw_at lw_m0 78 rfl) rfl
theorem q93 : (Jvm.Cond.code ({ cls := "PointerSets", name := "link", desc := "(II)V" } : Jvm.MethodName) prog_1_method_11_code (3 : Nat) (Option.none : Option Jvm.ClassFile.FieldType)) ∈ lw_all := lw_g (lw_at lw_m0 79 rfl) rfl
theorem q94 : (Jvm.Cond.methodLink "PointerSets" (52 : Nat) ({ cls := "PointerSets", name := "in", desc := "(II)Z" } : Jvm.MethodName)) ∈ lw_all := lw_g (lw_at lw_m0 80 rfl) rfl
theorem q95 : (Jvm.Cond.static ({ cls := "PointerSets", name := "in", desc := "(II)Z" } : Jvm.MethodName)) ∈ lw_all := lw_g (lw_at lw_m0 81 rfl) rfl
theorem q96 : (Jvm.Cond.code ({ cls := "PointerSets", name := "in", desc := "(II)Z" } : Jvm.MethodName) prog_1_method_4_code (2 : Nat) (Option.some Jvm.ClassFile.FieldType.boolean)) ∈ lw_all := lw_g (lw_at lw_m0 82 rfl) rfl
theorem q97 : (Jvm.Cond.methodLink "PointerSets" (63 : Nat) ({ cls := "PointerSets", name := "waiting", desc := "()I" } : Jvm.MethodName)) ∈ lw_all := lw_g (lw_at lw_m0 83 rfl) rfl
theorem q98 : (Jvm.Cond.privateMethod ({ cls := "PointerSets", name := "waiting", desc := "()I" } : Jvm.MethodName)) ∈ lw_tbl := lw_at lw_m0 84 rfl
theorem q99 : (Jvm.Cond.instanceMethod ({ cls := "PointerSets", name := "waiting", desc := "()I" } : Jvm.MethodName)) ∈ lw_all := lw_g (lw_at lw_m0 85 rfl) rfl
theorem q100 : (Jvm.Cond.code ({ cls := "PointerSets", name := "waiting", desc := "()I" } : Jvm.MethodName) prog_1_method_13_code (2 : Nat) (Option.some Jvm.ClassFile.FieldType.int)) ∈ lw_all := lw_g (lw_at lw_m0 86 rfl) rfl
theorem q101 : (Jvm.Cond.methodLink "PointerSets" (67 : Nat) ({ cls := "PointerSets", name := "passOn", desc := "(I)V" } : Jvm.MethodName)) ∈ lw_all := lw_g (lw_at lw_m0 87 rfl) rfl
theorem q102 : (Jvm.Cond.privateMethod ({ cls := "PointerSets", name := "passOn", desc := "(I)V" } : Jvm.MethodName)) ∈ lw_tbl := lw_at lw_m0 88 rfl
theorem q103 : (Jvm.Cond.instanceMethod ({ cls := "PointerSets", name := "passOn", desc := "(I)V" } : Jvm.MethodName)) ∈ lw_all := lw_g (lw_at lw_m0 89 rfl) rfl
theorem q104 : (Jvm.Cond.code ({ cls := "PointerSets", name := "passOn", desc := "(I)V" } : Jvm.MethodName) prog_1_method_14_code (4 : Nat) (Option.none : Option Jvm.ClassFile.FieldType)) ∈ lw_all := lw_g (lw_at lw_m0 90 rfl) rfl
theorem q105 : (Jvm.Cond.methodLink "PointerSets" (71 : Nat) ({ cls := "PointerSets", name := "follow", desc := "(III)V" } : Jvm.MethodName)) ∈ lw_all := lw_g (lw_at lw_m0 91 rfl) rfl
theorem q106 : (Jvm.Cond.privateMethod ({ cls := "PointerSets", name := "follow", desc := "(III)V" } : Jvm.MethodName)) ∈ lw_tbl := lw_at lw_m0 92 rfl
theorem q107 : (Jvm.Cond.instanceMethod ({ cls := "PointerSets", name := "follow", desc := "(III)V" } : Jvm.MethodName)) ∈ lw_all := lw_g (lw_at lw_m0 93 rfl) rfl
theorem q108 : (Jvm.Cond.code ({ cls := "PointerSets", name := "follow", desc := "(III)V" } : Jvm.MethodName) prog_1_method_15_code (7 : Nat) (Option.none : Option Jvm.ClassFile.FieldType)) ∈ lw_all := lw_g (lw_at lw_m0 94 rfl) rfl
theorem q110 : (Jvm.Cond.instanceMethod ({ cls := "PointerSets", name := "pointedBy", desc := "(I)I" } : Jvm.MethodName)) ∈ lw_all := lw_g (lw_at lw_m0 96 rfl) rfl
theorem q111 : (Jvm.Cond.selects "PointerSets" ({ cls := "PointerSets", name := "pointedBy", desc := "(I)I" } : Jvm.MethodName) ({ cls := "PointerSets", name := "pointedBy", desc := "(I)I" } : Jvm.MethodName)) ∈ lw_all := lw_g (lw_at lw_m0 97 rfl) rfl
theorem q112 : (Jvm.Cond.code ({ cls := "PointerSets", name := "pointedBy", desc := "(I)I" } : Jvm.MethodName) prog_1_method_17_code (4 : Nat) (Option.some Jvm.ClassFile.FieldType.int)) ∈ lw_all := lw_g (lw_at lw_m0 98 rfl) rfl
theorem q114 : (Jvm.Cond.instanceMethod ({ cls := "PointerSets", name := "alias", desc := "(II)Z" } : Jvm.MethodName)) ∈ lw_all := lw_g (lw_at lw_m0 100 rfl) rfl
theorem q115 : (Jvm.Cond.selects "PointerSets" ({ cls := "PointerSets", name := "alias", desc := "(II)Z" } : Jvm.MethodName) ({ cls := "PointerSets", name := "alias", desc := "(II)Z" } : Jvm.MethodName)) ∈ lw_all := lw_g (lw_at lw_m0 101 rfl) rfl
theorem q116 : (Jvm.Cond.code ({ cls := "PointerSets", name := "alias", desc := "(II)Z" } : Jvm.MethodName) prog_1_method_18_code (3 : Nat) (Option.some Jvm.ClassFile.FieldType.boolean)) ∈ lw_all := lw_g (lw_at lw_m0 102 rfl) rfl
theorem q118 : (Jvm.Cond.instanceMethod ({ cls := "PointerSets", name := "reach", desc := "(I)I" } : Jvm.MethodName)) ∈ lw_all := lw_g (lw_at lw_m0 104 rfl) rfl
theorem q119 : (Jvm.Cond.selects "PointerSets" ({ cls := "PointerSets", name := "reach", desc := "(I)I" } : Jvm.MethodName) ({ cls := "PointerSets", name := "reach", desc := "(I)I" } : Jvm.MethodName)) ∈ lw_all := lw_g (lw_at lw_m0 105 rfl) rfl
theorem q120 : (Jvm.Cond.code ({ cls := "PointerSets", name := "reach", desc := "(I)I" } : Jvm.MethodName) prog_1_method_19_code (5 : Nat) (Option.some Jvm.ClassFile.FieldType.int)) ∈ lw_all := lw_g (lw_at lw_m0 106 rfl) rfl
theorem q122 : (Jvm.Cond.instanceMethod ({ cls := "PointerSets", name := "flows", desc := "(II)Z" } : Jvm.MethodName)) ∈ lw_all := lw_g (lw_at lw_m0 108 rfl) rfl
theorem q123 : (Jvm.Cond.selects "PointerSets" ({ cls := "PointerSets", name := "flows", desc := "(II)Z" } : Jvm.MethodName) ({ cls := "PointerSets", name := "flows", desc := "(II)Z" } : Jvm.MethodName)) ∈ lw_all := lw_g (lw_at lw_m0 109 rfl) rfl
theorem q124 : (Jvm.Cond.code ({ cls := "PointerSets", name := "flows", desc := "(II)Z" } : Jvm.MethodName) prog_1_method_20_code (7 : Nat) (Option.some Jvm.ClassFile.FieldType.boolean)) ∈ lw_all := lw_g (lw_at lw_m0 110 rfl) rfl
theorem q126 : (Jvm.Cond.instanceMethod ({ cls := "PointerSets", name := "total", desc := "()I" } : Jvm.MethodName)) ∈ lw_all := lw_g (lw_at lw_m0 112 rfl) rfl
theorem q127 : (Jvm.Cond.selects "PointerSets" ({ cls := "PointerSets", name := "total", desc := "()I" } : Jvm.MethodName) ({ cls := "PointerSets", name := "total", desc := "()I" } : Jvm.MethodName)) ∈ lw_all := lw_g (lw_at lw_m0 113 rfl) rfl
theorem q128 : (Jvm.Cond.code ({ cls := "PointerSets", name := "total", desc := "()I" } : Jvm.MethodName) prog_1_method_21_code (4 : Nat) (Option.some Jvm.ClassFile.FieldType.int)) ∈ lw_all := lw_g (lw_at lw_m0 114 rfl) rfl
theorem q130 : (Jvm.Cond.instanceMethod ({ cls := "PointerSets", name := "redundant", desc := "(I)Z" } : Jvm.MethodName)) ∈ lw_all := lw_g (lw_at lw_m0 116 rfl) rfl
theorem q131 : (Jvm.Cond.selects "PointerSets" ({ cls := "PointerSets", name := "redundant", desc := "(I)Z" } : Jvm.MethodName) ({ cls := "PointerSets", name := "redundant", desc := "(I)Z" } : Jvm.MethodName)) ∈ lw_all := lw_g (lw_at lw_m0 117 rfl) rfl
theorem q132 : (Jvm.Cond.code ({ cls := "PointerSets", name := "redundant", desc := "(I)Z" } : Jvm.MethodName) prog_1_method_22_code (4 : Nat) (Option.some Jvm.ClassFile.FieldType.boolean)) ∈ lw_all := lw_g (lw_at lw_m0 118 rfl) rfl
theorem q133 : (Jvm.Cond.methodLink "PointerSets" (78 : Nat) ({ cls := "PointerSets", name := "total", desc := "()I" } : Jvm.MethodName)) ∈ lw_all := lw_g (lw_at lw_m0 119 rfl) rfl
theorem q135 : (Jvm.Cond.instanceMethod ({ cls := "PointerSets", name := "gain", desc := "(III)I" } : Jvm.MethodName)) ∈ lw_all := lw_g (lw_at lw_m0 121 rfl) rfl
theorem q136 : (Jvm.Cond.selects "PointerSets" ({ cls := "PointerSets", name := "gain", desc := "(III)I" } : Jvm.MethodName) ({ cls := "PointerSets", name := "gain", desc := "(III)I" } : Jvm.MethodName)) ∈ lw_all := lw_g (lw_at lw_m0 122 rfl) rfl
theorem q137 : (Jvm.Cond.code ({ cls := "PointerSets", name := "gain", desc := "(III)I" } : Jvm.MethodName) prog_1_method_23_code (6 : Nat) (Option.some Jvm.ClassFile.FieldType.int)) ∈ lw_all := lw_g (lw_at lw_m0 123 rfl) rfl
theorem q139 : (Jvm.Cond.instanceMethod ({ cls := "PointerSets", name := "cyclic", desc := "()I" } : Jvm.MethodName)) ∈ lw_all := lw_g (lw_at lw_m0 125 rfl) rfl
theorem q140 : (Jvm.Cond.selects "PointerSets" ({ cls := "PointerSets", name := "cyclic", desc := "()I" } : Jvm.MethodName) ({ cls := "PointerSets", name := "cyclic", desc := "()I" } : Jvm.MethodName)) ∈ lw_all := lw_g (lw_at lw_m0 126 rfl) rfl
theorem q141 : (Jvm.Cond.code ({ cls := "PointerSets", name := "cyclic", desc := "()I" } : Jvm.MethodName) prog_1_method_24_code (4 : Nat) (Option.some Jvm.ClassFile.FieldType.int)) ∈ lw_all := lw_g (lw_at lw_m0 127 rfl) rfl
theorem q142 : (Jvm.Cond.methodLink "PointerSets" (81 : Nat) ({ cls := "PointerSets", name := "reach", desc := "(I)I" } : Jvm.MethodName)) ∈ lw_all := lw_g (lw_at lw_m0 128 rfl) rfl
theorem q144 : (Jvm.Cond.instanceMethod ({ cls := "PointerSets", name := "twins", desc := "(I)I" } : Jvm.MethodName)) ∈ lw_all := lw_g (lw_at lw_m0 130 rfl) rfl
theorem q145 : (Jvm.Cond.selects "PointerSets" ({ cls := "PointerSets", name := "twins", desc := "(I)I" } : Jvm.MethodName) ({ cls := "PointerSets", name := "twins", desc := "(I)I" } : Jvm.MethodName)) ∈ lw_all := lw_g (lw_at lw_m0 131 rfl) rfl
theorem q146 : (Jvm.Cond.code ({ cls := "PointerSets", name := "twins", desc := "(I)I" } : Jvm.MethodName) prog_1_method_25_code (4 : Nat) (Option.some Jvm.ClassFile.FieldType.int)) ∈ lw_all := lw_g (lw_at lw_m0 132 rfl) rfl
theorem in_X0 : ∀ w ∈ wsX00, w ∈ lw_all := lw_in wsX00 [33, 35, 37, 39, 41, 43, 45, 47] (by decide +kernel) (by decide +kernel)

/-! PointerSetsModel -/
def RX1 : String := "PointerSetsModel"
def TX1 : u_T := fun k => match k with
  | 0 => ("PointerSetsModel", "there", "[Z", false)
  | 1 => ("PointerSetsModel", "kinds", "[I", false)
  | 2 => ("PointerSetsModel", "xs", "[I", false)
  | 3 => ("PointerSetsModel", "ys", "[I", false)
  | 4 => ("PointerSetsModel", "sets", "[I", false)
  | _ => ("PointerSetsModel", "old", "[I", false)
def tyX1 : Nat → FieldType := fun k => match k with
  | 0 => .array .boolean
  | 1 => .array .int
  | 2 => .array .int
  | 3 => .array .int
  | 4 => .array .int
  | _ => .array .int
abbrev wsX10 : List Cond := u_ws RX1 TX1 6
theorem nmX1 : ∀ a, a < 6 → ∀ b, b < 6 → a ≠ b → (TX1 a).2.1 ≠ (TX1 b).2.1 := by decide +kernel
theorem tyX1_ok : ∀ k, k < 6 → parseFieldDescriptor (TX1 k).2.2.1 = some (tyX1 k) := by decide +kernel
abbrev cX1_init : ByteArray := prog_3_method_1_code
def yX1_init : MethodName := ⟨RX1, "<init>", "()V"⟩
abbrev cX1_add : ByteArray := prog_3_method_5_code
def yX1_add : MethodName := ⟨RX1, "add", "(III)I"⟩
abbrev cX1_good : ByteArray := prog_3_method_3_code
def yX1_good : MethodName := ⟨RX1, "good", "(III)Z"⟩
abbrev cX1_variable : ByteArray := prog_3_method_2_code
def yX1_variable : MethodName := ⟨RX1, "variable", "(I)Z"⟩
abbrev cX1_hold : ByteArray := prog_3_method_4_code
def yX1_hold : MethodName := ⟨RX1, "hold", "(IIII)V"⟩
abbrev cX1_remove : ByteArray := prog_3_method_6_code
def yX1_remove : MethodName := ⟨RX1, "remove", "(I)Z"⟩
abbrev cX1_statements : ByteArray := prog_3_method_7_code
def yX1_statements : MethodName := ⟨RX1, "statements", "()I"⟩
abbrev cX1_pointsTo : ByteArray := prog_3_method_10_code
def yX1_pointsTo : MethodName := ⟨RX1, "pointsTo", "(I)I"⟩
abbrev cX1_work : ByteArray := prog_3_method_9_code
def yX1_work : MethodName := ⟨RX1, "work", "()V"⟩
abbrev cX1_carryOut : ByteArray := prog_3_method_8_code
def yX1_carryOut : MethodName := ⟨RX1, "carryOut", "(I)Z"⟩
abbrev cX1_pointedBy : ByteArray := prog_3_method_11_code
def yX1_pointedBy : MethodName := ⟨RX1, "pointedBy", "(I)I"⟩
abbrev cX1_alias : ByteArray := prog_3_method_12_code
def yX1_alias : MethodName := ⟨RX1, "alias", "(II)Z"⟩
abbrev cX1_reach : ByteArray := prog_3_method_14_code
def yX1_reach : MethodName := ⟨RX1, "reach", "(I)I"⟩
abbrev cX1_reached : ByteArray := prog_3_method_13_code
def yX1_reached : MethodName := ⟨RX1, "reached", "(I)I"⟩
abbrev cX1_flows : ByteArray := prog_3_method_15_code
def yX1_flows : MethodName := ⟨RX1, "flows", "(II)Z"⟩
abbrev cX1_total : ByteArray := prog_3_method_16_code
def yX1_total : MethodName := ⟨RX1, "total", "()I"⟩
abbrev cX1_redundant : ByteArray := prog_3_method_17_code
def yX1_redundant : MethodName := ⟨RX1, "redundant", "(I)Z"⟩
abbrev cX1_gain : ByteArray := prog_3_method_18_code
def yX1_gain : MethodName := ⟨RX1, "gain", "(III)I"⟩
abbrev cX1_cyclic : ByteArray := prog_3_method_19_code
def yX1_cyclic : MethodName := ⟨RX1, "cyclic", "()I"⟩
abbrev cX1_twins : ByteArray := prog_3_method_20_code
def yX1_twins : MethodName := ⟨RX1, "twins", "(I)I"⟩
theorem q16 : (Jvm.Cond.initialized "PointerSetsModel") ∈ lw_all := lw_g (lw_at lw_m0 2 rfl) rfl
theorem q148 : (Jvm.Cond.instantiable "PointerSetsModel" (6 : Nat)) ∈ lw_all := lw_g (lw_at lw_m0 134 rfl) rfl
theorem q150 : (Jvm.Cond.instanceMethod ({ cls := "PointerSetsModel", name := "<init>", desc := "()V" } : Jvm.MethodName)) ∈ lw_all := lw_g (lw_at lw_m0 136 rfl) rfl
theorem q151 : (Jvm.Cond.code ({ cls := "PointerSetsModel", name := "<init>", desc := "()V" } : Jvm.MethodName) prog_3_method_1_code (1 : Nat) (Option.none : Option Jvm.ClassFile.FieldType)) ∈ lw_all := lw_g (lw_at lw_m0 137 rfl) rfl
theorem q152 : (Jvm.Cond.methodLink "PointerSetsModel" (1 : Nat) ({ cls := "java/lang/Object", name := "<init>", desc := "()V" } : Jvm.MethodName)) ∈ lw_all := lw_g (lw_at lw_m0 138 rfl) rfl
theorem q153 : (Jvm.Cond.fieldLink "PointerSetsModel" (7 : Nat) "PointerSetsModel" "there" "[Z") ∈ lw_all := lw_g (lw_at lw_m0 139 rfl) rfl
theorem q154 : (Jvm.Cond.fieldLink "PointerSetsModel" (13 : Nat) "PointerSetsModel" "kinds" "[I") ∈ lw_all := lw_g (lw_at lw_m0 140 rfl) rfl
theorem q155 : (Jvm.Cond.fieldLink "PointerSetsModel" (17 : Nat) "PointerSetsModel" "xs" "[I") ∈ lw_all := lw_g (lw_at lw_m0 141 rfl) rfl
theorem q156 : (Jvm.Cond.fieldLink "PointerSetsModel" (20 : Nat) "PointerSetsModel" "ys" "[I") ∈ lw_all := lw_g (lw_at lw_m0 142 rfl) rfl
theorem q157 : (Jvm.Cond.fieldLink "PointerSetsModel" (23 : Nat) "PointerSetsModel" "sets" "[I") ∈ lw_all := lw_g (lw_at lw_m0 143 rfl) rfl
theorem q158 : (Jvm.Cond.fieldLink "PointerSetsModel" (26 : Nat) "PointerSetsModel" "old" "[I") ∈ lw_all := lw_g (lw_at lw_m0 144 rfl) rfl
theorem q159 : (Jvm.Cond.lays "PointerSetsModel" "PointerSetsModel" "there" "[Z") ∈ lw_all := lw_g (lw_at lw_m0 145 rfl) rfl
theorem q160 : (Jvm.Cond.soleField "PointerSetsModel" "there") ∈ lw_all := lw_g (lw_at lw_m0 146 rfl) rfl
theorem q161 : (Jvm.Cond.lays "PointerSetsModel" "PointerSetsModel" "kinds" "[I") ∈ lw_all := lw_g (lw_at lw_m0 147 rfl) rfl
theorem q162 : (Jvm.Cond.soleField "PointerSetsModel" "kinds") ∈ lw_all := lw_g (lw_at lw_m0 148 rfl) rfl
theorem q163 : (Jvm.Cond.lays "PointerSetsModel" "PointerSetsModel" "xs" "[I") ∈ lw_all := lw_g (lw_at lw_m0 149 rfl) rfl
theorem q164 : (Jvm.Cond.soleField "PointerSetsModel" "xs") ∈ lw_all := lw_g (lw_at lw_m0 150 rfl) rfl
theorem q165 : (Jvm.Cond.lays "PointerSetsModel" "PointerSetsModel" "ys" "[I") ∈ lw_all := lw_g (lw_at lw_m0 151 rfl) rfl
theorem q166 : (Jvm.Cond.soleField "PointerSetsModel" "ys") ∈ lw_all := lw_g (lw_at lw_m0 152 rfl) rfl
theorem q167 : (Jvm.Cond.lays "PointerSetsModel" "PointerSetsModel" "sets" "[I") ∈ lw_all := lw_g (lw_at lw_m0 153 rfl) rfl
theorem q168 : (Jvm.Cond.soleField "PointerSetsModel" "sets") ∈ lw_all := lw_g (lw_at lw_m0 154 rfl) rfl
theorem q169 : (Jvm.Cond.lays "PointerSetsModel" "PointerSetsModel" "old" "[I") ∈ lw_all := lw_g (lw_at lw_m0 155 rfl) rfl
theorem q170 : (Jvm.Cond.soleField "PointerSetsModel" "old") ∈ lw_all := lw_g (lw_at lw_m0 156 rfl) rfl
theorem q171 : (Jvm.Cond.superclass "PointerSetsModel" "java/lang/Object") ∈ lw_all := lw_g (lw_at lw_m0 157 rfl) rfl
theorem q175 : (Jvm.Cond.instanceMethod ({ cls := "PointerSetsModel", name := "add", desc := "(III)I" } : Jvm.MethodName)) ∈ lw_all := lw_g (lw_at lw_m0 161 rfl) rfl
theorem q176 : (Jvm.Cond.selects "PointerSetsModel" ({ cls := "PointerSetsModel", name := "add", desc := "(III)I" } : Jvm.MethodName) ({ cls := "PointerSetsModel", name := "add", desc := "(III)I" } : Jvm.MethodName)) ∈ lw_all := lw_g (lw_at lw_m0 162 rfl) rfl
theorem q177 : (Jvm.Cond.code ({ cls := "PointerSetsModel", name := "add", desc := "(III)I" } : Jvm.MethodName) prog_3_method_5_code (5 : Nat) (Option.some Jvm.ClassFile.FieldType.int)) ∈ lw_all := lw_g (lw_at lw_m0 163 rfl) rfl
theorem q178 : (Jvm.Cond.methodLink "PointerSetsModel" (33 : Nat) ({ cls := "PointerSetsModel", name := "good", desc := "(III)Z" } : Jvm.MethodName)) ∈ lw_all := lw_g (lw_at lw_m0 164 rfl) rfl
theorem q179 : (Jvm.Cond.privateMethod ({ cls := "PointerSetsModel", name := "good", desc := "(III)Z" } : Jvm.MethodName)) ∈ lw_tbl := lw_at lw_m0 165 rfl
theorem q180 : (Jvm.Cond.instanceMethod ({ cls := "PointerSetsModel", name := "good", desc := "(III)Z" } : Jvm.MethodName)) ∈ lw_all := lw_g (lw_at lw_m0 166 rfl) rfl
theorem q181 : (Jvm.Cond.code ({ cls := "PointerSetsModel", name := "good", desc := "(III)Z" } : Jvm.MethodName) prog_3_method_3_code (4 : Nat) (Option.some Jvm.ClassFile.FieldType.boolean)) ∈ lw_all := lw_g (lw_at lw_m0 167 rfl) rfl
theorem q182 : (Jvm.Cond.methodLink "PointerSetsModel" (29 : Nat) ({ cls := "PointerSetsModel", name := "variable", desc := "(I)Z" } : Jvm.MethodName)) ∈ lw_all := lw_g (lw_at lw_m0 168 rfl) rfl
theorem q183 : (Jvm.Cond.privateMethod ({ cls := "PointerSetsModel", name := "variable", desc := "(I)Z" } : Jvm.MethodName)) ∈ lw_tbl := lw_at lw_m0 169 rfl
theorem q184 : (Jvm.Cond.instanceMethod ({ cls := "PointerSetsModel", name := "variable", desc := "(I)Z" } : Jvm.MethodName)) ∈ lw_all := lw_g (lw_at lw_m0 170 rfl) rfl
theorem q185 : (Jvm.Cond.code ({ cls := "PointerSetsModel", name := "variable", desc := "(I)Z" } : Jvm.MethodName) prog_3_method_2_code (2 : Nat) (Option.some Jvm.ClassFile.FieldType.boolean)) ∈ lw_all := lw_g (lw_at lw_m0 171 rfl) rfl
theorem q186 : (Jvm.Cond.methodLink "PointerSetsModel" (37 : Nat) ({ cls := "PointerSetsModel", name := "hold", desc := "(IIII)V" } : Jvm.MethodName)) ∈ lw_all := lw_g (lw_at lw_m0 172 rfl) rfl
theorem q187 : (Jvm.Cond.privateMethod ({ cls := "PointerSetsModel", name := "hold", desc := "(IIII)V" } : Jvm.MethodName)) ∈ lw_tbl := lw_at lw_m0 173 rfl
theorem q188 : (Jvm.Cond.instanceMethod ({ cls := "PointerSetsModel", name := "hold", desc := "(IIII)V" } : Jvm.MethodName)) ∈ lw_all := lw_g (lw_at lw_m0 174 rfl) rfl
theorem q189 : (Jvm.Cond.code ({ cls := "PointerSetsModel", name := "hold", desc := "(IIII)V" } : Jvm.MethodName) prog_3_method_4_code (5 : Nat) (Option.none : Option Jvm.ClassFile.FieldType)) ∈ lw_all := lw_g (lw_at lw_m0 175 rfl) rfl
theorem q191 : (Jvm.Cond.instanceMethod ({ cls := "PointerSetsModel", name := "remove", desc := "(I)Z" } : Jvm.MethodName)) ∈ lw_all := lw_g (lw_at lw_m0 177 rfl) rfl
theorem q192 : (Jvm.Cond.selects "PointerSetsModel" ({ cls := "PointerSetsModel", name := "remove", desc := "(I)Z" } : Jvm.MethodName) ({ cls := "PointerSetsModel", name := "remove", desc := "(I)Z" } : Jvm.MethodName)) ∈ lw_all := lw_g (lw_at lw_m0 178 rfl) rfl
theorem q193 : (Jvm.Cond.code ({ cls := "PointerSetsModel", name := "remove", desc := "(I)Z" } : Jvm.MethodName) prog_3_method_6_code (2 : Nat) (Option.some Jvm.ClassFile.FieldType.boolean)) ∈ lw_all := lw_g (lw_at lw_m0 179 rfl) rfl
theorem q195 : (Jvm.Cond.instanceMethod ({ cls := "PointerSetsModel", name := "statements", desc := "()I" } : Jvm.MethodName)) ∈ lw_all := lw_g (lw_at lw_m0 181 rfl) rfl
theorem q196 : (Jvm.Cond.selects "PointerSetsModel" ({ cls := "PointerSetsModel", name := "statements", desc := "()I" } : Jvm.MethodName) ({ cls := "PointerSetsModel", name := "statements", desc := "()I" } : Jvm.MethodName)) ∈ lw_all := lw_g (lw_at lw_m0 182 rfl) rfl
theorem q197 : (Jvm.Cond.code ({ cls := "PointerSetsModel", name := "statements", desc := "()I" } : Jvm.MethodName) prog_3_method_7_code (3 : Nat) (Option.some Jvm.ClassFile.FieldType.int)) ∈ lw_all := lw_g (lw_at lw_m0 183 rfl) rfl
theorem q199 : (Jvm.Cond.instanceMethod ({ cls := "PointerSetsModel", name := "pointsTo", desc := "(I)I" } : Jvm.MethodName)) ∈ lw_all := lw_g (lw_at lw_m0 185 rfl) rfl
theorem q200 : (Jvm.Cond.selects "PointerSetsModel" ({ cls := "PointerSetsModel", name := "pointsTo", desc := "(I)I" } : Jvm.MethodName) ({ cls := "PointerSetsModel", name := "pointsTo", desc := "(I)I" } : Jvm.MethodName)) ∈ lw_all := lw_g (lw_at lw_m0 186 rfl) rfl
theorem q201 : (Jvm.Cond.code ({ cls := "PointerSetsModel", name := "pointsTo", desc := "(I)I" } : Jvm.MethodName) prog_3_method_10_code (2 : Nat) (Option.some Jvm.ClassFile.FieldType.int)) ∈ lw_all := lw_g (lw_at lw_m0 187 rfl) rfl
theorem q202 : (Jvm.Cond.methodLink "PointerSetsModel" (44 : Nat) ({ cls := "PointerSetsModel", name := "work", desc := "()V" } : Jvm.MethodName)) ∈ lw_all := lw_g (lw_at lw_m0 188 rfl) rfl
theorem q203 : (Jvm.Cond.privateMethod ({ cls := "PointerSetsModel", name := "work", desc := "()V" } : Jvm.MethodName)) ∈ lw_tbl := lw_at lw_m0 189 rfl
theorem q204 : (Jvm.Cond.instanceMethod ({ cls := "PointerSetsModel", name := "work", desc := "()V" } : Jvm.MethodName)) ∈ lw_all := lw_g (lw_at lw_m0 190 rfl) rfl
theorem q205 : (Jvm.Cond.code ({ cls := "PointerSetsModel", name := "work", desc := "()V" } : Jvm.MethodName) prog_3_method_9_code (4 : Nat) (Option.none : Option Jvm.ClassFile.FieldType)) ∈ lw_all := lw_g (lw_at lw_m0 191 rfl) rfl
theorem q206 : (Jvm.Cond.methodLink "PointerSetsModel" (41 : Nat) ({ cls := "PointerSetsModel", name := "carryOut", desc := "(I)Z" } : Jvm.MethodName)) ∈ lw_all := lw_g (lw_at lw_m0 192 rfl) rfl
theorem q207 : (Jvm.Cond.privateMethod ({ cls := "PointerSetsModel", name := "carryOut", desc := "(I)Z" } : Jvm.MethodName)) ∈ lw_tbl := lw_at lw_m0 193 rfl
theorem q208 : (Jvm.Cond.instanceMethod ({ cls := "PointerSetsModel", name := "carryOut", desc := "(I)Z" } : Jvm.MethodName)) ∈ lw_all := lw_g (lw_at lw_m0 194 rfl) rfl
theorem q209 : (Jvm.Cond.code ({ cls := "PointerSetsModel", name := "carryOut", desc := "(I)Z" } : Jvm.MethodName) prog_3_method_8_code (9 : Nat) (Option.some Jvm.ClassFile.FieldType.boolean)) ∈ lw_all := lw_g (lw_at lw_m0 195 rfl) rfl
theorem q211 : (Jvm.Cond.instanceMethod ({ cls := "PointerSetsModel", name := "pointedBy", desc := "(I)I" } : Jvm.MethodName)) ∈ lw_all := lw_g (lw_at lw_m0 197 rfl) rfl
theorem q212 : (Jvm.Cond.selects "PointerSetsModel" ({ cls := "PointerSetsModel", name := "pointedBy", desc := "(I)I" } : Jvm.MethodName) ({ cls := "PointerSetsModel", name := "pointedBy", desc := "(I)I" } : Jvm.MethodName)) ∈ lw_all := lw_g (lw_at lw_m0 198 rfl) rfl
theorem q213 : (Jvm.Cond.code ({ cls := "PointerSetsModel", name := "pointedBy", desc := "(I)I" } : Jvm.MethodName) prog_3_method_11_code (4 : Nat) (Option.some Jvm.ClassFile.FieldType.int)) ∈ lw_all := lw_g (lw_at lw_m0 199 rfl) rfl
theorem q215 : (Jvm.Cond.instanceMethod ({ cls := "PointerSetsModel", name := "alias", desc := "(II)Z" } : Jvm.MethodName)) ∈ lw_all := lw_g (lw_at lw_m0 201 rfl) rfl
theorem q216 : (Jvm.Cond.selects "PointerSetsModel" ({ cls := "PointerSetsModel", name := "alias", desc := "(II)Z" } : Jvm.MethodName) ({ cls := "PointerSetsModel", name := "alias", desc := "(II)Z" } : Jvm.MethodName)) ∈ lw_all := lw_g (lw_at lw_m0 202 rfl) rfl
theorem q217 : (Jvm.Cond.code ({ cls := "PointerSetsModel", name := "alias", desc := "(II)Z" } : Jvm.MethodName) prog_3_method_12_code (3 : Nat) (Option.some Jvm.ClassFile.FieldType.boolean)) ∈ lw_all := lw_g (lw_at lw_m0 203 rfl) rfl
theorem q219 : (Jvm.Cond.instanceMethod ({ cls := "PointerSetsModel", name := "reach", desc := "(I)I" } : Jvm.MethodName)) ∈ lw_all := lw_g (lw_at lw_m0 205 rfl) rfl
theorem q220 : (Jvm.Cond.selects "PointerSetsModel" ({ cls := "PointerSetsModel", name := "reach", desc := "(I)I" } : Jvm.MethodName) ({ cls := "PointerSetsModel", name := "reach", desc := "(I)I" } : Jvm.MethodName)) ∈ lw_all := lw_g (lw_at lw_m0 206 rfl) rfl
theorem q221 : (Jvm.Cond.code ({ cls := "PointerSetsModel", name := "reach", desc := "(I)I" } : Jvm.MethodName) prog_3_method_14_code (2 : Nat) (Option.some Jvm.ClassFile.FieldType.int)) ∈ lw_all := lw_g (lw_at lw_m0 207 rfl) rfl
theorem q222 : (Jvm.Cond.methodLink "PointerSetsModel" (47 : Nat) ({ cls := "PointerSetsModel", name := "reached", desc := "(I)I" } : Jvm.MethodName)) ∈ lw_all := lw_g (lw_at lw_m0 208 rfl) rfl
theorem q223 : (Jvm.Cond.privateMethod ({ cls := "PointerSetsModel", name := "reached", desc := "(I)I" } : Jvm.MethodName)) ∈ lw_tbl := lw_at lw_m0 209 rfl
theorem q224 : (Jvm.Cond.instanceMethod ({ cls := "PointerSetsModel", name := "reached", desc := "(I)I" } : Jvm.MethodName)) ∈ lw_all := lw_g (lw_at lw_m0 210 rfl) rfl
theorem q225 : (Jvm.Cond.code ({ cls := "PointerSetsModel", name := "reached", desc := "(I)I" } : Jvm.MethodName) prog_3_method_13_code (5 : Nat) (Option.some Jvm.ClassFile.FieldType.int)) ∈ lw_all := lw_g (lw_at lw_m0 211 rfl) rfl
theorem q227 : (Jvm.Cond.instanceMethod ({ cls := "PointerSetsModel", name := "flows", desc := "(II)Z" } : Jvm.MethodName)) ∈ lw_all := lw_g (lw_at lw_m0 213 rfl) rfl
theorem q228 : (Jvm.Cond.selects "PointerSetsModel" ({ cls := "PointerSetsModel", name := "flows", desc := "(II)Z" } : Jvm.MethodName) ({ cls := "PointerSetsModel", name := "flows", desc := "(II)Z" } : Jvm.MethodName)) ∈ lw_all := lw_g (lw_at lw_m0 214 rfl) rfl
theorem q229 : (Jvm.Cond.code ({ cls := "PointerSetsModel", name := "flows", desc := "(II)Z" } : Jvm.MethodName) prog_3_method_15_code (7 : Nat) (Option.some Jvm.ClassFile.FieldType.boolean)) ∈ lw_all := lw_g (lw_at lw_m0 215 rfl) rfl
theorem q231 : (Jvm.Cond.instanceMethod ({ cls := "PointerSetsModel", name := "total", desc := "()I" } : Jvm.MethodName)) ∈ lw_all := lw_g (lw_at lw_m0 217 rfl) rfl
theorem q232 : (Jvm.Cond.selects "PointerSetsModel" ({ cls := "PointerSetsModel", name := "total", desc := "()I" } : Jvm.MethodName) ({ cls := "PointerSetsModel", name := "total", desc := "()I" } : Jvm.MethodName)) ∈ lw_all := lw_g (lw_at lw_m0 218 rfl) rfl
theorem q233 : (Jvm.Cond.code ({ cls := "PointerSetsModel", name := "total", desc := "()I" } : Jvm.MethodName) prog_3_method_16_code (3 : Nat) (Option.some Jvm.ClassFile.FieldType.int)) ∈ lw_all := lw_g (lw_at lw_m0 219 rfl) rfl
theorem q235 : (Jvm.Cond.instanceMethod ({ cls := "PointerSetsModel", name := "redundant", desc := "(I)Z" } : Jvm.MethodName)) ∈ lw_all := lw_g (lw_at lw_m0 221 rfl) rfl
theorem q236 : (Jvm.Cond.selects "PointerSetsModel" ({ cls := "PointerSetsModel", name := "redundant", desc := "(I)Z" } : Jvm.MethodName) ({ cls := "PointerSetsModel", name := "redundant", desc := "(I)Z" } : Jvm.MethodName)) ∈ lw_all := lw_g (lw_at lw_m0 222 rfl) rfl
theorem q237 : (Jvm.Cond.code ({ cls := "PointerSetsModel", name := "redundant", desc := "(I)Z" } : Jvm.MethodName) prog_3_method_17_code (4 : Nat) (Option.some Jvm.ClassFile.FieldType.boolean)) ∈ lw_all := lw_g (lw_at lw_m0 223 rfl) rfl
theorem q239 : (Jvm.Cond.instanceMethod ({ cls := "PointerSetsModel", name := "gain", desc := "(III)I" } : Jvm.MethodName)) ∈ lw_all := lw_g (lw_at lw_m0 225 rfl) rfl
theorem q240 : (Jvm.Cond.selects "PointerSetsModel" ({ cls := "PointerSetsModel", name := "gain", desc := "(III)I" } : Jvm.MethodName) ({ cls := "PointerSetsModel", name := "gain", desc := "(III)I" } : Jvm.MethodName)) ∈ lw_all := lw_g (lw_at lw_m0 226 rfl) rfl
theorem q241 : (Jvm.Cond.code ({ cls := "PointerSetsModel", name := "gain", desc := "(III)I" } : Jvm.MethodName) prog_3_method_18_code (6 : Nat) (Option.some Jvm.ClassFile.FieldType.int)) ∈ lw_all := lw_g (lw_at lw_m0 227 rfl) rfl
theorem q242 : (Jvm.Cond.methodLink "PointerSetsModel" (51 : Nat) ({ cls := "PointerSetsModel", name := "total", desc := "()I" } : Jvm.MethodName)) ∈ lw_all := lw_g (lw_at lw_m0 228 rfl) rfl
theorem q244 : (Jvm.Cond.instanceMethod ({ cls := "PointerSetsModel", name := "cyclic", desc := "()I" } : Jvm.MethodName)) ∈ lw_all := lw_g (lw_at lw_m0 230 rfl) rfl
theorem q245 : (Jvm.Cond.selects "PointerSetsModel" ({ cls := "PointerSetsModel", name := "cyclic", desc := "()I" } : Jvm.MethodName) ({ cls := "PointerSetsModel", name := "cyclic", desc := "()I" } : Jvm.MethodName)) ∈ lw_all := lw_g (lw_at lw_m0 231 rfl) rfl
theorem q246 : (Jvm.Cond.code ({ cls := "PointerSetsModel", name := "cyclic", desc := "()I" } : Jvm.MethodName) prog_3_method_19_code (3 : Nat) (Option.some Jvm.ClassFile.FieldType.int)) ∈ lw_all := lw_g (lw_at lw_m0 232 rfl) rfl
theorem q248 : (Jvm.Cond.instanceMethod ({ cls := "PointerSetsModel", name := "twins", desc := "(I)I" } : Jvm.MethodName)) ∈ lw_all := lw_g (lw_at lw_m0 234 rfl) rfl
theorem q249 : (Jvm.Cond.selects "PointerSetsModel" ({ cls := "PointerSetsModel", name := "twins", desc := "(I)I" } : Jvm.MethodName) ({ cls := "PointerSetsModel", name := "twins", desc := "(I)I" } : Jvm.MethodName)) ∈ lw_all := lw_g (lw_at lw_m0 235 rfl) rfl
theorem q250 : (Jvm.Cond.code ({ cls := "PointerSetsModel", name := "twins", desc := "(I)I" } : Jvm.MethodName) prog_3_method_20_code (4 : Nat) (Option.some Jvm.ClassFile.FieldType.int)) ∈ lw_all := lw_g (lw_at lw_m0 236 rfl) rfl
theorem in_X1 : ∀ w ∈ wsX10, w ∈ lw_all := lw_in wsX10 [159, 161, 163, 165, 167, 169] (by decide +kernel) (by decide +kernel)

/-! java/lang/Object -/
def RJ0 : String := "java/lang/Object"
abbrev cJ0_init : ByteArray := object_method_1_code
def yJ0_init : MethodName := ⟨RJ0, "<init>", "()V"⟩
theorem dJ0_init_0 : decode cJ0_init 0 = .ok (.return_, 1) := by decide +kernel
theorem q23 : (Jvm.Cond.instanceMethod ({ cls := "java/lang/Object", name := "<init>", desc := "()V" } : Jvm.MethodName)) ∈ lw_all := lw_g (lw_at lw_m0 9 rfl) rfl
theorem q24 : (Jvm.Cond.code ({ cls := "java/lang/Object", name := "<init>", desc := "()V" } : Jvm.MethodName) object_method_1_code (1 : Nat) (Option.none : Option Jvm.ClassFile.FieldType)) ∈ lw_all := lw_g (lw_at lw_m0 10 rfl) rfl

theorem q50 : (Jvm.Cond.arrayClass Jvm.ClassFile.FieldType.byte) ∈ lw_all := lw_g (lw_at lw_m0 36 rfl) rfl
theorem q51 : (Jvm.Cond.arrayClass Jvm.ClassFile.FieldType.short) ∈ lw_all := lw_g (lw_at lw_m0 37 rfl) rfl
theorem q172 : (Jvm.Cond.arrayClass Jvm.ClassFile.FieldType.boolean) ∈ lw_all := lw_g (lw_at lw_m0 158 rfl) rfl
theorem q173 : (Jvm.Cond.arrayClass Jvm.ClassFile.FieldType.int) ∈ lw_all := lw_g (lw_at lw_m0 159 rfl) rfl

theorem q14 : (Jvm.Cond.initialized "PointerSetsLaw") ∈ lw_all := lw_g (lw_at lw_m0 0 rfl) rfl
theorem q17 : (Jvm.Cond.classLink "PointerSetsLaw" (7 : Nat) "PointerSets") ∈ lw_all := lw_g (lw_at lw_m0 3 rfl) rfl
theorem q19 : (Jvm.Cond.methodLink "PointerSetsLaw" (9 : Nat) ({ cls := "PointerSets", name := "<init>", desc := "()V" } : Jvm.MethodName)) ∈ lw_all := lw_g (lw_at lw_m0 5 rfl) rfl
theorem q52 : (Jvm.Cond.methodLink "PointerSetsLaw" (13 : Nat) ({ cls := "PointerSets", name := "add", desc := "(III)I" } : Jvm.MethodName)) ∈ lw_all := lw_g (lw_at lw_m0 38 rfl) rfl
theorem q70 : (Jvm.Cond.methodLink "PointerSetsLaw" (18 : Nat) ({ cls := "PointerSets", name := "remove", desc := "(I)Z" } : Jvm.MethodName)) ∈ lw_all := lw_g (lw_at lw_m0 56 rfl) rfl
theorem q74 : (Jvm.Cond.methodLink "PointerSetsLaw" (23 : Nat) ({ cls := "PointerSets", name := "statements", desc := "()I" } : Jvm.MethodName)) ∈ lw_all := lw_g (lw_at lw_m0 60 rfl) rfl
theorem q78 : (Jvm.Cond.methodLink "PointerSetsLaw" (28 : Nat) ({ cls := "PointerSets", name := "pointsTo", desc := "(I)I" } : Jvm.MethodName)) ∈ lw_all := lw_g (lw_at lw_m0 64 rfl) rfl
theorem q109 : (Jvm.Cond.methodLink "PointerSetsLaw" (33 : Nat) ({ cls := "PointerSets", name := "pointedBy", desc := "(I)I" } : Jvm.MethodName)) ∈ lw_all := lw_g (lw_at lw_m0 95 rfl) rfl
theorem q113 : (Jvm.Cond.methodLink "PointerSetsLaw" (37 : Nat) ({ cls := "PointerSets", name := "alias", desc := "(II)Z" } : Jvm.MethodName)) ∈ lw_all := lw_g (lw_at lw_m0 99 rfl) rfl
theorem q117 : (Jvm.Cond.methodLink "PointerSetsLaw" (42 : Nat) ({ cls := "PointerSets", name := "reach", desc := "(I)I" } : Jvm.MethodName)) ∈ lw_all := lw_g (lw_at lw_m0 103 rfl) rfl
theorem q121 : (Jvm.Cond.methodLink "PointerSetsLaw" (46 : Nat) ({ cls := "PointerSets", name := "flows", desc := "(II)Z" } : Jvm.MethodName)) ∈ lw_all := lw_g (lw_at lw_m0 107 rfl) rfl
theorem q125 : (Jvm.Cond.methodLink "PointerSetsLaw" (50 : Nat) ({ cls := "PointerSets", name := "total", desc := "()I" } : Jvm.MethodName)) ∈ lw_all := lw_g (lw_at lw_m0 111 rfl) rfl
theorem q129 : (Jvm.Cond.methodLink "PointerSetsLaw" (54 : Nat) ({ cls := "PointerSets", name := "redundant", desc := "(I)Z" } : Jvm.MethodName)) ∈ lw_all := lw_g (lw_at lw_m0 115 rfl) rfl
theorem q134 : (Jvm.Cond.methodLink "PointerSetsLaw" (58 : Nat) ({ cls := "PointerSets", name := "gain", desc := "(III)I" } : Jvm.MethodName)) ∈ lw_all := lw_g (lw_at lw_m0 120 rfl) rfl
theorem q138 : (Jvm.Cond.methodLink "PointerSetsLaw" (62 : Nat) ({ cls := "PointerSets", name := "cyclic", desc := "()I" } : Jvm.MethodName)) ∈ lw_all := lw_g (lw_at lw_m0 124 rfl) rfl
theorem q143 : (Jvm.Cond.methodLink "PointerSetsLaw" (66 : Nat) ({ cls := "PointerSets", name := "twins", desc := "(I)I" } : Jvm.MethodName)) ∈ lw_all := lw_g (lw_at lw_m0 129 rfl) rfl
theorem q147 : (Jvm.Cond.classLink "PointerSetsLaw" (10 : Nat) "PointerSetsModel") ∈ lw_all := lw_g (lw_at lw_m0 133 rfl) rfl
theorem q149 : (Jvm.Cond.methodLink "PointerSetsLaw" (12 : Nat) ({ cls := "PointerSetsModel", name := "<init>", desc := "()V" } : Jvm.MethodName)) ∈ lw_all := lw_g (lw_at lw_m0 135 rfl) rfl
theorem q174 : (Jvm.Cond.methodLink "PointerSetsLaw" (17 : Nat) ({ cls := "PointerSetsModel", name := "add", desc := "(III)I" } : Jvm.MethodName)) ∈ lw_all := lw_g (lw_at lw_m0 160 rfl) rfl
theorem q190 : (Jvm.Cond.methodLink "PointerSetsLaw" (22 : Nat) ({ cls := "PointerSetsModel", name := "remove", desc := "(I)Z" } : Jvm.MethodName)) ∈ lw_all := lw_g (lw_at lw_m0 176 rfl) rfl
theorem q194 : (Jvm.Cond.methodLink "PointerSetsLaw" (27 : Nat) ({ cls := "PointerSetsModel", name := "statements", desc := "()I" } : Jvm.MethodName)) ∈ lw_all := lw_g (lw_at lw_m0 180 rfl) rfl
theorem q198 : (Jvm.Cond.methodLink "PointerSetsLaw" (32 : Nat) ({ cls := "PointerSetsModel", name := "pointsTo", desc := "(I)I" } : Jvm.MethodName)) ∈ lw_all := lw_g (lw_at lw_m0 184 rfl) rfl
theorem q210 : (Jvm.Cond.methodLink "PointerSetsLaw" (36 : Nat) ({ cls := "PointerSetsModel", name := "pointedBy", desc := "(I)I" } : Jvm.MethodName)) ∈ lw_all := lw_g (lw_at lw_m0 196 rfl) rfl
theorem q214 : (Jvm.Cond.methodLink "PointerSetsLaw" (41 : Nat) ({ cls := "PointerSetsModel", name := "alias", desc := "(II)Z" } : Jvm.MethodName)) ∈ lw_all := lw_g (lw_at lw_m0 200 rfl) rfl
theorem q218 : (Jvm.Cond.methodLink "PointerSetsLaw" (45 : Nat) ({ cls := "PointerSetsModel", name := "reach", desc := "(I)I" } : Jvm.MethodName)) ∈ lw_all := lw_g (lw_at lw_m0 204 rfl) rfl
theorem q226 : (Jvm.Cond.methodLink "PointerSetsLaw" (49 : Nat) ({ cls := "PointerSetsModel", name := "flows", desc := "(II)Z" } : Jvm.MethodName)) ∈ lw_all := lw_g (lw_at lw_m0 212 rfl) rfl
theorem q230 : (Jvm.Cond.methodLink "PointerSetsLaw" (53 : Nat) ({ cls := "PointerSetsModel", name := "total", desc := "()I" } : Jvm.MethodName)) ∈ lw_all := lw_g (lw_at lw_m0 216 rfl) rfl
theorem q234 : (Jvm.Cond.methodLink "PointerSetsLaw" (57 : Nat) ({ cls := "PointerSetsModel", name := "redundant", desc := "(I)Z" } : Jvm.MethodName)) ∈ lw_all := lw_g (lw_at lw_m0 220 rfl) rfl
theorem q238 : (Jvm.Cond.methodLink "PointerSetsLaw" (61 : Nat) ({ cls := "PointerSetsModel", name := "gain", desc := "(III)I" } : Jvm.MethodName)) ∈ lw_all := lw_g (lw_at lw_m0 224 rfl) rfl
theorem q243 : (Jvm.Cond.methodLink "PointerSetsLaw" (65 : Nat) ({ cls := "PointerSetsModel", name := "cyclic", desc := "()I" } : Jvm.MethodName)) ∈ lw_all := lw_g (lw_at lw_m0 229 rfl) rfl
theorem q247 : (Jvm.Cond.methodLink "PointerSetsLaw" (69 : Nat) ({ cls := "PointerSetsModel", name := "twins", desc := "(I)I" } : Jvm.MethodName)) ∈ lw_all := lw_g (lw_at lw_m0 233 rfl) rfl

/-! the law's own entry -/
abbrev cL_law : ByteArray := code
end
section
set_option maxRecDepth 100000
theorem dX0_init_0 : decode cX0_init 0 = .ok (.aload_n 0, 1) := by decide +kernel
theorem dX0_init_1 : decode cX0_init 1 = .ok (.invokespecial 1, 3) := by decide +kernel
theorem dX0_init_4 : decode cX0_init 4 = .ok (.aload_n 0, 1) := by decide +kernel
theorem dX0_init_5 : decode cX0_init 5 = .ok (.bipush 13, 2) := by decide +kernel
theorem dX0_init_7 : decode cX0_init 7 = .ok (.newarray .byte, 2) := by decide +kernel
theorem dX0_init_9 : decode cX0_init 9 = .ok (.putfield 7, 3) := by decide +kernel
theorem dX0_init_12 : decode cX0_init 12 = .ok (.aload_n 0, 1) := by decide +kernel
theorem dX0_init_13 : decode cX0_init 13 = .ok (.bipush 13, 2) := by decide +kernel
theorem dX0_init_15 : decode cX0_init 15 = .ok (.newarray .byte, 2) := by decide +kernel
theorem dX0_init_17 : decode cX0_init 17 = .ok (.putfield 13, 3) := by decide +kernel
theorem dX0_init_20 : decode cX0_init 20 = .ok (.aload_n 0, 1) := by decide +kernel
theorem dX0_init_21 : decode cX0_init 21 = .ok (.bipush 13, 2) := by decide +kernel
theorem dX0_init_23 : decode cX0_init 23 = .ok (.newarray .byte, 2) := by decide +kernel
theorem dX0_init_25 : decode cX0_init 25 = .ok (.putfield 16, 3) := by decide +kernel
theorem dX0_init_28 : decode cX0_init 28 = .ok (.aload_n 0, 1) := by decide +kernel
theorem dX0_init_29 : decode cX0_init 29 = .ok (.bipush 8, 2) := by decide +kernel
theorem dX0_init_31 : decode cX0_init 31 = .ok (.newarray .short, 2) := by decide +kernel
theorem dX0_init_33 : decode cX0_init 33 = .ok (.putfield 19, 3) := by decide +kernel
theorem dX0_init_36 : decode cX0_init 36 = .ok (.aload_n 0, 1) := by decide +kernel
theorem dX0_init_37 : decode cX0_init 37 = .ok (.bipush 8, 2) := by decide +kernel
theorem dX0_init_39 : decode cX0_init 39 = .ok (.newarray .short, 2) := by decide +kernel
theorem dX0_init_41 : decode cX0_init 41 = .ok (.putfield 23, 3) := by decide +kernel
theorem dX0_init_44 : decode cX0_init 44 = .ok (.aload_n 0, 1) := by decide +kernel
theorem dX0_init_45 : decode cX0_init 45 = .ok (.bipush 8, 2) := by decide +kernel
theorem dX0_init_47 : decode cX0_init 47 = .ok (.newarray .short, 2) := by decide +kernel
theorem dX0_init_49 : decode cX0_init 49 = .ok (.putfield 26, 3) := by decide +kernel
theorem dX0_init_52 : decode cX0_init 52 = .ok (.return_, 1) := by decide +kernel
theorem dX0_add_0 : decode cX0_add 0 = .ok (.iload_n 1, 1) := by decide +kernel
theorem dX0_add_1 : decode cX0_add 1 = .ok (.iload_n 2, 1) := by decide +kernel
theorem dX0_add_2 : decode cX0_add 2 = .ok (.iload_n 3, 1) := by decide +kernel
theorem dX0_add_3 : decode cX0_add 3 = .ok (.invokestatic 41, 3) := by decide +kernel
theorem dX0_add_6 : decode cX0_add 6 = .ok (.ifCond .ne 5, 3) := by decide +kernel
theorem dX0_add_9 : decode cX0_add 9 = .ok (.iconst (-1), 1) := by decide +kernel
theorem dX0_add_10 : decode cX0_add 10 = .ok (.ireturn, 1) := by decide +kernel
theorem dX0_add_11 : decode cX0_add 11 = .ok (.iconst 0, 1) := by decide +kernel
theorem dX0_add_12 : decode cX0_add 12 = .ok (.istore 4, 2) := by decide +kernel
theorem dX0_add_14 : decode cX0_add 14 = .ok (.iload 4, 2) := by decide +kernel
theorem dX0_add_16 : decode cX0_add 16 = .ok (.bipush 12, 2) := by decide +kernel
theorem dX0_add_18 : decode cX0_add 18 = .ok (.if_icmp .ge 30, 3) := by decide +kernel
theorem dX0_add_21 : decode cX0_add 21 = .ok (.aload_n 0, 1) := by decide +kernel
theorem dX0_add_22 : decode cX0_add 22 = .ok (.iload 4, 2) := by decide +kernel
theorem dX0_add_24 : decode cX0_add 24 = .ok (.invokevirtual 45, 3) := by decide +kernel
theorem dX0_add_27 : decode cX0_add 27 = .ok (.ifCond .ne 15, 3) := by decide +kernel
theorem dX0_add_30 : decode cX0_add 30 = .ok (.aload_n 0, 1) := by decide +kernel
theorem dX0_add_31 : decode cX0_add 31 = .ok (.iload 4, 2) := by decide +kernel
theorem dX0_add_33 : decode cX0_add 33 = .ok (.iload_n 1, 1) := by decide +kernel
theorem dX0_add_34 : decode cX0_add 34 = .ok (.iload_n 2, 1) := by decide +kernel
theorem dX0_add_35 : decode cX0_add 35 = .ok (.iload_n 3, 1) := by decide +kernel
theorem dX0_add_36 : decode cX0_add 36 = .ok (.invokevirtual 48, 3) := by decide +kernel
theorem dX0_add_39 : decode cX0_add 39 = .ok (.iload 4, 2) := by decide +kernel
theorem dX0_add_41 : decode cX0_add 41 = .ok (.ireturn, 1) := by decide +kernel
theorem dX0_add_42 : decode cX0_add 42 = .ok (.iinc 4 1, 3) := by decide +kernel
theorem dX0_add_45 : decode cX0_add 45 = .ok (.goto (-31), 3) := by decide +kernel
theorem dX0_add_48 : decode cX0_add 48 = .ok (.bipush (-2), 2) := by decide +kernel
theorem dX0_add_50 : decode cX0_add 50 = .ok (.ireturn, 1) := by decide +kernel
theorem dX0_statementOk_0 : decode cX0_statementOk 0 = .ok (.iload_n 0, 1) := by decide +kernel
theorem dX0_statementOk_1 : decode cX0_statementOk 1 = .ok (.ifCond .lt 26, 3) := by decide +kernel
theorem dX0_statementOk_4 : decode cX0_statementOk 4 = .ok (.iload_n 0, 1) := by decide +kernel
theorem dX0_statementOk_5 : decode cX0_statementOk 5 = .ok (.iconst 3, 1) := by decide +kernel
theorem dX0_statementOk_6 : decode cX0_statementOk 6 = .ok (.if_icmp .gt 21, 3) := by decide +kernel
theorem dX0_statementOk_9 : decode cX0_statementOk 9 = .ok (.iload_n 1, 1) := by decide +kernel
theorem dX0_statementOk_10 : decode cX0_statementOk 10 = .ok (.invokestatic 37, 3) := by decide +kernel
theorem dX0_statementOk_13 : decode cX0_statementOk 13 = .ok (.ifCond .eq 14, 3) := by decide +kernel
theorem dX0_statementOk_16 : decode cX0_statementOk 16 = .ok (.iload_n 2, 1) := by decide +kernel
theorem dX0_statementOk_17 : decode cX0_statementOk 17 = .ok (.invokestatic 37, 3) := by decide +kernel
theorem dX0_statementOk_20 : decode cX0_statementOk 20 = .ok (.ifCond .eq 7, 3) := by decide +kernel
theorem dX0_statementOk_23 : decode cX0_statementOk 23 = .ok (.iconst 1, 1) := by decide +kernel
theorem dX0_statementOk_24 : decode cX0_statementOk 24 = .ok (.goto 4, 3) := by decide +kernel
theorem dX0_statementOk_27 : decode cX0_statementOk 27 = .ok (.iconst 0, 1) := by decide +kernel
theorem dX0_statementOk_28 : decode cX0_statementOk 28 = .ok (.ireturn, 1) := by decide +kernel
theorem dX0_isVariable_0 : decode cX0_isVariable 0 = .ok (.iload_n 0, 1) := by decide +kernel
theorem dX0_isVariable_1 : decode cX0_isVariable 1 = .ok (.ifCond .lt 13, 3) := by decide +kernel
theorem dX0_isVariable_4 : decode cX0_isVariable 4 = .ok (.iload_n 0, 1) := by decide +kernel
theorem dX0_isVariable_5 : decode cX0_isVariable 5 = .ok (.bipush 8, 2) := by decide +kernel
theorem dX0_isVariable_7 : decode cX0_isVariable 7 = .ok (.if_icmp .ge 7, 3) := by decide +kernel
theorem dX0_isVariable_10 : decode cX0_isVariable 10 = .ok (.iconst 1, 1) := by decide +kernel
theorem dX0_isVariable_11 : decode cX0_isVariable 11 = .ok (.goto 4, 3) := by decide +kernel
theorem dX0_isVariable_14 : decode cX0_isVariable 14 = .ok (.iconst 0, 1) := by decide +kernel
theorem dX0_isVariable_15 : decode cX0_isVariable 15 = .ok (.ireturn, 1) := by decide +kernel
theorem dX0_has_0 : decode cX0_has 0 = .ok (.iload_n 1, 1) := by decide +kernel
theorem dX0_has_1 : decode cX0_has 1 = .ok (.ifCond .lt 24, 3) := by decide +kernel
theorem dX0_has_4 : decode cX0_has 4 = .ok (.iload_n 1, 1) := by decide +kernel
theorem dX0_has_5 : decode cX0_has 5 = .ok (.bipush 12, 2) := by decide +kernel
theorem dX0_has_7 : decode cX0_has 7 = .ok (.if_icmp .ge 18, 3) := by decide +kernel
theorem dX0_has_10 : decode cX0_has 10 = .ok (.aload_n 0, 1) := by decide +kernel
theorem dX0_has_11 : decode cX0_has 11 = .ok (.getfield 29, 3) := by decide +kernel
theorem dX0_has_14 : decode cX0_has 14 = .ok (.iload_n 1, 1) := by decide +kernel
theorem dX0_has_15 : decode cX0_has 15 = .ok (.ishr, 1) := by decide +kernel
theorem dX0_has_16 : decode cX0_has 16 = .ok (.iconst 1, 1) := by decide +kernel
theorem dX0_has_17 : decode cX0_has 17 = .ok (.iand, 1) := by decide +kernel
theorem dX0_has_18 : decode cX0_has 18 = .ok (.ifCond .eq 7, 3) := by decide +kernel
theorem dX0_has_21 : decode cX0_has 21 = .ok (.iconst 1, 1) := by decide +kernel
theorem dX0_has_22 : decode cX0_has 22 = .ok (.goto 4, 3) := by decide +kernel
theorem dX0_has_25 : decode cX0_has 25 = .ok (.iconst 0, 1) := by decide +kernel
theorem dX0_has_26 : decode cX0_has 26 = .ok (.ireturn, 1) := by decide +kernel
theorem dX0_write_0 : decode cX0_write 0 = .ok (.aload_n 0, 1) := by decide +kernel
theorem dX0_write_1 : decode cX0_write 1 = .ok (.getfield 7, 3) := by decide +kernel
theorem dX0_write_4 : decode cX0_write 4 = .ok (.iload_n 1, 1) := by decide +kernel
theorem dX0_write_5 : decode cX0_write 5 = .ok (.iload_n 2, 1) := by decide +kernel
theorem dX0_write_6 : decode cX0_write 6 = .ok (.i2b, 1) := by decide +kernel
theorem dX0_write_7 : decode cX0_write 7 = .ok (.bastore, 1) := by decide +kernel
theorem dX0_write_8 : decode cX0_write 8 = .ok (.aload_n 0, 1) := by decide +kernel
theorem dX0_write_9 : decode cX0_write 9 = .ok (.getfield 13, 3) := by decide +kernel
theorem dX0_write_12 : decode cX0_write 12 = .ok (.iload_n 1, 1) := by decide +kernel
theorem dX0_write_13 : decode cX0_write 13 = .ok (.iload_n 3, 1) := by decide +kernel
theorem dX0_write_14 : decode cX0_write 14 = .ok (.i2b, 1) := by decide +kernel
theorem dX0_write_15 : decode cX0_write 15 = .ok (.bastore, 1) := by decide +kernel
theorem dX0_write_16 : decode cX0_write 16 = .ok (.aload_n 0, 1) := by decide +kernel
theorem dX0_write_17 : decode cX0_write 17 = .ok (.getfield 16, 3) := by decide +kernel
theorem dX0_write_20 : decode cX0_write 20 = .ok (.iload_n 1, 1) := by decide +kernel
theorem dX0_write_21 : decode cX0_write 21 = .ok (.iload 4, 2) := by decide +kernel
theorem dX0_write_23 : decode cX0_write 23 = .ok (.i2b, 1) := by decide +kernel
theorem dX0_write_24 : decode cX0_write 24 = .ok (.bastore, 1) := by decide +kernel
theorem dX0_write_25 : decode cX0_write 25 = .ok (.aload_n 0, 1) := by decide +kernel
theorem dX0_write_26 : decode cX0_write 26 = .ok (.dup, 1) := by decide +kernel
theorem dX0_write_27 : decode cX0_write 27 = .ok (.getfield 29, 3) := by decide +kernel
theorem dX0_write_30 : decode cX0_write 30 = .ok (.iconst 1, 1) := by decide +kernel
theorem dX0_write_31 : decode cX0_write 31 = .ok (.iload_n 1, 1) := by decide +kernel
theorem dX0_write_32 : decode cX0_write 32 = .ok (.ishl, 1) := by decide +kernel
theorem dX0_write_33 : decode cX0_write 33 = .ok (.ior, 1) := by decide +kernel
theorem dX0_write_34 : decode cX0_write 34 = .ok (.putfield 29, 3) := by decide +kernel
theorem dX0_write_37 : decode cX0_write 37 = .ok (.aload_n 0, 1) := by decide +kernel
theorem dX0_write_38 : decode cX0_write 38 = .ok (.iconst 0, 1) := by decide +kernel
theorem dX0_write_39 : decode cX0_write 39 = .ok (.putfield 33, 3) := by decide +kernel
theorem dX0_write_42 : decode cX0_write 42 = .ok (.return_, 1) := by decide +kernel
theorem dX0_remove_0 : decode cX0_remove 0 = .ok (.aload_n 0, 1) := by decide +kernel
theorem dX0_remove_1 : decode cX0_remove 1 = .ok (.iload_n 1, 1) := by decide +kernel
theorem dX0_remove_2 : decode cX0_remove 2 = .ok (.invokevirtual 45, 3) := by decide +kernel
theorem dX0_remove_5 : decode cX0_remove 5 = .ok (.ifCond .ne 5, 3) := by decide +kernel
theorem dX0_remove_8 : decode cX0_remove 8 = .ok (.iconst 0, 1) := by decide +kernel
theorem dX0_remove_9 : decode cX0_remove 9 = .ok (.ireturn, 1) := by decide +kernel
theorem dX0_remove_10 : decode cX0_remove 10 = .ok (.aload_n 0, 1) := by decide +kernel
theorem dX0_remove_11 : decode cX0_remove 11 = .ok (.dup, 1) := by decide +kernel
theorem dX0_remove_12 : decode cX0_remove 12 = .ok (.getfield 29, 3) := by decide +kernel
theorem dX0_remove_15 : decode cX0_remove 15 = .ok (.iconst 1, 1) := by decide +kernel
theorem dX0_remove_16 : decode cX0_remove 16 = .ok (.iload_n 1, 1) := by decide +kernel
theorem dX0_remove_17 : decode cX0_remove 17 = .ok (.ishl, 1) := by decide +kernel
theorem dX0_remove_18 : decode cX0_remove 18 = .ok (.iconst (-1), 1) := by decide +kernel
theorem dX0_remove_19 : decode cX0_remove 19 = .ok (.ixor, 1) := by decide +kernel
theorem dX0_remove_20 : decode cX0_remove 20 = .ok (.iand, 1) := by decide +kernel
theorem dX0_remove_21 : decode cX0_remove 21 = .ok (.putfield 29, 3) := by decide +kernel
theorem dX0_remove_24 : decode cX0_remove 24 = .ok (.aload_n 0, 1) := by decide +kernel
theorem dX0_remove_25 : decode cX0_remove 25 = .ok (.iconst 0, 1) := by decide +kernel
theorem dX0_remove_26 : decode cX0_remove 26 = .ok (.putfield 33, 3) := by decide +kernel
theorem dX0_remove_29 : decode cX0_remove 29 = .ok (.iconst 1, 1) := by decide +kernel
theorem dX0_remove_30 : decode cX0_remove 30 = .ok (.ireturn, 1) := by decide +kernel
theorem dX0_statements_0 : decode cX0_statements 0 = .ok (.aload_n 0, 1) := by decide +kernel
theorem dX0_statements_1 : decode cX0_statements 1 = .ok (.getfield 29, 3) := by decide +kernel
theorem dX0_statements_4 : decode cX0_statements 4 = .ok (.ireturn, 1) := by decide +kernel
theorem dX0_pointsTo_0 : decode cX0_pointsTo 0 = .ok (.iload_n 1, 1) := by decide +kernel
theorem dX0_pointsTo_1 : decode cX0_pointsTo 1 = .ok (.invokestatic 37, 3) := by decide +kernel
theorem dX0_pointsTo_4 : decode cX0_pointsTo 4 = .ok (.ifCond .ne 5, 3) := by decide +kernel
theorem dX0_pointsTo_7 : decode cX0_pointsTo 7 = .ok (.iconst 0, 1) := by decide +kernel
theorem dX0_pointsTo_8 : decode cX0_pointsTo 8 = .ok (.ireturn, 1) := by decide +kernel
theorem dX0_pointsTo_9 : decode cX0_pointsTo 9 = .ok (.aload_n 0, 1) := by decide +kernel
theorem dX0_pointsTo_10 : decode cX0_pointsTo 10 = .ok (.invokevirtual 75, 3) := by decide +kernel
theorem dX0_pointsTo_13 : decode cX0_pointsTo 13 = .ok (.aload_n 0, 1) := by decide +kernel
theorem dX0_pointsTo_14 : decode cX0_pointsTo 14 = .ok (.getfield 19, 3) := by decide +kernel
theorem dX0_pointsTo_17 : decode cX0_pointsTo 17 = .ok (.iload_n 1, 1) := by decide +kernel
theorem dX0_pointsTo_18 : decode cX0_pointsTo 18 = .ok (.saload, 1) := by decide +kernel
theorem dX0_pointsTo_19 : decode cX0_pointsTo 19 = .ok (.ireturn, 1) := by decide +kernel
theorem dX0_solve_0 : decode cX0_solve 0 = .ok (.aload_n 0, 1) := by decide +kernel
theorem dX0_solve_1 : decode cX0_solve 1 = .ok (.getfield 33, 3) := by decide +kernel
theorem dX0_solve_4 : decode cX0_solve 4 = .ok (.ifCond .eq 4, 3) := by decide +kernel
theorem dX0_solve_7 : decode cX0_solve 7 = .ok (.return_, 1) := by decide +kernel
theorem dX0_solve_8 : decode cX0_solve 8 = .ok (.aload_n 0, 1) := by decide +kernel
theorem dX0_solve_9 : decode cX0_solve 9 = .ok (.iconst 1, 1) := by decide +kernel
theorem dX0_solve_10 : decode cX0_solve 10 = .ok (.putfield 33, 3) := by decide +kernel
theorem dX0_solve_13 : decode cX0_solve 13 = .ok (.iconst 0, 1) := by decide +kernel
theorem dX0_solve_14 : decode cX0_solve 14 = .ok (.istore_n 1, 1) := by decide +kernel
theorem dX0_solve_15 : decode cX0_solve 15 = .ok (.iload_n 1, 1) := by decide +kernel
theorem dX0_solve_16 : decode cX0_solve 16 = .ok (.bipush 8, 2) := by decide +kernel
theorem dX0_solve_18 : decode cX0_solve 18 = .ok (.if_icmp .ge 30, 3) := by decide +kernel
theorem dX0_solve_21 : decode cX0_solve 21 = .ok (.aload_n 0, 1) := by decide +kernel
theorem dX0_solve_22 : decode cX0_solve 22 = .ok (.getfield 19, 3) := by decide +kernel
theorem dX0_solve_25 : decode cX0_solve 25 = .ok (.iload_n 1, 1) := by decide +kernel
theorem dX0_solve_26 : decode cX0_solve 26 = .ok (.iconst 0, 1) := by decide +kernel
theorem dX0_solve_27 : decode cX0_solve 27 = .ok (.sastore, 1) := by decide +kernel
theorem dX0_solve_28 : decode cX0_solve 28 = .ok (.aload_n 0, 1) := by decide +kernel
theorem dX0_solve_29 : decode cX0_solve 29 = .ok (.getfield 23, 3) := by decide +kernel
theorem dX0_solve_32 : decode cX0_solve 32 = .ok (.iload_n 1, 1) := by decide +kernel
theorem dX0_solve_33 : decode cX0_solve 33 = .ok (.iconst 0, 1) := by decide +kernel
theorem dX0_solve_34 : decode cX0_solve 34 = .ok (.sastore, 1) := by decide +kernel
theorem dX0_solve_35 : decode cX0_solve 35 = .ok (.aload_n 0, 1) := by decide +kernel
theorem dX0_solve_36 : decode cX0_solve 36 = .ok (.getfield 26, 3) := by decide +kernel
theorem dX0_solve_39 : decode cX0_solve 39 = .ok (.iload_n 1, 1) := by decide +kernel
theorem dX0_solve_40 : decode cX0_solve 40 = .ok (.iconst 0, 1) := by decide +kernel
theorem dX0_solve_41 : decode cX0_solve 41 = .ok (.sastore, 1) := by decide +kernel
theorem dX0_solve_42 : decode cX0_solve 42 = .ok (.iinc 1 1, 3) := by decide +kernel
theorem dX0_solve_45 : decode cX0_solve 45 = .ok (.goto (-30), 3) := by decide +kernel
theorem dX0_solve_48 : decode cX0_solve 48 = .ok (.iconst 0, 1) := by decide +kernel
theorem dX0_solve_49 : decode cX0_solve 49 = .ok (.istore_n 1, 1) := by decide +kernel
theorem dX0_solve_50 : decode cX0_solve 50 = .ok (.iload_n 1, 1) := by decide +kernel
theorem dX0_solve_51 : decode cX0_solve 51 = .ok (.bipush 12, 2) := by decide +kernel
theorem dX0_solve_53 : decode cX0_solve 53 = .ok (.if_icmp .gt 87, 3) := by decide +kernel
theorem dX0_solve_56 : decode cX0_solve 56 = .ok (.aload_n 0, 1) := by decide +kernel
theorem dX0_solve_57 : decode cX0_solve 57 = .ok (.getfield 29, 3) := by decide +kernel
theorem dX0_solve_60 : decode cX0_solve 60 = .ok (.iload_n 1, 1) := by decide +kernel
theorem dX0_solve_61 : decode cX0_solve 61 = .ok (.ishr, 1) := by decide +kernel
theorem dX0_solve_62 : decode cX0_solve 62 = .ok (.iconst 1, 1) := by decide +kernel
theorem dX0_solve_63 : decode cX0_solve 63 = .ok (.iand, 1) := by decide +kernel
theorem dX0_solve_64 : decode cX0_solve 64 = .ok (.ifCond .eq 33, 3) := by decide +kernel
theorem dX0_solve_67 : decode cX0_solve 67 = .ok (.aload_n 0, 1) := by decide +kernel
theorem dX0_solve_68 : decode cX0_solve 68 = .ok (.getfield 7, 3) := by decide +kernel
theorem dX0_solve_71 : decode cX0_solve 71 = .ok (.iload_n 1, 1) := by decide +kernel
theorem dX0_solve_72 : decode cX0_solve 72 = .ok (.baload, 1) := by decide +kernel
theorem dX0_solve_73 : decode cX0_solve 73 = .ok (.ifCond .ne 24, 3) := by decide +kernel
theorem dX0_solve_76 : decode cX0_solve 76 = .ok (.aload_n 0, 1) := by decide +kernel
theorem dX0_solve_77 : decode cX0_solve 77 = .ok (.aload_n 0, 1) := by decide +kernel
theorem dX0_solve_78 : decode cX0_solve 78 = .ok (.getfield 13, 3) := by decide +kernel
theorem dX0_solve_81 : decode cX0_solve 81 = .ok (.iload_n 1, 1) := by decide +kernel
theorem dX0_solve_82 : decode cX0_solve 82 = .ok (.baload, 1) := by decide +kernel
theorem dX0_solve_83 : decode cX0_solve 83 = .ok (.iconst 1, 1) := by decide +kernel
theorem dX0_solve_84 : decode cX0_solve 84 = .ok (.aload_n 0, 1) := by decide +kernel
theorem dX0_solve_85 : decode cX0_solve 85 = .ok (.getfield 16, 3) := by decide +kernel
theorem dX0_solve_88 : decode cX0_solve 88 = .ok (.iload_n 1, 1) := by decide +kernel
theorem dX0_solve_89 : decode cX0_solve 89 = .ok (.baload, 1) := by decide +kernel
theorem dX0_solve_90 : decode cX0_solve 90 = .ok (.ishl, 1) := by decide +kernel
theorem dX0_solve_91 : decode cX0_solve 91 = .ok (.invokevirtual 56, 3) := by decide +kernel
theorem dX0_solve_94 : decode cX0_solve 94 = .ok (.goto 40, 3) := by decide +kernel
theorem dX0_solve_97 : decode cX0_solve 97 = .ok (.aload_n 0, 1) := by decide +kernel
theorem dX0_solve_98 : decode cX0_solve 98 = .ok (.getfield 29, 3) := by decide +kernel
theorem dX0_solve_101 : decode cX0_solve 101 = .ok (.iload_n 1, 1) := by decide +kernel
theorem dX0_solve_102 : decode cX0_solve 102 = .ok (.ishr, 1) := by decide +kernel
theorem dX0_solve_103 : decode cX0_solve 103 = .ok (.iconst 1, 1) := by decide +kernel
theorem dX0_solve_104 : decode cX0_solve 104 = .ok (.iand, 1) := by decide +kernel
theorem dX0_solve_105 : decode cX0_solve 105 = .ok (.ifCond .eq 29, 3) := by decide +kernel
theorem dX0_solve_108 : decode cX0_solve 108 = .ok (.aload_n 0, 1) := by decide +kernel
theorem dX0_solve_109 : decode cX0_solve 109 = .ok (.getfield 7, 3) := by decide +kernel
theorem dX0_solve_112 : decode cX0_solve 112 = .ok (.iload_n 1, 1) := by decide +kernel
theorem dX0_solve_113 : decode cX0_solve 113 = .ok (.baload, 1) := by decide +kernel
theorem dX0_solve_114 : decode cX0_solve 114 = .ok (.iconst 1, 1) := by decide +kernel
theorem dX0_solve_115 : decode cX0_solve 115 = .ok (.if_icmp .ne 19, 3) := by decide +kernel
theorem dX0_solve_118 : decode cX0_solve 118 = .ok (.aload_n 0, 1) := by decide +kernel
theorem dX0_solve_119 : decode cX0_solve 119 = .ok (.aload_n 0, 1) := by decide +kernel
theorem dX0_solve_120 : decode cX0_solve 120 = .ok (.getfield 16, 3) := by decide +kernel
theorem dX0_solve_123 : decode cX0_solve 123 = .ok (.iload_n 1, 1) := by decide +kernel
theorem dX0_solve_124 : decode cX0_solve 124 = .ok (.baload, 1) := by decide +kernel
theorem dX0_solve_125 : decode cX0_solve 125 = .ok (.aload_n 0, 1) := by decide +kernel
theorem dX0_solve_126 : decode cX0_solve 126 = .ok (.getfield 13, 3) := by decide +kernel
theorem dX0_solve_129 : decode cX0_solve 129 = .ok (.iload_n 1, 1) := by decide +kernel
theorem dX0_solve_130 : decode cX0_solve 130 = .ok (.baload, 1) := by decide +kernel
theorem dX0_solve_131 : decode cX0_solve 131 = .ok (.invokevirtual 60, 3) := by decide +kernel
theorem dX0_solve_134 : decode cX0_solve 134 = .ok (.iinc 1 1, 3) := by decide +kernel
theorem dX0_solve_137 : decode cX0_solve 137 = .ok (.goto (-87), 3) := by decide +kernel
theorem dX0_solve_140 : decode cX0_solve 140 = .ok (.iconst 0, 1) := by decide +kernel
theorem dX0_solve_141 : decode cX0_solve 141 = .ok (.istore_n 1, 1) := by decide +kernel
theorem dX0_solve_142 : decode cX0_solve 142 = .ok (.iload_n 1, 1) := by decide +kernel
theorem dX0_solve_143 : decode cX0_solve 143 = .ok (.bipush 65, 2) := by decide +kernel
theorem dX0_solve_145 : decode cX0_solve 145 = .ok (.if_icmp .ge 24, 3) := by decide +kernel
theorem dX0_solve_148 : decode cX0_solve 148 = .ok (.aload_n 0, 1) := by decide +kernel
theorem dX0_solve_149 : decode cX0_solve 149 = .ok (.invokevirtual 63, 3) := by decide +kernel
theorem dX0_solve_152 : decode cX0_solve 152 = .ok (.istore_n 2, 1) := by decide +kernel
theorem dX0_solve_153 : decode cX0_solve 153 = .ok (.iload_n 2, 1) := by decide +kernel
theorem dX0_solve_154 : decode cX0_solve 154 = .ok (.ifCond .ge 4, 3) := by decide +kernel
theorem dX0_solve_157 : decode cX0_solve 157 = .ok (.return_, 1) := by decide +kernel
theorem dX0_solve_158 : decode cX0_solve 158 = .ok (.aload_n 0, 1) := by decide +kernel
theorem dX0_solve_159 : decode cX0_solve 159 = .ok (.iload_n 2, 1) := by decide +kernel
theorem dX0_solve_160 : decode cX0_solve 160 = .ok (.invokevirtual 67, 3) := by decide +kernel
theorem dX0_solve_163 : decode cX0_solve 163 = .ok (.iinc 1 1, 3) := by decide +kernel
theorem dX0_solve_166 : decode cX0_solve 166 = .ok (.goto (-24), 3) := by decide +kernel
theorem dX0_solve_169 : decode cX0_solve 169 = .ok (.return_, 1) := by decide +kernel
theorem dX0_point_0 : decode cX0_point 0 = .ok (.iload_n 2, 1) := by decide +kernel
theorem dX0_point_1 : decode cX0_point 1 = .ok (.aload_n 0, 1) := by decide +kernel
theorem dX0_point_2 : decode cX0_point 2 = .ok (.getfield 19, 3) := by decide +kernel
theorem dX0_point_5 : decode cX0_point 5 = .ok (.iload_n 1, 1) := by decide +kernel
theorem dX0_point_6 : decode cX0_point 6 = .ok (.saload, 1) := by decide +kernel
theorem dX0_point_7 : decode cX0_point 7 = .ok (.iconst (-1), 1) := by decide +kernel
theorem dX0_point_8 : decode cX0_point 8 = .ok (.ixor, 1) := by decide +kernel
theorem dX0_point_9 : decode cX0_point 9 = .ok (.iand, 1) := by decide +kernel
theorem dX0_point_10 : decode cX0_point 10 = .ok (.istore_n 3, 1) := by decide +kernel
theorem dX0_point_11 : decode cX0_point 11 = .ok (.aload_n 0, 1) := by decide +kernel
theorem dX0_point_12 : decode cX0_point 12 = .ok (.getfield 19, 3) := by decide +kernel
theorem dX0_point_15 : decode cX0_point 15 = .ok (.iload_n 1, 1) := by decide +kernel
theorem dX0_point_16 : decode cX0_point 16 = .ok (.aload_n 0, 1) := by decide +kernel
theorem dX0_point_17 : decode cX0_point 17 = .ok (.getfield 19, 3) := by decide +kernel
theorem dX0_point_20 : decode cX0_point 20 = .ok (.iload_n 1, 1) := by decide +kernel
theorem dX0_point_21 : decode cX0_point 21 = .ok (.saload, 1) := by decide +kernel
theorem dX0_point_22 : decode cX0_point 22 = .ok (.iload_n 3, 1) := by decide +kernel
theorem dX0_point_23 : decode cX0_point 23 = .ok (.ior, 1) := by decide +kernel
theorem dX0_point_24 : decode cX0_point 24 = .ok (.i2s, 1) := by decide +kernel
theorem dX0_point_25 : decode cX0_point 25 = .ok (.sastore, 1) := by decide +kernel
theorem dX0_point_26 : decode cX0_point 26 = .ok (.aload_n 0, 1) := by decide +kernel
theorem dX0_point_27 : decode cX0_point 27 = .ok (.getfield 23, 3) := by decide +kernel
theorem dX0_point_30 : decode cX0_point 30 = .ok (.iload_n 1, 1) := by decide +kernel
theorem dX0_point_31 : decode cX0_point 31 = .ok (.aload_n 0, 1) := by decide +kernel
theorem dX0_point_32 : decode cX0_point 32 = .ok (.getfield 23, 3) := by decide +kernel
theorem dX0_point_35 : decode cX0_point 35 = .ok (.iload_n 1, 1) := by decide +kernel
theorem dX0_point_36 : decode cX0_point 36 = .ok (.saload, 1) := by decide +kernel
theorem dX0_point_37 : decode cX0_point 37 = .ok (.iload_n 3, 1) := by decide +kernel
theorem dX0_point_38 : decode cX0_point 38 = .ok (.ior, 1) := by decide +kernel
theorem dX0_point_39 : decode cX0_point 39 = .ok (.i2s, 1) := by decide +kernel
theorem dX0_point_40 : decode cX0_point 40 = .ok (.sastore, 1) := by decide +kernel
theorem dX0_point_41 : decode cX0_point 41 = .ok (.return_, 1) := by decide +kernel
theorem dX0_link_0 : decode cX0_link 0 = .ok (.aload_n 0, 1) := by decide +kernel
theorem dX0_link_1 : decode cX0_link 1 = .ok (.getfield 26, 3) := by decide +kernel
theorem dX0_link_4 : decode cX0_link 4 = .ok (.iload_n 1, 1) := by decide +kernel
theorem dX0_link_5 : decode cX0_link 5 = .ok (.saload, 1) := by decide +kernel
theorem dX0_link_6 : decode cX0_link 6 = .ok (.iload_n 2, 1) := by decide +kernel
theorem dX0_link_7 : decode cX0_link 7 = .ok (.invokestatic 52, 3) := by decide +kernel
theorem dX0_link_10 : decode cX0_link 10 = .ok (.ifCond .ne 31, 3) := by decide +kernel
theorem dX0_link_13 : decode cX0_link 13 = .ok (.aload_n 0, 1) := by decide +kernel
theorem dX0_link_14 : decode cX0_link 14 = .ok (.getfield 26, 3) := by decide +kernel
theorem dX0_link_17 : decode cX0_link 17 = .ok (.iload_n 1, 1) := by decide +kernel
theorem dX0_link_18 : decode cX0_link 18 = .ok (.aload_n 0, 1) := by decide +kernel
theorem dX0_link_19 : decode cX0_link 19 = .ok (.getfield 26, 3) := by decide +kernel
theorem dX0_link_22 : decode cX0_link 22 = .ok (.iload_n 1, 1) := by decide +kernel
theorem dX0_link_23 : decode cX0_link 23 = .ok (.saload, 1) := by decide +kernel
theorem dX0_link_24 : decode cX0_link 24 = .ok (.iconst 1, 1) := by decide +kernel
theorem dX0_link_25 : decode cX0_link 25 = .ok (.iload_n 2, 1) := by decide +kernel
theorem dX0_link_26 : decode cX0_link 26 = .ok (.ishl, 1) := by decide +kernel
theorem dX0_link_27 : decode cX0_link 27 = .ok (.ior, 1) := by decide +kernel
theorem dX0_link_28 : decode cX0_link 28 = .ok (.i2s, 1) := by decide +kernel
theorem dX0_link_29 : decode cX0_link 29 = .ok (.sastore, 1) := by decide +kernel
theorem dX0_link_30 : decode cX0_link 30 = .ok (.aload_n 0, 1) := by decide +kernel
theorem dX0_link_31 : decode cX0_link 31 = .ok (.iload_n 2, 1) := by decide +kernel
theorem dX0_link_32 : decode cX0_link 32 = .ok (.aload_n 0, 1) := by decide +kernel
theorem dX0_link_33 : decode cX0_link 33 = .ok (.getfield 19, 3) := by decide +kernel
theorem dX0_link_36 : decode cX0_link 36 = .ok (.iload_n 1, 1) := by decide +kernel
theorem dX0_link_37 : decode cX0_link 37 = .ok (.saload, 1) := by decide +kernel
theorem dX0_link_38 : decode cX0_link 38 = .ok (.invokevirtual 56, 3) := by decide +kernel
theorem dX0_link_41 : decode cX0_link 41 = .ok (.return_, 1) := by decide +kernel
theorem dX0_in_0 : decode cX0_in 0 = .ok (.iload_n 0, 1) := by decide +kernel
theorem dX0_in_1 : decode cX0_in 1 = .ok (.iload_n 1, 1) := by decide +kernel
theorem dX0_in_2 : decode cX0_in 2 = .ok (.ishr, 1) := by decide +kernel
theorem dX0_in_3 : decode cX0_in 3 = .ok (.iconst 1, 1) := by decide +kernel
theorem dX0_in_4 : decode cX0_in 4 = .ok (.iand, 1) := by decide +kernel
theorem dX0_in_5 : decode cX0_in 5 = .ok (.ifCond .eq 7, 3) := by decide +kernel
theorem dX0_in_8 : decode cX0_in 8 = .ok (.iconst 1, 1) := by decide +kernel
theorem dX0_in_9 : decode cX0_in 9 = .ok (.goto 4, 3) := by decide +kernel
theorem dX0_in_12 : decode cX0_in 12 = .ok (.iconst 0, 1) := by decide +kernel
theorem dX0_in_13 : decode cX0_in 13 = .ok (.ireturn, 1) := by decide +kernel
theorem dX0_waiting_0 : decode cX0_waiting 0 = .ok (.iconst 0, 1) := by decide +kernel
theorem dX0_waiting_1 : decode cX0_waiting 1 = .ok (.istore_n 1, 1) := by decide +kernel
theorem dX0_waiting_2 : decode cX0_waiting 2 = .ok (.iload_n 1, 1) := by decide +kernel
theorem dX0_waiting_3 : decode cX0_waiting 3 = .ok (.bipush 8, 2) := by decide +kernel
theorem dX0_waiting_5 : decode cX0_waiting 5 = .ok (.if_icmp .ge 20, 3) := by decide +kernel
theorem dX0_waiting_8 : decode cX0_waiting 8 = .ok (.aload_n 0, 1) := by decide +kernel
theorem dX0_waiting_9 : decode cX0_waiting 9 = .ok (.getfield 23, 3) := by decide +kernel
theorem dX0_waiting_12 : decode cX0_waiting 12 = .ok (.iload_n 1, 1) := by decide +kernel
theorem dX0_waiting_13 : decode cX0_waiting 13 = .ok (.saload, 1) := by decide +kernel
theorem dX0_waiting_14 : decode cX0_waiting 14 = .ok (.ifCond .eq 5, 3) := by decide +kernel
theorem dX0_waiting_17 : decode cX0_waiting 17 = .ok (.iload_n 1, 1) := by decide +kernel
theorem dX0_waiting_18 : decode cX0_waiting 18 = .ok (.ireturn, 1) := by decide +kernel
theorem dX0_waiting_19 : decode cX0_waiting 19 = .ok (.iinc 1 1, 3) := by decide +kernel
theorem dX0_waiting_22 : decode cX0_waiting 22 = .ok (.goto (-20), 3) := by decide +kernel
theorem dX0_waiting_25 : decode cX0_waiting 25 = .ok (.iconst (-1), 1) := by decide +kernel
theorem dX0_waiting_26 : decode cX0_waiting 26 = .ok (.ireturn, 1) := by decide +kernel
theorem dX0_passOn_0 : decode cX0_passOn 0 = .ok (.aload_n 0, 1) := by decide +kernel
theorem dX0_passOn_1 : decode cX0_passOn 1 = .ok (.getfield 23, 3) := by decide +kernel
theorem dX0_passOn_4 : decode cX0_passOn 4 = .ok (.iload_n 1, 1) := by decide +kernel
theorem dX0_passOn_5 : decode cX0_passOn 5 = .ok (.saload, 1) := by decide +kernel
theorem dX0_passOn_6 : decode cX0_passOn 6 = .ok (.istore_n 2, 1) := by decide +kernel
theorem dX0_passOn_7 : decode cX0_passOn 7 = .ok (.aload_n 0, 1) := by decide +kernel
theorem dX0_passOn_8 : decode cX0_passOn 8 = .ok (.getfield 23, 3) := by decide +kernel
theorem dX0_passOn_11 : decode cX0_passOn 11 = .ok (.iload_n 1, 1) := by decide +kernel
theorem dX0_passOn_12 : decode cX0_passOn 12 = .ok (.iconst 0, 1) := by decide +kernel
theorem dX0_passOn_13 : decode cX0_passOn 13 = .ok (.sastore, 1) := by decide +kernel
theorem dX0_passOn_14 : decode cX0_passOn 14 = .ok (.iconst 0, 1) := by decide +kernel
theorem dX0_passOn_15 : decode cX0_passOn 15 = .ok (.istore_n 3, 1) := by decide +kernel
theorem dX0_passOn_16 : decode cX0_passOn 16 = .ok (.iload_n 3, 1) := by decide +kernel
theorem dX0_passOn_17 : decode cX0_passOn 17 = .ok (.bipush 12, 2) := by decide +kernel
theorem dX0_passOn_19 : decode cX0_passOn 19 = .ok (.if_icmp .gt 27, 3) := by decide +kernel
theorem dX0_passOn_22 : decode cX0_passOn 22 = .ok (.aload_n 0, 1) := by decide +kernel
theorem dX0_passOn_23 : decode cX0_passOn 23 = .ok (.getfield 29, 3) := by decide +kernel
theorem dX0_passOn_26 : decode cX0_passOn 26 = .ok (.iload_n 3, 1) := by decide +kernel
theorem dX0_passOn_27 : decode cX0_passOn 27 = .ok (.ishr, 1) := by decide +kernel
theorem dX0_passOn_28 : decode cX0_passOn 28 = .ok (.iconst 1, 1) := by decide +kernel
theorem dX0_passOn_29 : decode cX0_passOn 29 = .ok (.iand, 1) := by decide +kernel
theorem dX0_passOn_30 : decode cX0_passOn 30 = .ok (.ifCond .eq 10, 3) := by decide +kernel
theorem dX0_passOn_33 : decode cX0_passOn 33 = .ok (.aload_n 0, 1) := by decide +kernel
theorem dX0_passOn_34 : decode cX0_passOn 34 = .ok (.iload_n 3, 1) := by decide +kernel
theorem dX0_passOn_35 : decode cX0_passOn 35 = .ok (.iload_n 1, 1) := by decide +kernel
theorem dX0_passOn_36 : decode cX0_passOn 36 = .ok (.iload_n 2, 1) := by decide +kernel
theorem dX0_passOn_37 : decode cX0_passOn 37 = .ok (.invokevirtual 71, 3) := by decide +kernel
theorem dX0_passOn_40 : decode cX0_passOn 40 = .ok (.iinc 3 1, 3) := by decide +kernel
theorem dX0_passOn_43 : decode cX0_passOn 43 = .ok (.goto (-27), 3) := by decide +kernel
theorem dX0_passOn_46 : decode cX0_passOn 46 = .ok (.iconst 0, 1) := by decide +kernel
theorem dX0_passOn_47 : decode cX0_passOn 47 = .ok (.istore_n 3, 1) := by decide +kernel
theorem dX0_passOn_48 : decode cX0_passOn 48 = .ok (.iload_n 3, 1) := by decide +kernel
theorem dX0_passOn_49 : decode cX0_passOn 49 = .ok (.bipush 8, 2) := by decide +kernel
theorem dX0_passOn_51 : decode cX0_passOn 51 = .ok (.if_icmp .ge 28, 3) := by decide +kernel
theorem dX0_passOn_54 : decode cX0_passOn 54 = .ok (.aload_n 0, 1) := by decide +kernel
theorem dX0_passOn_55 : decode cX0_passOn 55 = .ok (.getfield 26, 3) := by decide +kernel
theorem dX0_passOn_58 : decode cX0_passOn 58 = .ok (.iload_n 1, 1) := by decide +kernel
theorem dX0_passOn_59 : decode cX0_passOn 59 = .ok (.saload, 1) := by decide +kernel
theorem dX0_passOn_60 : decode cX0_passOn 60 = .ok (.iload_n 3, 1) := by decide +kernel
theorem dX0_passOn_61 : decode cX0_passOn 61 = .ok (.invokestatic 52, 3) := by decide +kernel
theorem dX0_passOn_64 : decode cX0_passOn 64 = .ok (.ifCond .eq 9, 3) := by decide +kernel
theorem dX0_passOn_67 : decode cX0_passOn 67 = .ok (.aload_n 0, 1) := by decide +kernel
theorem dX0_passOn_68 : decode cX0_passOn 68 = .ok (.iload_n 3, 1) := by decide +kernel
theorem dX0_passOn_69 : decode cX0_passOn 69 = .ok (.iload_n 2, 1) := by decide +kernel
theorem dX0_passOn_70 : decode cX0_passOn 70 = .ok (.invokevirtual 56, 3) := by decide +kernel
theorem dX0_passOn_73 : decode cX0_passOn 73 = .ok (.iinc 3 1, 3) := by decide +kernel
theorem dX0_passOn_76 : decode cX0_passOn 76 = .ok (.goto (-28), 3) := by decide +kernel
theorem dX0_passOn_79 : decode cX0_passOn 79 = .ok (.return_, 1) := by decide +kernel
theorem dX0_follow_0 : decode cX0_follow 0 = .ok (.aload_n 0, 1) := by decide +kernel
theorem dX0_follow_1 : decode cX0_follow 1 = .ok (.getfield 7, 3) := by decide +kernel
theorem dX0_follow_4 : decode cX0_follow 4 = .ok (.iload_n 1, 1) := by decide +kernel
theorem dX0_follow_5 : decode cX0_follow 5 = .ok (.baload, 1) := by decide +kernel
end
section
set_option maxRecDepth 100000
theorem dX0_follow_6 : decode cX0_follow 6 = .ok (.iconst 2, 1) := by decide +kernel
theorem dX0_follow_7 : decode cX0_follow 7 = .ok (.if_icmp .ne 17, 3) := by decide +kernel
theorem dX0_follow_10 : decode cX0_follow 10 = .ok (.aload_n 0, 1) := by decide +kernel
theorem dX0_follow_11 : decode cX0_follow 11 = .ok (.getfield 16, 3) := by decide +kernel
theorem dX0_follow_14 : decode cX0_follow 14 = .ok (.iload_n 1, 1) := by decide +kernel
theorem dX0_follow_15 : decode cX0_follow 15 = .ok (.baload, 1) := by decide +kernel
theorem dX0_follow_16 : decode cX0_follow 16 = .ok (.iload_n 2, 1) := by decide +kernel
theorem dX0_follow_17 : decode cX0_follow 17 = .ok (.if_icmp .ne 7, 3) := by decide +kernel
theorem dX0_follow_20 : decode cX0_follow 20 = .ok (.iconst 1, 1) := by decide +kernel
theorem dX0_follow_21 : decode cX0_follow 21 = .ok (.goto 4, 3) := by decide +kernel
theorem dX0_follow_24 : decode cX0_follow 24 = .ok (.iconst 0, 1) := by decide +kernel
theorem dX0_follow_25 : decode cX0_follow 25 = .ok (.istore 4, 2) := by decide +kernel
theorem dX0_follow_27 : decode cX0_follow 27 = .ok (.aload_n 0, 1) := by decide +kernel
theorem dX0_follow_28 : decode cX0_follow 28 = .ok (.getfield 7, 3) := by decide +kernel
theorem dX0_follow_31 : decode cX0_follow 31 = .ok (.iload_n 1, 1) := by decide +kernel
theorem dX0_follow_32 : decode cX0_follow 32 = .ok (.baload, 1) := by decide +kernel
theorem dX0_follow_33 : decode cX0_follow 33 = .ok (.iconst 3, 1) := by decide +kernel
theorem dX0_follow_34 : decode cX0_follow 34 = .ok (.if_icmp .ne 17, 3) := by decide +kernel
theorem dX0_follow_37 : decode cX0_follow 37 = .ok (.aload_n 0, 1) := by decide +kernel
theorem dX0_follow_38 : decode cX0_follow 38 = .ok (.getfield 13, 3) := by decide +kernel
theorem dX0_follow_41 : decode cX0_follow 41 = .ok (.iload_n 1, 1) := by decide +kernel
theorem dX0_follow_42 : decode cX0_follow 42 = .ok (.baload, 1) := by decide +kernel
theorem dX0_follow_43 : decode cX0_follow 43 = .ok (.iload_n 2, 1) := by decide +kernel
theorem dX0_follow_44 : decode cX0_follow 44 = .ok (.if_icmp .ne 7, 3) := by decide +kernel
theorem dX0_follow_47 : decode cX0_follow 47 = .ok (.iconst 1, 1) := by decide +kernel
theorem dX0_follow_48 : decode cX0_follow 48 = .ok (.goto 4, 3) := by decide +kernel
theorem dX0_follow_51 : decode cX0_follow 51 = .ok (.iconst 0, 1) := by decide +kernel
theorem dX0_follow_52 : decode cX0_follow 52 = .ok (.istore 5, 2) := by decide +kernel
theorem dX0_follow_54 : decode cX0_follow 54 = .ok (.iconst 0, 1) := by decide +kernel
theorem dX0_follow_55 : decode cX0_follow 55 = .ok (.istore 6, 2) := by decide +kernel
theorem dX0_follow_57 : decode cX0_follow 57 = .ok (.iload 6, 2) := by decide +kernel
theorem dX0_follow_59 : decode cX0_follow 59 = .ok (.bipush 8, 2) := by decide +kernel
theorem dX0_follow_61 : decode cX0_follow 61 = .ok (.if_icmp .ge 61, 3) := by decide +kernel
theorem dX0_follow_64 : decode cX0_follow 64 = .ok (.iload_n 3, 1) := by decide +kernel
theorem dX0_follow_65 : decode cX0_follow 65 = .ok (.iload 6, 2) := by decide +kernel
theorem dX0_follow_67 : decode cX0_follow 67 = .ok (.invokestatic 52, 3) := by decide +kernel
theorem dX0_follow_70 : decode cX0_follow 70 = .ok (.ifCond .eq 20, 3) := by decide +kernel
theorem dX0_follow_73 : decode cX0_follow 73 = .ok (.iload 4, 2) := by decide +kernel
theorem dX0_follow_75 : decode cX0_follow 75 = .ok (.ifCond .eq 15, 3) := by decide +kernel
theorem dX0_follow_78 : decode cX0_follow 78 = .ok (.aload_n 0, 1) := by decide +kernel
theorem dX0_follow_79 : decode cX0_follow 79 = .ok (.iload 6, 2) := by decide +kernel
theorem dX0_follow_81 : decode cX0_follow 81 = .ok (.aload_n 0, 1) := by decide +kernel
theorem dX0_follow_82 : decode cX0_follow 82 = .ok (.getfield 13, 3) := by decide +kernel
theorem dX0_follow_85 : decode cX0_follow 85 = .ok (.iload_n 1, 1) := by decide +kernel
theorem dX0_follow_86 : decode cX0_follow 86 = .ok (.baload, 1) := by decide +kernel
theorem dX0_follow_87 : decode cX0_follow 87 = .ok (.invokevirtual 60, 3) := by decide +kernel
theorem dX0_follow_90 : decode cX0_follow 90 = .ok (.iload_n 3, 1) := by decide +kernel
theorem dX0_follow_91 : decode cX0_follow 91 = .ok (.iload 6, 2) := by decide +kernel
theorem dX0_follow_93 : decode cX0_follow 93 = .ok (.invokestatic 52, 3) := by decide +kernel
theorem dX0_follow_96 : decode cX0_follow 96 = .ok (.ifCond .eq 20, 3) := by decide +kernel
theorem dX0_follow_99 : decode cX0_follow 99 = .ok (.iload 5, 2) := by decide +kernel
theorem dX0_follow_101 : decode cX0_follow 101 = .ok (.ifCond .eq 15, 3) := by decide +kernel
theorem dX0_follow_104 : decode cX0_follow 104 = .ok (.aload_n 0, 1) := by decide +kernel
theorem dX0_follow_105 : decode cX0_follow 105 = .ok (.aload_n 0, 1) := by decide +kernel
theorem dX0_follow_106 : decode cX0_follow 106 = .ok (.getfield 16, 3) := by decide +kernel
theorem dX0_follow_109 : decode cX0_follow 109 = .ok (.iload_n 1, 1) := by decide +kernel
theorem dX0_follow_110 : decode cX0_follow 110 = .ok (.baload, 1) := by decide +kernel
theorem dX0_follow_111 : decode cX0_follow 111 = .ok (.iload 6, 2) := by decide +kernel
theorem dX0_follow_113 : decode cX0_follow 113 = .ok (.invokevirtual 60, 3) := by decide +kernel
theorem dX0_follow_116 : decode cX0_follow 116 = .ok (.iinc 6 1, 3) := by decide +kernel
theorem dX0_follow_119 : decode cX0_follow 119 = .ok (.goto (-62), 3) := by decide +kernel
theorem dX0_follow_122 : decode cX0_follow 122 = .ok (.return_, 1) := by decide +kernel
theorem dX0_pointedBy_0 : decode cX0_pointedBy 0 = .ok (.iload_n 1, 1) := by decide +kernel
theorem dX0_pointedBy_1 : decode cX0_pointedBy 1 = .ok (.invokestatic 37, 3) := by decide +kernel
theorem dX0_pointedBy_4 : decode cX0_pointedBy 4 = .ok (.ifCond .ne 5, 3) := by decide +kernel
theorem dX0_pointedBy_7 : decode cX0_pointedBy 7 = .ok (.iconst 0, 1) := by decide +kernel
theorem dX0_pointedBy_8 : decode cX0_pointedBy 8 = .ok (.ireturn, 1) := by decide +kernel
theorem dX0_pointedBy_9 : decode cX0_pointedBy 9 = .ok (.aload_n 0, 1) := by decide +kernel
theorem dX0_pointedBy_10 : decode cX0_pointedBy 10 = .ok (.invokevirtual 75, 3) := by decide +kernel
theorem dX0_pointedBy_13 : decode cX0_pointedBy 13 = .ok (.iconst 0, 1) := by decide +kernel
theorem dX0_pointedBy_14 : decode cX0_pointedBy 14 = .ok (.istore_n 2, 1) := by decide +kernel
theorem dX0_pointedBy_15 : decode cX0_pointedBy 15 = .ok (.iconst 0, 1) := by decide +kernel
theorem dX0_pointedBy_16 : decode cX0_pointedBy 16 = .ok (.istore_n 3, 1) := by decide +kernel
theorem dX0_pointedBy_17 : decode cX0_pointedBy 17 = .ok (.iload_n 3, 1) := by decide +kernel
theorem dX0_pointedBy_18 : decode cX0_pointedBy 18 = .ok (.bipush 8, 2) := by decide +kernel
theorem dX0_pointedBy_20 : decode cX0_pointedBy 20 = .ok (.if_icmp .ge 32, 3) := by decide +kernel
theorem dX0_pointedBy_23 : decode cX0_pointedBy 23 = .ok (.iload_n 2, 1) := by decide +kernel
theorem dX0_pointedBy_24 : decode cX0_pointedBy 24 = .ok (.aload_n 0, 1) := by decide +kernel
theorem dX0_pointedBy_25 : decode cX0_pointedBy 25 = .ok (.getfield 19, 3) := by decide +kernel
theorem dX0_pointedBy_28 : decode cX0_pointedBy 28 = .ok (.iload_n 3, 1) := by decide +kernel
theorem dX0_pointedBy_29 : decode cX0_pointedBy 29 = .ok (.saload, 1) := by decide +kernel
theorem dX0_pointedBy_30 : decode cX0_pointedBy 30 = .ok (.iload_n 1, 1) := by decide +kernel
theorem dX0_pointedBy_31 : decode cX0_pointedBy 31 = .ok (.invokestatic 52, 3) := by decide +kernel
theorem dX0_pointedBy_34 : decode cX0_pointedBy 34 = .ok (.ifCond .eq 9, 3) := by decide +kernel
theorem dX0_pointedBy_37 : decode cX0_pointedBy 37 = .ok (.iconst 1, 1) := by decide +kernel
theorem dX0_pointedBy_38 : decode cX0_pointedBy 38 = .ok (.iload_n 3, 1) := by decide +kernel
theorem dX0_pointedBy_39 : decode cX0_pointedBy 39 = .ok (.ishl, 1) := by decide +kernel
theorem dX0_pointedBy_40 : decode cX0_pointedBy 40 = .ok (.goto 4, 3) := by decide +kernel
theorem dX0_pointedBy_43 : decode cX0_pointedBy 43 = .ok (.iconst 0, 1) := by decide +kernel
theorem dX0_pointedBy_44 : decode cX0_pointedBy 44 = .ok (.ior, 1) := by decide +kernel
theorem dX0_pointedBy_45 : decode cX0_pointedBy 45 = .ok (.istore_n 2, 1) := by decide +kernel
theorem dX0_pointedBy_46 : decode cX0_pointedBy 46 = .ok (.iinc 3 1, 3) := by decide +kernel
theorem dX0_pointedBy_49 : decode cX0_pointedBy 49 = .ok (.goto (-32), 3) := by decide +kernel
theorem dX0_pointedBy_52 : decode cX0_pointedBy 52 = .ok (.iload_n 2, 1) := by decide +kernel
theorem dX0_pointedBy_53 : decode cX0_pointedBy 53 = .ok (.ireturn, 1) := by decide +kernel
theorem dX0_alias_0 : decode cX0_alias 0 = .ok (.iload_n 1, 1) := by decide +kernel
theorem dX0_alias_1 : decode cX0_alias 1 = .ok (.invokestatic 37, 3) := by decide +kernel
theorem dX0_alias_4 : decode cX0_alias 4 = .ok (.ifCond .eq 15, 3) := by decide +kernel
theorem dX0_alias_7 : decode cX0_alias 7 = .ok (.iload_n 2, 1) := by decide +kernel
theorem dX0_alias_8 : decode cX0_alias 8 = .ok (.invokestatic 37, 3) := by decide +kernel
theorem dX0_alias_11 : decode cX0_alias 11 = .ok (.ifCond .eq 8, 3) := by decide +kernel
theorem dX0_alias_14 : decode cX0_alias 14 = .ok (.iload_n 1, 1) := by decide +kernel
theorem dX0_alias_15 : decode cX0_alias 15 = .ok (.iload_n 2, 1) := by decide +kernel
theorem dX0_alias_16 : decode cX0_alias 16 = .ok (.if_icmp .ne 5, 3) := by decide +kernel
theorem dX0_alias_19 : decode cX0_alias 19 = .ok (.iconst 0, 1) := by decide +kernel
theorem dX0_alias_20 : decode cX0_alias 20 = .ok (.ireturn, 1) := by decide +kernel
theorem dX0_alias_21 : decode cX0_alias 21 = .ok (.aload_n 0, 1) := by decide +kernel
theorem dX0_alias_22 : decode cX0_alias 22 = .ok (.invokevirtual 75, 3) := by decide +kernel
theorem dX0_alias_25 : decode cX0_alias 25 = .ok (.aload_n 0, 1) := by decide +kernel
theorem dX0_alias_26 : decode cX0_alias 26 = .ok (.getfield 19, 3) := by decide +kernel
theorem dX0_alias_29 : decode cX0_alias 29 = .ok (.iload_n 1, 1) := by decide +kernel
theorem dX0_alias_30 : decode cX0_alias 30 = .ok (.saload, 1) := by decide +kernel
theorem dX0_alias_31 : decode cX0_alias 31 = .ok (.aload_n 0, 1) := by decide +kernel
theorem dX0_alias_32 : decode cX0_alias 32 = .ok (.getfield 19, 3) := by decide +kernel
theorem dX0_alias_35 : decode cX0_alias 35 = .ok (.iload_n 2, 1) := by decide +kernel
theorem dX0_alias_36 : decode cX0_alias 36 = .ok (.saload, 1) := by decide +kernel
theorem dX0_alias_37 : decode cX0_alias 37 = .ok (.iand, 1) := by decide +kernel
theorem dX0_alias_38 : decode cX0_alias 38 = .ok (.ifCond .eq 7, 3) := by decide +kernel
theorem dX0_alias_41 : decode cX0_alias 41 = .ok (.iconst 1, 1) := by decide +kernel
theorem dX0_alias_42 : decode cX0_alias 42 = .ok (.goto 4, 3) := by decide +kernel
theorem dX0_alias_45 : decode cX0_alias 45 = .ok (.iconst 0, 1) := by decide +kernel
theorem dX0_alias_46 : decode cX0_alias 46 = .ok (.ireturn, 1) := by decide +kernel
theorem dX0_reach_0 : decode cX0_reach 0 = .ok (.iload_n 1, 1) := by decide +kernel
theorem dX0_reach_1 : decode cX0_reach 1 = .ok (.invokestatic 37, 3) := by decide +kernel
theorem dX0_reach_4 : decode cX0_reach 4 = .ok (.ifCond .ne 5, 3) := by decide +kernel
theorem dX0_reach_7 : decode cX0_reach 7 = .ok (.iconst 0, 1) := by decide +kernel
theorem dX0_reach_8 : decode cX0_reach 8 = .ok (.ireturn, 1) := by decide +kernel
theorem dX0_reach_9 : decode cX0_reach 9 = .ok (.aload_n 0, 1) := by decide +kernel
theorem dX0_reach_10 : decode cX0_reach 10 = .ok (.invokevirtual 75, 3) := by decide +kernel
theorem dX0_reach_13 : decode cX0_reach 13 = .ok (.aload_n 0, 1) := by decide +kernel
theorem dX0_reach_14 : decode cX0_reach 14 = .ok (.getfield 19, 3) := by decide +kernel
theorem dX0_reach_17 : decode cX0_reach 17 = .ok (.iload_n 1, 1) := by decide +kernel
theorem dX0_reach_18 : decode cX0_reach 18 = .ok (.saload, 1) := by decide +kernel
theorem dX0_reach_19 : decode cX0_reach 19 = .ok (.istore_n 2, 1) := by decide +kernel
theorem dX0_reach_20 : decode cX0_reach 20 = .ok (.iconst 0, 1) := by decide +kernel
theorem dX0_reach_21 : decode cX0_reach 21 = .ok (.istore_n 3, 1) := by decide +kernel
theorem dX0_reach_22 : decode cX0_reach 22 = .ok (.iload_n 3, 1) := by decide +kernel
theorem dX0_reach_23 : decode cX0_reach 23 = .ok (.bipush 8, 2) := by decide +kernel
theorem dX0_reach_25 : decode cX0_reach 25 = .ok (.if_icmp .ge 48, 3) := by decide +kernel
theorem dX0_reach_28 : decode cX0_reach 28 = .ok (.iconst 0, 1) := by decide +kernel
theorem dX0_reach_29 : decode cX0_reach 29 = .ok (.istore 4, 2) := by decide +kernel
theorem dX0_reach_31 : decode cX0_reach 31 = .ok (.iload 4, 2) := by decide +kernel
theorem dX0_reach_33 : decode cX0_reach 33 = .ok (.bipush 8, 2) := by decide +kernel
theorem dX0_reach_35 : decode cX0_reach 35 = .ok (.if_icmp .ge 32, 3) := by decide +kernel
theorem dX0_reach_38 : decode cX0_reach 38 = .ok (.iload_n 2, 1) := by decide +kernel
theorem dX0_reach_39 : decode cX0_reach 39 = .ok (.iload_n 2, 1) := by decide +kernel
theorem dX0_reach_40 : decode cX0_reach 40 = .ok (.iload 4, 2) := by decide +kernel
theorem dX0_reach_42 : decode cX0_reach 42 = .ok (.invokestatic 52, 3) := by decide +kernel
theorem dX0_reach_45 : decode cX0_reach 45 = .ok (.ifCond .eq 13, 3) := by decide +kernel
theorem dX0_reach_48 : decode cX0_reach 48 = .ok (.aload_n 0, 1) := by decide +kernel
theorem dX0_reach_49 : decode cX0_reach 49 = .ok (.getfield 19, 3) := by decide +kernel
theorem dX0_reach_52 : decode cX0_reach 52 = .ok (.iload 4, 2) := by decide +kernel
theorem dX0_reach_54 : decode cX0_reach 54 = .ok (.saload, 1) := by decide +kernel
theorem dX0_reach_55 : decode cX0_reach 55 = .ok (.goto 4, 3) := by decide +kernel
theorem dX0_reach_58 : decode cX0_reach 58 = .ok (.iconst 0, 1) := by decide +kernel
theorem dX0_reach_59 : decode cX0_reach 59 = .ok (.ior, 1) := by decide +kernel
theorem dX0_reach_60 : decode cX0_reach 60 = .ok (.istore_n 2, 1) := by decide +kernel
theorem dX0_reach_61 : decode cX0_reach 61 = .ok (.iinc 4 1, 3) := by decide +kernel
theorem dX0_reach_64 : decode cX0_reach 64 = .ok (.goto (-33), 3) := by decide +kernel
theorem dX0_reach_67 : decode cX0_reach 67 = .ok (.iinc 3 1, 3) := by decide +kernel
theorem dX0_reach_70 : decode cX0_reach 70 = .ok (.goto (-48), 3) := by decide +kernel
theorem dX0_reach_73 : decode cX0_reach 73 = .ok (.iload_n 2, 1) := by decide +kernel
theorem dX0_reach_74 : decode cX0_reach 74 = .ok (.ireturn, 1) := by decide +kernel
theorem dX0_flows_0 : decode cX0_flows 0 = .ok (.iload_n 1, 1) := by decide +kernel
theorem dX0_flows_1 : decode cX0_flows 1 = .ok (.invokestatic 37, 3) := by decide +kernel
theorem dX0_flows_4 : decode cX0_flows 4 = .ok (.ifCond .eq 10, 3) := by decide +kernel
theorem dX0_flows_7 : decode cX0_flows 7 = .ok (.iload_n 2, 1) := by decide +kernel
theorem dX0_flows_8 : decode cX0_flows 8 = .ok (.invokestatic 37, 3) := by decide +kernel
theorem dX0_flows_11 : decode cX0_flows 11 = .ok (.ifCond .ne 5, 3) := by decide +kernel
theorem dX0_flows_14 : decode cX0_flows 14 = .ok (.iconst 0, 1) := by decide +kernel
theorem dX0_flows_15 : decode cX0_flows 15 = .ok (.ireturn, 1) := by decide +kernel
theorem dX0_flows_16 : decode cX0_flows 16 = .ok (.iconst 1, 1) := by decide +kernel
theorem dX0_flows_17 : decode cX0_flows 17 = .ok (.iload_n 2, 1) := by decide +kernel
theorem dX0_flows_18 : decode cX0_flows 18 = .ok (.ishl, 1) := by decide +kernel
theorem dX0_flows_19 : decode cX0_flows 19 = .ok (.istore_n 3, 1) := by decide +kernel
theorem dX0_flows_20 : decode cX0_flows 20 = .ok (.iconst 0, 1) := by decide +kernel
theorem dX0_flows_21 : decode cX0_flows 21 = .ok (.istore 4, 2) := by decide +kernel
theorem dX0_flows_23 : decode cX0_flows 23 = .ok (.iload 4, 2) := by decide +kernel
theorem dX0_flows_25 : decode cX0_flows 25 = .ok (.bipush 8, 2) := by decide +kernel
theorem dX0_flows_27 : decode cX0_flows 27 = .ok (.if_icmp .ge 87, 3) := by decide +kernel
theorem dX0_flows_30 : decode cX0_flows 30 = .ok (.iconst 0, 1) := by decide +kernel
theorem dX0_flows_31 : decode cX0_flows 31 = .ok (.istore 5, 2) := by decide +kernel
theorem dX0_flows_33 : decode cX0_flows 33 = .ok (.iload 5, 2) := by decide +kernel
theorem dX0_flows_35 : decode cX0_flows 35 = .ok (.bipush 12, 2) := by decide +kernel
theorem dX0_flows_37 : decode cX0_flows 37 = .ok (.if_icmp .ge 71, 3) := by decide +kernel
theorem dX0_flows_40 : decode cX0_flows 40 = .ok (.aload_n 0, 1) := by decide +kernel
theorem dX0_flows_41 : decode cX0_flows 41 = .ok (.iload 5, 2) := by decide +kernel
theorem dX0_flows_43 : decode cX0_flows 43 = .ok (.invokevirtual 45, 3) := by decide +kernel
theorem dX0_flows_46 : decode cX0_flows 46 = .ok (.ifCond .eq 32, 3) := by decide +kernel
theorem dX0_flows_49 : decode cX0_flows 49 = .ok (.aload_n 0, 1) := by decide +kernel
theorem dX0_flows_50 : decode cX0_flows 50 = .ok (.getfield 7, 3) := by decide +kernel
theorem dX0_flows_53 : decode cX0_flows 53 = .ok (.iload 5, 2) := by decide +kernel
theorem dX0_flows_55 : decode cX0_flows 55 = .ok (.baload, 1) := by decide +kernel
theorem dX0_flows_56 : decode cX0_flows 56 = .ok (.iconst 1, 1) := by decide +kernel
theorem dX0_flows_57 : decode cX0_flows 57 = .ok (.if_icmp .ne 21, 3) := by decide +kernel
theorem dX0_flows_60 : decode cX0_flows 60 = .ok (.iload_n 3, 1) := by decide +kernel
theorem dX0_flows_61 : decode cX0_flows 61 = .ok (.aload_n 0, 1) := by decide +kernel
theorem dX0_flows_62 : decode cX0_flows 62 = .ok (.getfield 16, 3) := by decide +kernel
theorem dX0_flows_65 : decode cX0_flows 65 = .ok (.iload 5, 2) := by decide +kernel
theorem dX0_flows_67 : decode cX0_flows 67 = .ok (.baload, 1) := by decide +kernel
theorem dX0_flows_68 : decode cX0_flows 68 = .ok (.invokestatic 52, 3) := by decide +kernel
theorem dX0_flows_71 : decode cX0_flows 71 = .ok (.ifCond .eq 7, 3) := by decide +kernel
theorem dX0_flows_74 : decode cX0_flows 74 = .ok (.iconst 1, 1) := by decide +kernel
theorem dX0_flows_75 : decode cX0_flows 75 = .ok (.goto 4, 3) := by decide +kernel
theorem dX0_flows_78 : decode cX0_flows 78 = .ok (.iconst 0, 1) := by decide +kernel
theorem dX0_flows_79 : decode cX0_flows 79 = .ok (.istore 6, 2) := by decide +kernel
theorem dX0_flows_81 : decode cX0_flows 81 = .ok (.iload_n 3, 1) := by decide +kernel
theorem dX0_flows_82 : decode cX0_flows 82 = .ok (.iload 6, 2) := by decide +kernel
theorem dX0_flows_84 : decode cX0_flows 84 = .ok (.ifCond .eq 15, 3) := by decide +kernel
theorem dX0_flows_87 : decode cX0_flows 87 = .ok (.iconst 1, 1) := by decide +kernel
theorem dX0_flows_88 : decode cX0_flows 88 = .ok (.aload_n 0, 1) := by decide +kernel
theorem dX0_flows_89 : decode cX0_flows 89 = .ok (.getfield 13, 3) := by decide +kernel
theorem dX0_flows_92 : decode cX0_flows 92 = .ok (.iload 5, 2) := by decide +kernel
theorem dX0_flows_94 : decode cX0_flows 94 = .ok (.baload, 1) := by decide +kernel
theorem dX0_flows_95 : decode cX0_flows 95 = .ok (.ishl, 1) := by decide +kernel
theorem dX0_flows_96 : decode cX0_flows 96 = .ok (.goto 4, 3) := by decide +kernel
theorem dX0_flows_99 : decode cX0_flows 99 = .ok (.iconst 0, 1) := by decide +kernel
theorem dX0_flows_100 : decode cX0_flows 100 = .ok (.ior, 1) := by decide +kernel
theorem dX0_flows_101 : decode cX0_flows 101 = .ok (.istore_n 3, 1) := by decide +kernel
theorem dX0_flows_102 : decode cX0_flows 102 = .ok (.iinc 5 1, 3) := by decide +kernel
theorem dX0_flows_105 : decode cX0_flows 105 = .ok (.goto (-72), 3) := by decide +kernel
theorem dX0_flows_108 : decode cX0_flows 108 = .ok (.iinc 4 1, 3) := by decide +kernel
theorem dX0_flows_111 : decode cX0_flows 111 = .ok (.goto (-88), 3) := by decide +kernel
theorem dX0_flows_114 : decode cX0_flows 114 = .ok (.iload_n 3, 1) := by decide +kernel
theorem dX0_flows_115 : decode cX0_flows 115 = .ok (.iload_n 1, 1) := by decide +kernel
theorem dX0_flows_116 : decode cX0_flows 116 = .ok (.invokestatic 52, 3) := by decide +kernel
theorem dX0_flows_119 : decode cX0_flows 119 = .ok (.ireturn, 1) := by decide +kernel
theorem dX0_total_0 : decode cX0_total 0 = .ok (.aload_n 0, 1) := by decide +kernel
theorem dX0_total_1 : decode cX0_total 1 = .ok (.invokevirtual 75, 3) := by decide +kernel
theorem dX0_total_4 : decode cX0_total 4 = .ok (.iconst 0, 1) := by decide +kernel
theorem dX0_total_5 : decode cX0_total 5 = .ok (.istore_n 1, 1) := by decide +kernel
theorem dX0_total_6 : decode cX0_total 6 = .ok (.iconst 0, 1) := by decide +kernel
theorem dX0_total_7 : decode cX0_total 7 = .ok (.istore_n 2, 1) := by decide +kernel
theorem dX0_total_8 : decode cX0_total 8 = .ok (.iload_n 2, 1) := by decide +kernel
theorem dX0_total_9 : decode cX0_total 9 = .ok (.bipush 8, 2) := by decide +kernel
theorem dX0_total_11 : decode cX0_total 11 = .ok (.if_icmp .ge 36, 3) := by decide +kernel
theorem dX0_total_14 : decode cX0_total 14 = .ok (.iconst 0, 1) := by decide +kernel
theorem dX0_total_15 : decode cX0_total 15 = .ok (.istore_n 3, 1) := by decide +kernel
theorem dX0_total_16 : decode cX0_total 16 = .ok (.iload_n 3, 1) := by decide +kernel
theorem dX0_total_17 : decode cX0_total 17 = .ok (.bipush 8, 2) := by decide +kernel
theorem dX0_total_19 : decode cX0_total 19 = .ok (.if_icmp .ge 22, 3) := by decide +kernel
theorem dX0_total_22 : decode cX0_total 22 = .ok (.iload_n 1, 1) := by decide +kernel
theorem dX0_total_23 : decode cX0_total 23 = .ok (.aload_n 0, 1) := by decide +kernel
theorem dX0_total_24 : decode cX0_total 24 = .ok (.getfield 19, 3) := by decide +kernel
theorem dX0_total_27 : decode cX0_total 27 = .ok (.iload_n 2, 1) := by decide +kernel
theorem dX0_total_28 : decode cX0_total 28 = .ok (.saload, 1) := by decide +kernel
theorem dX0_total_29 : decode cX0_total 29 = .ok (.iload_n 3, 1) := by decide +kernel
theorem dX0_total_30 : decode cX0_total 30 = .ok (.ishr, 1) := by decide +kernel
theorem dX0_total_31 : decode cX0_total 31 = .ok (.iconst 1, 1) := by decide +kernel
theorem dX0_total_32 : decode cX0_total 32 = .ok (.iand, 1) := by decide +kernel
theorem dX0_total_33 : decode cX0_total 33 = .ok (.iadd, 1) := by decide +kernel
theorem dX0_total_34 : decode cX0_total 34 = .ok (.istore_n 1, 1) := by decide +kernel
theorem dX0_total_35 : decode cX0_total 35 = .ok (.iinc 3 1, 3) := by decide +kernel
theorem dX0_total_38 : decode cX0_total 38 = .ok (.goto (-22), 3) := by decide +kernel
theorem dX0_total_41 : decode cX0_total 41 = .ok (.iinc 2 1, 3) := by decide +kernel
theorem dX0_total_44 : decode cX0_total 44 = .ok (.goto (-36), 3) := by decide +kernel
theorem dX0_total_47 : decode cX0_total 47 = .ok (.iload_n 1, 1) := by decide +kernel
theorem dX0_total_48 : decode cX0_total 48 = .ok (.ireturn, 1) := by decide +kernel
theorem dX0_redundant_0 : decode cX0_redundant 0 = .ok (.aload_n 0, 1) := by decide +kernel
theorem dX0_redundant_1 : decode cX0_redundant 1 = .ok (.iload_n 1, 1) := by decide +kernel
theorem dX0_redundant_2 : decode cX0_redundant 2 = .ok (.invokevirtual 45, 3) := by decide +kernel
theorem dX0_redundant_5 : decode cX0_redundant 5 = .ok (.ifCond .ne 5, 3) := by decide +kernel
theorem dX0_redundant_8 : decode cX0_redundant 8 = .ok (.iconst 0, 1) := by decide +kernel
theorem dX0_redundant_9 : decode cX0_redundant 9 = .ok (.ireturn, 1) := by decide +kernel
theorem dX0_redundant_10 : decode cX0_redundant 10 = .ok (.aload_n 0, 1) := by decide +kernel
theorem dX0_redundant_11 : decode cX0_redundant 11 = .ok (.invokevirtual 78, 3) := by decide +kernel
theorem dX0_redundant_14 : decode cX0_redundant 14 = .ok (.istore_n 2, 1) := by decide +kernel
theorem dX0_redundant_15 : decode cX0_redundant 15 = .ok (.aload_n 0, 1) := by decide +kernel
theorem dX0_redundant_16 : decode cX0_redundant 16 = .ok (.dup, 1) := by decide +kernel
theorem dX0_redundant_17 : decode cX0_redundant 17 = .ok (.getfield 29, 3) := by decide +kernel
theorem dX0_redundant_20 : decode cX0_redundant 20 = .ok (.iconst 1, 1) := by decide +kernel
theorem dX0_redundant_21 : decode cX0_redundant 21 = .ok (.iload_n 1, 1) := by decide +kernel
theorem dX0_redundant_22 : decode cX0_redundant 22 = .ok (.ishl, 1) := by decide +kernel
theorem dX0_redundant_23 : decode cX0_redundant 23 = .ok (.iconst (-1), 1) := by decide +kernel
theorem dX0_redundant_24 : decode cX0_redundant 24 = .ok (.ixor, 1) := by decide +kernel
theorem dX0_redundant_25 : decode cX0_redundant 25 = .ok (.iand, 1) := by decide +kernel
theorem dX0_redundant_26 : decode cX0_redundant 26 = .ok (.putfield 29, 3) := by decide +kernel
theorem dX0_redundant_29 : decode cX0_redundant 29 = .ok (.aload_n 0, 1) := by decide +kernel
theorem dX0_redundant_30 : decode cX0_redundant 30 = .ok (.iconst 0, 1) := by decide +kernel
theorem dX0_redundant_31 : decode cX0_redundant 31 = .ok (.putfield 33, 3) := by decide +kernel
theorem dX0_redundant_34 : decode cX0_redundant 34 = .ok (.aload_n 0, 1) := by decide +kernel
theorem dX0_redundant_35 : decode cX0_redundant 35 = .ok (.invokevirtual 78, 3) := by decide +kernel
theorem dX0_redundant_38 : decode cX0_redundant 38 = .ok (.istore_n 3, 1) := by decide +kernel
theorem dX0_redundant_39 : decode cX0_redundant 39 = .ok (.aload_n 0, 1) := by decide +kernel
theorem dX0_redundant_40 : decode cX0_redundant 40 = .ok (.dup, 1) := by decide +kernel
theorem dX0_redundant_41 : decode cX0_redundant 41 = .ok (.getfield 29, 3) := by decide +kernel
theorem dX0_redundant_44 : decode cX0_redundant 44 = .ok (.iconst 1, 1) := by decide +kernel
theorem dX0_redundant_45 : decode cX0_redundant 45 = .ok (.iload_n 1, 1) := by decide +kernel
theorem dX0_redundant_46 : decode cX0_redundant 46 = .ok (.ishl, 1) := by decide +kernel
theorem dX0_redundant_47 : decode cX0_redundant 47 = .ok (.ior, 1) := by decide +kernel
theorem dX0_redundant_48 : decode cX0_redundant 48 = .ok (.putfield 29, 3) := by decide +kernel
theorem dX0_redundant_51 : decode cX0_redundant 51 = .ok (.aload_n 0, 1) := by decide +kernel
theorem dX0_redundant_52 : decode cX0_redundant 52 = .ok (.iconst 0, 1) := by decide +kernel
theorem dX0_redundant_53 : decode cX0_redundant 53 = .ok (.putfield 33, 3) := by decide +kernel
theorem dX0_redundant_56 : decode cX0_redundant 56 = .ok (.iload_n 2, 1) := by decide +kernel
theorem dX0_redundant_57 : decode cX0_redundant 57 = .ok (.iload_n 3, 1) := by decide +kernel
theorem dX0_redundant_58 : decode cX0_redundant 58 = .ok (.if_icmp .ne 7, 3) := by decide +kernel
theorem dX0_redundant_61 : decode cX0_redundant 61 = .ok (.iconst 1, 1) := by decide +kernel
theorem dX0_redundant_62 : decode cX0_redundant 62 = .ok (.goto 4, 3) := by decide +kernel
theorem dX0_redundant_65 : decode cX0_redundant 65 = .ok (.iconst 0, 1) := by decide +kernel
theorem dX0_redundant_66 : decode cX0_redundant 66 = .ok (.ireturn, 1) := by decide +kernel
theorem dX0_gain_0 : decode cX0_gain 0 = .ok (.iload_n 1, 1) := by decide +kernel
theorem dX0_gain_1 : decode cX0_gain 1 = .ok (.iload_n 2, 1) := by decide +kernel
theorem dX0_gain_2 : decode cX0_gain 2 = .ok (.iload_n 3, 1) := by decide +kernel
theorem dX0_gain_3 : decode cX0_gain 3 = .ok (.invokestatic 41, 3) := by decide +kernel
theorem dX0_gain_6 : decode cX0_gain 6 = .ok (.ifCond .ne 5, 3) := by decide +kernel
theorem dX0_gain_9 : decode cX0_gain 9 = .ok (.iconst (-1), 1) := by decide +kernel
theorem dX0_gain_10 : decode cX0_gain 10 = .ok (.ireturn, 1) := by decide +kernel
theorem dX0_gain_11 : decode cX0_gain 11 = .ok (.aload_n 0, 1) := by decide +kernel
theorem dX0_gain_12 : decode cX0_gain 12 = .ok (.invokevirtual 78, 3) := by decide +kernel
theorem dX0_gain_15 : decode cX0_gain 15 = .ok (.istore 4, 2) := by decide +kernel
theorem dX0_gain_17 : decode cX0_gain 17 = .ok (.aload_n 0, 1) := by decide +kernel
theorem dX0_gain_18 : decode cX0_gain 18 = .ok (.bipush 12, 2) := by decide +kernel
theorem dX0_gain_20 : decode cX0_gain 20 = .ok (.iload_n 1, 1) := by decide +kernel
theorem dX0_gain_21 : decode cX0_gain 21 = .ok (.iload_n 2, 1) := by decide +kernel
theorem dX0_gain_22 : decode cX0_gain 22 = .ok (.iload_n 3, 1) := by decide +kernel
theorem dX0_gain_23 : decode cX0_gain 23 = .ok (.invokevirtual 48, 3) := by decide +kernel
theorem dX0_gain_26 : decode cX0_gain 26 = .ok (.aload_n 0, 1) := by decide +kernel
theorem dX0_gain_27 : decode cX0_gain 27 = .ok (.invokevirtual 78, 3) := by decide +kernel
theorem dX0_gain_30 : decode cX0_gain 30 = .ok (.istore 5, 2) := by decide +kernel
theorem dX0_gain_32 : decode cX0_gain 32 = .ok (.aload_n 0, 1) := by decide +kernel
theorem dX0_gain_33 : decode cX0_gain 33 = .ok (.dup, 1) := by decide +kernel
theorem dX0_gain_34 : decode cX0_gain 34 = .ok (.getfield 29, 3) := by decide +kernel
theorem dX0_gain_37 : decode cX0_gain 37 = .ok (.sipush (-4097), 3) := by decide +kernel
theorem dX0_gain_40 : decode cX0_gain 40 = .ok (.iand, 1) := by decide +kernel
theorem dX0_gain_41 : decode cX0_gain 41 = .ok (.putfield 29, 3) := by decide +kernel
theorem dX0_gain_44 : decode cX0_gain 44 = .ok (.aload_n 0, 1) := by decide +kernel
theorem dX0_gain_45 : decode cX0_gain 45 = .ok (.iconst 0, 1) := by decide +kernel
theorem dX0_gain_46 : decode cX0_gain 46 = .ok (.putfield 33, 3) := by decide +kernel
theorem dX0_gain_49 : decode cX0_gain 49 = .ok (.iload 5, 2) := by decide +kernel
theorem dX0_gain_51 : decode cX0_gain 51 = .ok (.iload 4, 2) := by decide +kernel
theorem dX0_gain_53 : decode cX0_gain 53 = .ok (.isub, 1) := by decide +kernel
theorem dX0_gain_54 : decode cX0_gain 54 = .ok (.ireturn, 1) := by decide +kernel
theorem dX0_cyclic_0 : decode cX0_cyclic 0 = .ok (.iconst 0, 1) := by decide +kernel
theorem dX0_cyclic_1 : decode cX0_cyclic 1 = .ok (.istore_n 1, 1) := by decide +kernel
theorem dX0_cyclic_2 : decode cX0_cyclic 2 = .ok (.iconst 0, 1) := by decide +kernel
theorem dX0_cyclic_3 : decode cX0_cyclic 3 = .ok (.istore_n 2, 1) := by decide +kernel
theorem dX0_cyclic_4 : decode cX0_cyclic 4 = .ok (.iload_n 2, 1) := by decide +kernel
theorem dX0_cyclic_5 : decode cX0_cyclic 5 = .ok (.bipush 8, 2) := by decide +kernel
theorem dX0_cyclic_7 : decode cX0_cyclic 7 = .ok (.if_icmp .ge 33, 3) := by decide +kernel
theorem dX0_cyclic_10 : decode cX0_cyclic 10 = .ok (.aload_n 0, 1) := by decide +kernel
theorem dX0_cyclic_11 : decode cX0_cyclic 11 = .ok (.iload_n 2, 1) := by decide +kernel
theorem dX0_cyclic_12 : decode cX0_cyclic 12 = .ok (.invokevirtual 81, 3) := by decide +kernel
theorem dX0_cyclic_15 : decode cX0_cyclic 15 = .ok (.istore_n 3, 1) := by decide +kernel
theorem dX0_cyclic_16 : decode cX0_cyclic 16 = .ok (.iload_n 1, 1) := by decide +kernel
theorem dX0_cyclic_17 : decode cX0_cyclic 17 = .ok (.iload_n 3, 1) := by decide +kernel
theorem dX0_cyclic_18 : decode cX0_cyclic 18 = .ok (.iload_n 2, 1) := by decide +kernel
theorem dX0_cyclic_19 : decode cX0_cyclic 19 = .ok (.invokestatic 52, 3) := by decide +kernel
theorem dX0_cyclic_22 : decode cX0_cyclic 22 = .ok (.ifCond .eq 9, 3) := by decide +kernel
theorem dX0_cyclic_25 : decode cX0_cyclic 25 = .ok (.iconst 1, 1) := by decide +kernel
theorem dX0_cyclic_26 : decode cX0_cyclic 26 = .ok (.iload_n 2, 1) := by decide +kernel
theorem dX0_cyclic_27 : decode cX0_cyclic 27 = .ok (.ishl, 1) := by decide +kernel
theorem dX0_cyclic_28 : decode cX0_cyclic 28 = .ok (.goto 4, 3) := by decide +kernel
theorem dX0_cyclic_31 : decode cX0_cyclic 31 = .ok (.iconst 0, 1) := by decide +kernel
theorem dX0_cyclic_32 : decode cX0_cyclic 32 = .ok (.ior, 1) := by decide +kernel
theorem dX0_cyclic_33 : decode cX0_cyclic 33 = .ok (.istore_n 1, 1) := by decide +kernel
theorem dX0_cyclic_34 : decode cX0_cyclic 34 = .ok (.iinc 2 1, 3) := by decide +kernel
theorem dX0_cyclic_37 : decode cX0_cyclic 37 = .ok (.goto (-33), 3) := by decide +kernel
theorem dX0_cyclic_40 : decode cX0_cyclic 40 = .ok (.iload_n 1, 1) := by decide +kernel
theorem dX0_cyclic_41 : decode cX0_cyclic 41 = .ok (.ireturn, 1) := by decide +kernel
theorem dX0_twins_0 : decode cX0_twins 0 = .ok (.iload_n 1, 1) := by decide +kernel
theorem dX0_twins_1 : decode cX0_twins 1 = .ok (.invokestatic 37, 3) := by decide +kernel
theorem dX0_twins_4 : decode cX0_twins 4 = .ok (.ifCond .ne 5, 3) := by decide +kernel
theorem dX0_twins_7 : decode cX0_twins 7 = .ok (.iconst 0, 1) := by decide +kernel
theorem dX0_twins_8 : decode cX0_twins 8 = .ok (.ireturn, 1) := by decide +kernel
theorem dX0_twins_9 : decode cX0_twins 9 = .ok (.aload_n 0, 1) := by decide +kernel
theorem dX0_twins_10 : decode cX0_twins 10 = .ok (.invokevirtual 75, 3) := by decide +kernel
theorem dX0_twins_13 : decode cX0_twins 13 = .ok (.iconst 0, 1) := by decide +kernel
theorem dX0_twins_14 : decode cX0_twins 14 = .ok (.istore_n 2, 1) := by decide +kernel
theorem dX0_twins_15 : decode cX0_twins 15 = .ok (.iconst 0, 1) := by decide +kernel
theorem dX0_twins_16 : decode cX0_twins 16 = .ok (.istore_n 3, 1) := by decide +kernel
theorem dX0_twins_17 : decode cX0_twins 17 = .ok (.iload_n 3, 1) := by decide +kernel
theorem dX0_twins_18 : decode cX0_twins 18 = .ok (.bipush 8, 2) := by decide +kernel
theorem dX0_twins_20 : decode cX0_twins 20 = .ok (.if_icmp .ge 34, 3) := by decide +kernel
theorem dX0_twins_23 : decode cX0_twins 23 = .ok (.iload_n 2, 1) := by decide +kernel
theorem dX0_twins_24 : decode cX0_twins 24 = .ok (.aload_n 0, 1) := by decide +kernel
theorem dX0_twins_25 : decode cX0_twins 25 = .ok (.getfield 19, 3) := by decide +kernel
theorem dX0_twins_28 : decode cX0_twins 28 = .ok (.iload_n 3, 1) := by decide +kernel
theorem dX0_twins_29 : decode cX0_twins 29 = .ok (.saload, 1) := by decide +kernel
theorem dX0_twins_30 : decode cX0_twins 30 = .ok (.aload_n 0, 1) := by decide +kernel
theorem dX0_twins_31 : decode cX0_twins 31 = .ok (.getfield 19, 3) := by decide +kernel
theorem dX0_twins_34 : decode cX0_twins 34 = .ok (.iload_n 1, 1) := by decide +kernel
theorem dX0_twins_35 : decode cX0_twins 35 = .ok (.saload, 1) := by decide +kernel
theorem dX0_twins_36 : decode cX0_twins 36 = .ok (.if_icmp .ne 9, 3) := by decide +kernel
theorem dX0_twins_39 : decode cX0_twins 39 = .ok (.iconst 1, 1) := by decide +kernel
theorem dX0_twins_40 : decode cX0_twins 40 = .ok (.iload_n 3, 1) := by decide +kernel
theorem dX0_twins_41 : decode cX0_twins 41 = .ok (.ishl, 1) := by decide +kernel
theorem dX0_twins_42 : decode cX0_twins 42 = .ok (.goto 4, 3) := by decide +kernel
theorem dX0_twins_45 : decode cX0_twins 45 = .ok (.iconst 0, 1) := by decide +kernel
theorem dX0_twins_46 : decode cX0_twins 46 = .ok (.ior, 1) := by decide +kernel
theorem dX0_twins_47 : decode cX0_twins 47 = .ok (.istore_n 2, 1) := by decide +kernel
theorem dX0_twins_48 : decode cX0_twins 48 = .ok (.iinc 3 1, 3) := by decide +kernel
theorem dX0_twins_51 : decode cX0_twins 51 = .ok (.goto (-34), 3) := by decide +kernel
theorem dX0_twins_54 : decode cX0_twins 54 = .ok (.iload_n 2, 1) := by decide +kernel
theorem dX0_twins_55 : decode cX0_twins 55 = .ok (.ireturn, 1) := by decide +kernel
end
section
set_option maxRecDepth 100000
theorem dX1_init_0 : decode cX1_init 0 = .ok (.aload_n 0, 1) := by decide +kernel
theorem dX1_init_1 : decode cX1_init 1 = .ok (.invokespecial 1, 3) := by decide +kernel
theorem dX1_init_4 : decode cX1_init 4 = .ok (.aload_n 0, 1) := by decide +kernel
theorem dX1_init_5 : decode cX1_init 5 = .ok (.bipush 13, 2) := by decide +kernel
theorem dX1_init_7 : decode cX1_init 7 = .ok (.newarray .boolean, 2) := by decide +kernel
theorem dX1_init_9 : decode cX1_init 9 = .ok (.putfield 7, 3) := by decide +kernel
theorem dX1_init_12 : decode cX1_init 12 = .ok (.aload_n 0, 1) := by decide +kernel
theorem dX1_init_13 : decode cX1_init 13 = .ok (.bipush 13, 2) := by decide +kernel
theorem dX1_init_15 : decode cX1_init 15 = .ok (.newarray .int, 2) := by decide +kernel
theorem dX1_init_17 : decode cX1_init 17 = .ok (.putfield 13, 3) := by decide +kernel
theorem dX1_init_20 : decode cX1_init 20 = .ok (.aload_n 0, 1) := by decide +kernel
theorem dX1_init_21 : decode cX1_init 21 = .ok (.bipush 13, 2) := by decide +kernel
theorem dX1_init_23 : decode cX1_init 23 = .ok (.newarray .int, 2) := by decide +kernel
theorem dX1_init_25 : decode cX1_init 25 = .ok (.putfield 17, 3) := by decide +kernel
theorem dX1_init_28 : decode cX1_init 28 = .ok (.aload_n 0, 1) := by decide +kernel
theorem dX1_init_29 : decode cX1_init 29 = .ok (.bipush 13, 2) := by decide +kernel
theorem dX1_init_31 : decode cX1_init 31 = .ok (.newarray .int, 2) := by decide +kernel
theorem dX1_init_33 : decode cX1_init 33 = .ok (.putfield 20, 3) := by decide +kernel
theorem dX1_init_36 : decode cX1_init 36 = .ok (.aload_n 0, 1) := by decide +kernel
theorem dX1_init_37 : decode cX1_init 37 = .ok (.bipush 8, 2) := by decide +kernel
theorem dX1_init_39 : decode cX1_init 39 = .ok (.newarray .int, 2) := by decide +kernel
theorem dX1_init_41 : decode cX1_init 41 = .ok (.putfield 23, 3) := by decide +kernel
theorem dX1_init_44 : decode cX1_init 44 = .ok (.aload_n 0, 1) := by decide +kernel
theorem dX1_init_45 : decode cX1_init 45 = .ok (.bipush 8, 2) := by decide +kernel
theorem dX1_init_47 : decode cX1_init 47 = .ok (.newarray .int, 2) := by decide +kernel
theorem dX1_init_49 : decode cX1_init 49 = .ok (.putfield 26, 3) := by decide +kernel
theorem dX1_init_52 : decode cX1_init 52 = .ok (.return_, 1) := by decide +kernel
theorem dX1_add_0 : decode cX1_add 0 = .ok (.aload_n 0, 1) := by decide +kernel
theorem dX1_add_1 : decode cX1_add 1 = .ok (.iload_n 1, 1) := by decide +kernel
theorem dX1_add_2 : decode cX1_add 2 = .ok (.iload_n 2, 1) := by decide +kernel
theorem dX1_add_3 : decode cX1_add 3 = .ok (.iload_n 3, 1) := by decide +kernel
theorem dX1_add_4 : decode cX1_add 4 = .ok (.invokevirtual 33, 3) := by decide +kernel
theorem dX1_add_7 : decode cX1_add 7 = .ok (.ifCond .ne 5, 3) := by decide +kernel
theorem dX1_add_10 : decode cX1_add 10 = .ok (.iconst (-1), 1) := by decide +kernel
theorem dX1_add_11 : decode cX1_add 11 = .ok (.ireturn, 1) := by decide +kernel
theorem dX1_add_12 : decode cX1_add 12 = .ok (.iconst 0, 1) := by decide +kernel
theorem dX1_add_13 : decode cX1_add 13 = .ok (.istore 4, 2) := by decide +kernel
theorem dX1_add_15 : decode cX1_add 15 = .ok (.iload 4, 2) := by decide +kernel
theorem dX1_add_17 : decode cX1_add 17 = .ok (.bipush 12, 2) := by decide +kernel
theorem dX1_add_19 : decode cX1_add 19 = .ok (.if_icmp .ge 31, 3) := by decide +kernel
theorem dX1_add_22 : decode cX1_add 22 = .ok (.aload_n 0, 1) := by decide +kernel
theorem dX1_add_23 : decode cX1_add 23 = .ok (.getfield 7, 3) := by decide +kernel
theorem dX1_add_26 : decode cX1_add 26 = .ok (.iload 4, 2) := by decide +kernel
theorem dX1_add_28 : decode cX1_add 28 = .ok (.baload, 1) := by decide +kernel
theorem dX1_add_29 : decode cX1_add 29 = .ok (.ifCond .ne 15, 3) := by decide +kernel
theorem dX1_add_32 : decode cX1_add 32 = .ok (.aload_n 0, 1) := by decide +kernel
theorem dX1_add_33 : decode cX1_add 33 = .ok (.iload 4, 2) := by decide +kernel
theorem dX1_add_35 : decode cX1_add 35 = .ok (.iload_n 1, 1) := by decide +kernel
theorem dX1_add_36 : decode cX1_add 36 = .ok (.iload_n 2, 1) := by decide +kernel
theorem dX1_add_37 : decode cX1_add 37 = .ok (.iload_n 3, 1) := by decide +kernel
theorem dX1_add_38 : decode cX1_add 38 = .ok (.invokevirtual 37, 3) := by decide +kernel
theorem dX1_add_41 : decode cX1_add 41 = .ok (.iload 4, 2) := by decide +kernel
theorem dX1_add_43 : decode cX1_add 43 = .ok (.ireturn, 1) := by decide +kernel
theorem dX1_add_44 : decode cX1_add 44 = .ok (.iinc 4 1, 3) := by decide +kernel
theorem dX1_add_47 : decode cX1_add 47 = .ok (.goto (-32), 3) := by decide +kernel
theorem dX1_add_50 : decode cX1_add 50 = .ok (.bipush (-2), 2) := by decide +kernel
theorem dX1_add_52 : decode cX1_add 52 = .ok (.ireturn, 1) := by decide +kernel
theorem dX1_good_0 : decode cX1_good 0 = .ok (.iload_n 1, 1) := by decide +kernel
theorem dX1_good_1 : decode cX1_good 1 = .ok (.ifCond .lt 28, 3) := by decide +kernel
theorem dX1_good_4 : decode cX1_good 4 = .ok (.iload_n 1, 1) := by decide +kernel
theorem dX1_good_5 : decode cX1_good 5 = .ok (.iconst 3, 1) := by decide +kernel
theorem dX1_good_6 : decode cX1_good 6 = .ok (.if_icmp .gt 23, 3) := by decide +kernel
theorem dX1_good_9 : decode cX1_good 9 = .ok (.aload_n 0, 1) := by decide +kernel
theorem dX1_good_10 : decode cX1_good 10 = .ok (.iload_n 2, 1) := by decide +kernel
theorem dX1_good_11 : decode cX1_good 11 = .ok (.invokevirtual 29, 3) := by decide +kernel
theorem dX1_good_14 : decode cX1_good 14 = .ok (.ifCond .eq 15, 3) := by decide +kernel
theorem dX1_good_17 : decode cX1_good 17 = .ok (.aload_n 0, 1) := by decide +kernel
theorem dX1_good_18 : decode cX1_good 18 = .ok (.iload_n 3, 1) := by decide +kernel
theorem dX1_good_19 : decode cX1_good 19 = .ok (.invokevirtual 29, 3) := by decide +kernel
theorem dX1_good_22 : decode cX1_good 22 = .ok (.ifCond .eq 7, 3) := by decide +kernel
theorem dX1_good_25 : decode cX1_good 25 = .ok (.iconst 1, 1) := by decide +kernel
theorem dX1_good_26 : decode cX1_good 26 = .ok (.goto 4, 3) := by decide +kernel
theorem dX1_good_29 : decode cX1_good 29 = .ok (.iconst 0, 1) := by decide +kernel
theorem dX1_good_30 : decode cX1_good 30 = .ok (.ireturn, 1) := by decide +kernel
theorem dX1_variable_0 : decode cX1_variable 0 = .ok (.iload_n 1, 1) := by decide +kernel
theorem dX1_variable_1 : decode cX1_variable 1 = .ok (.ifCond .lt 13, 3) := by decide +kernel
theorem dX1_variable_4 : decode cX1_variable 4 = .ok (.iload_n 1, 1) := by decide +kernel
theorem dX1_variable_5 : decode cX1_variable 5 = .ok (.bipush 7, 2) := by decide +kernel
theorem dX1_variable_7 : decode cX1_variable 7 = .ok (.if_icmp .gt 7, 3) := by decide +kernel
theorem dX1_variable_10 : decode cX1_variable 10 = .ok (.iconst 1, 1) := by decide +kernel
theorem dX1_variable_11 : decode cX1_variable 11 = .ok (.goto 4, 3) := by decide +kernel
theorem dX1_variable_14 : decode cX1_variable 14 = .ok (.iconst 0, 1) := by decide +kernel
theorem dX1_variable_15 : decode cX1_variable 15 = .ok (.ireturn, 1) := by decide +kernel
theorem dX1_hold_0 : decode cX1_hold 0 = .ok (.aload_n 0, 1) := by decide +kernel
theorem dX1_hold_1 : decode cX1_hold 1 = .ok (.getfield 7, 3) := by decide +kernel
theorem dX1_hold_4 : decode cX1_hold 4 = .ok (.iload_n 1, 1) := by decide +kernel
theorem dX1_hold_5 : decode cX1_hold 5 = .ok (.iconst 1, 1) := by decide +kernel
theorem dX1_hold_6 : decode cX1_hold 6 = .ok (.bastore, 1) := by decide +kernel
theorem dX1_hold_7 : decode cX1_hold 7 = .ok (.aload_n 0, 1) := by decide +kernel
theorem dX1_hold_8 : decode cX1_hold 8 = .ok (.getfield 13, 3) := by decide +kernel
theorem dX1_hold_11 : decode cX1_hold 11 = .ok (.iload_n 1, 1) := by decide +kernel
theorem dX1_hold_12 : decode cX1_hold 12 = .ok (.iload_n 2, 1) := by decide +kernel
theorem dX1_hold_13 : decode cX1_hold 13 = .ok (.iastore, 1) := by decide +kernel
theorem dX1_hold_14 : decode cX1_hold 14 = .ok (.aload_n 0, 1) := by decide +kernel
theorem dX1_hold_15 : decode cX1_hold 15 = .ok (.getfield 17, 3) := by decide +kernel
theorem dX1_hold_18 : decode cX1_hold 18 = .ok (.iload_n 1, 1) := by decide +kernel
theorem dX1_hold_19 : decode cX1_hold 19 = .ok (.iload_n 3, 1) := by decide +kernel
theorem dX1_hold_20 : decode cX1_hold 20 = .ok (.iastore, 1) := by decide +kernel
theorem dX1_hold_21 : decode cX1_hold 21 = .ok (.aload_n 0, 1) := by decide +kernel
theorem dX1_hold_22 : decode cX1_hold 22 = .ok (.getfield 20, 3) := by decide +kernel
theorem dX1_hold_25 : decode cX1_hold 25 = .ok (.iload_n 1, 1) := by decide +kernel
theorem dX1_hold_26 : decode cX1_hold 26 = .ok (.iload 4, 2) := by decide +kernel
theorem dX1_hold_28 : decode cX1_hold 28 = .ok (.iastore, 1) := by decide +kernel
theorem dX1_hold_29 : decode cX1_hold 29 = .ok (.return_, 1) := by decide +kernel
theorem dX1_remove_0 : decode cX1_remove 0 = .ok (.iload_n 1, 1) := by decide +kernel
theorem dX1_remove_1 : decode cX1_remove 1 = .ok (.ifCond .lt 18, 3) := by decide +kernel
theorem dX1_remove_4 : decode cX1_remove 4 = .ok (.iload_n 1, 1) := by decide +kernel
theorem dX1_remove_5 : decode cX1_remove 5 = .ok (.bipush 11, 2) := by decide +kernel
theorem dX1_remove_7 : decode cX1_remove 7 = .ok (.if_icmp .gt 12, 3) := by decide +kernel
theorem dX1_remove_10 : decode cX1_remove 10 = .ok (.aload_n 0, 1) := by decide +kernel
theorem dX1_remove_11 : decode cX1_remove 11 = .ok (.getfield 7, 3) := by decide +kernel
theorem dX1_remove_14 : decode cX1_remove 14 = .ok (.iload_n 1, 1) := by decide +kernel
theorem dX1_remove_15 : decode cX1_remove 15 = .ok (.baload, 1) := by decide +kernel
theorem dX1_remove_16 : decode cX1_remove 16 = .ok (.ifCond .ne 5, 3) := by decide +kernel
theorem dX1_remove_19 : decode cX1_remove 19 = .ok (.iconst 0, 1) := by decide +kernel
theorem dX1_remove_20 : decode cX1_remove 20 = .ok (.ireturn, 1) := by decide +kernel
theorem dX1_remove_21 : decode cX1_remove 21 = .ok (.aload_n 0, 1) := by decide +kernel
theorem dX1_remove_22 : decode cX1_remove 22 = .ok (.getfield 7, 3) := by decide +kernel
theorem dX1_remove_25 : decode cX1_remove 25 = .ok (.iload_n 1, 1) := by decide +kernel
theorem dX1_remove_26 : decode cX1_remove 26 = .ok (.iconst 0, 1) := by decide +kernel
theorem dX1_remove_27 : decode cX1_remove 27 = .ok (.bastore, 1) := by decide +kernel
theorem dX1_remove_28 : decode cX1_remove 28 = .ok (.iconst 1, 1) := by decide +kernel
theorem dX1_remove_29 : decode cX1_remove 29 = .ok (.ireturn, 1) := by decide +kernel
theorem dX1_statements_0 : decode cX1_statements 0 = .ok (.iconst 0, 1) := by decide +kernel
theorem dX1_statements_1 : decode cX1_statements 1 = .ok (.istore_n 1, 1) := by decide +kernel
theorem dX1_statements_2 : decode cX1_statements 2 = .ok (.iconst 0, 1) := by decide +kernel
theorem dX1_statements_3 : decode cX1_statements 3 = .ok (.istore_n 2, 1) := by decide +kernel
theorem dX1_statements_4 : decode cX1_statements 4 = .ok (.iload_n 2, 1) := by decide +kernel
theorem dX1_statements_5 : decode cX1_statements 5 = .ok (.bipush 12, 2) := by decide +kernel
theorem dX1_statements_7 : decode cX1_statements 7 = .ok (.if_icmp .ge 28, 3) := by decide +kernel
theorem dX1_statements_10 : decode cX1_statements 10 = .ok (.aload_n 0, 1) := by decide +kernel
theorem dX1_statements_11 : decode cX1_statements 11 = .ok (.getfield 7, 3) := by decide +kernel
theorem dX1_statements_14 : decode cX1_statements 14 = .ok (.iload_n 2, 1) := by decide +kernel
theorem dX1_statements_15 : decode cX1_statements 15 = .ok (.baload, 1) := by decide +kernel
theorem dX1_statements_16 : decode cX1_statements 16 = .ok (.ifCond .eq 11, 3) := by decide +kernel
theorem dX1_statements_19 : decode cX1_statements 19 = .ok (.iload_n 1, 1) := by decide +kernel
theorem dX1_statements_20 : decode cX1_statements 20 = .ok (.iconst 1, 1) := by decide +kernel
theorem dX1_statements_21 : decode cX1_statements 21 = .ok (.iload_n 2, 1) := by decide +kernel
theorem dX1_statements_22 : decode cX1_statements 22 = .ok (.ishl, 1) := by decide +kernel
theorem dX1_statements_23 : decode cX1_statements 23 = .ok (.ior, 1) := by decide +kernel
theorem dX1_statements_24 : decode cX1_statements 24 = .ok (.goto 4, 3) := by decide +kernel
theorem dX1_statements_27 : decode cX1_statements 27 = .ok (.iload_n 1, 1) := by decide +kernel
theorem dX1_statements_28 : decode cX1_statements 28 = .ok (.istore_n 1, 1) := by decide +kernel
theorem dX1_statements_29 : decode cX1_statements 29 = .ok (.iinc 2 1, 3) := by decide +kernel
theorem dX1_statements_32 : decode cX1_statements 32 = .ok (.goto (-28), 3) := by decide +kernel
theorem dX1_statements_35 : decode cX1_statements 35 = .ok (.iload_n 1, 1) := by decide +kernel
theorem dX1_statements_36 : decode cX1_statements 36 = .ok (.ireturn, 1) := by decide +kernel
theorem dX1_pointsTo_0 : decode cX1_pointsTo 0 = .ok (.aload_n 0, 1) := by decide +kernel
theorem dX1_pointsTo_1 : decode cX1_pointsTo 1 = .ok (.invokevirtual 44, 3) := by decide +kernel
theorem dX1_pointsTo_4 : decode cX1_pointsTo 4 = .ok (.aload_n 0, 1) := by decide +kernel
theorem dX1_pointsTo_5 : decode cX1_pointsTo 5 = .ok (.iload_n 1, 1) := by decide +kernel
theorem dX1_pointsTo_6 : decode cX1_pointsTo 6 = .ok (.invokevirtual 29, 3) := by decide +kernel
theorem dX1_pointsTo_9 : decode cX1_pointsTo 9 = .ok (.ifCond .eq 12, 3) := by decide +kernel
theorem dX1_pointsTo_12 : decode cX1_pointsTo 12 = .ok (.aload_n 0, 1) := by decide +kernel
theorem dX1_pointsTo_13 : decode cX1_pointsTo 13 = .ok (.getfield 23, 3) := by decide +kernel
theorem dX1_pointsTo_16 : decode cX1_pointsTo 16 = .ok (.iload_n 1, 1) := by decide +kernel
theorem dX1_pointsTo_17 : decode cX1_pointsTo 17 = .ok (.iaload, 1) := by decide +kernel
theorem dX1_pointsTo_18 : decode cX1_pointsTo 18 = .ok (.goto 4, 3) := by decide +kernel
theorem dX1_pointsTo_21 : decode cX1_pointsTo 21 = .ok (.iconst 0, 1) := by decide +kernel
theorem dX1_pointsTo_22 : decode cX1_pointsTo 22 = .ok (.ireturn, 1) := by decide +kernel
theorem dX1_work_0 : decode cX1_work 0 = .ok (.iconst 0, 1) := by decide +kernel
theorem dX1_work_1 : decode cX1_work 1 = .ok (.istore_n 1, 1) := by decide +kernel
theorem dX1_work_2 : decode cX1_work 2 = .ok (.iload_n 1, 1) := by decide +kernel
theorem dX1_work_3 : decode cX1_work 3 = .ok (.bipush 8, 2) := by decide +kernel
theorem dX1_work_5 : decode cX1_work 5 = .ok (.if_icmp .ge 16, 3) := by decide +kernel
theorem dX1_work_8 : decode cX1_work 8 = .ok (.aload_n 0, 1) := by decide +kernel
theorem dX1_work_9 : decode cX1_work 9 = .ok (.getfield 23, 3) := by decide +kernel
theorem dX1_work_12 : decode cX1_work 12 = .ok (.iload_n 1, 1) := by decide +kernel
theorem dX1_work_13 : decode cX1_work 13 = .ok (.iconst 0, 1) := by decide +kernel
theorem dX1_work_14 : decode cX1_work 14 = .ok (.iastore, 1) := by decide +kernel
theorem dX1_work_15 : decode cX1_work 15 = .ok (.iinc 1 1, 3) := by decide +kernel
theorem dX1_work_18 : decode cX1_work 18 = .ok (.goto (-16), 3) := by decide +kernel
theorem dX1_work_21 : decode cX1_work 21 = .ok (.iconst 1, 1) := by decide +kernel
theorem dX1_work_22 : decode cX1_work 22 = .ok (.istore_n 1, 1) := by decide +kernel
theorem dX1_work_23 : decode cX1_work 23 = .ok (.iconst 0, 1) := by decide +kernel
theorem dX1_work_24 : decode cX1_work 24 = .ok (.istore_n 2, 1) := by decide +kernel
theorem dX1_work_25 : decode cX1_work 25 = .ok (.iload_n 2, 1) := by decide +kernel
theorem dX1_work_26 : decode cX1_work 26 = .ok (.bipush 65, 2) := by decide +kernel
theorem dX1_work_28 : decode cX1_work 28 = .ok (.if_icmp .ge 56, 3) := by decide +kernel
theorem dX1_work_31 : decode cX1_work 31 = .ok (.iload_n 1, 1) := by decide +kernel
theorem dX1_work_32 : decode cX1_work 32 = .ok (.ifCond .eq 52, 3) := by decide +kernel
theorem dX1_work_35 : decode cX1_work 35 = .ok (.iconst 0, 1) := by decide +kernel
theorem dX1_work_36 : decode cX1_work 36 = .ok (.istore_n 1, 1) := by decide +kernel
theorem dX1_work_37 : decode cX1_work 37 = .ok (.iconst 0, 1) := by decide +kernel
theorem dX1_work_38 : decode cX1_work 38 = .ok (.istore_n 3, 1) := by decide +kernel
theorem dX1_work_39 : decode cX1_work 39 = .ok (.iload_n 3, 1) := by decide +kernel
theorem dX1_work_40 : decode cX1_work 40 = .ok (.bipush 13, 2) := by decide +kernel
theorem dX1_work_42 : decode cX1_work 42 = .ok (.if_icmp .ge 36, 3) := by decide +kernel
theorem dX1_work_45 : decode cX1_work 45 = .ok (.aload_n 0, 1) := by decide +kernel
theorem dX1_work_46 : decode cX1_work 46 = .ok (.getfield 7, 3) := by decide +kernel
theorem dX1_work_49 : decode cX1_work 49 = .ok (.iload_n 3, 1) := by decide +kernel
theorem dX1_work_50 : decode cX1_work 50 = .ok (.baload, 1) := by decide +kernel
theorem dX1_work_51 : decode cX1_work 51 = .ok (.ifCond .eq 11, 3) := by decide +kernel
theorem dX1_work_54 : decode cX1_work 54 = .ok (.aload_n 0, 1) := by decide +kernel
theorem dX1_work_55 : decode cX1_work 55 = .ok (.iload_n 3, 1) := by decide +kernel
theorem dX1_work_56 : decode cX1_work 56 = .ok (.invokevirtual 41, 3) := by decide +kernel
theorem dX1_work_59 : decode cX1_work 59 = .ok (.ifCond .ne 7, 3) := by decide +kernel
theorem dX1_work_62 : decode cX1_work 62 = .ok (.iload_n 1, 1) := by decide +kernel
theorem dX1_work_63 : decode cX1_work 63 = .ok (.ifCond .eq 7, 3) := by decide +kernel
theorem dX1_work_66 : decode cX1_work 66 = .ok (.iconst 1, 1) := by decide +kernel
theorem dX1_work_67 : decode cX1_work 67 = .ok (.goto 4, 3) := by decide +kernel
theorem dX1_work_70 : decode cX1_work 70 = .ok (.iconst 0, 1) := by decide +kernel
theorem dX1_work_71 : decode cX1_work 71 = .ok (.istore_n 1, 1) := by decide +kernel
theorem dX1_work_72 : decode cX1_work 72 = .ok (.iinc 3 1, 3) := by decide +kernel
theorem dX1_work_75 : decode cX1_work 75 = .ok (.goto (-36), 3) := by decide +kernel
theorem dX1_work_78 : decode cX1_work 78 = .ok (.iinc 2 1, 3) := by decide +kernel
theorem dX1_work_81 : decode cX1_work 81 = .ok (.goto (-56), 3) := by decide +kernel
theorem dX1_work_84 : decode cX1_work 84 = .ok (.return_, 1) := by decide +kernel
theorem dX1_carryOut_0 : decode cX1_carryOut 0 = .ok (.aload_n 0, 1) := by decide +kernel
theorem dX1_carryOut_1 : decode cX1_carryOut 1 = .ok (.getfield 17, 3) := by decide +kernel
theorem dX1_carryOut_4 : decode cX1_carryOut 4 = .ok (.iload_n 1, 1) := by decide +kernel
theorem dX1_carryOut_5 : decode cX1_carryOut 5 = .ok (.iaload, 1) := by decide +kernel
theorem dX1_carryOut_6 : decode cX1_carryOut 6 = .ok (.istore_n 2, 1) := by decide +kernel
theorem dX1_carryOut_7 : decode cX1_carryOut 7 = .ok (.aload_n 0, 1) := by decide +kernel
theorem dX1_carryOut_8 : decode cX1_carryOut 8 = .ok (.getfield 20, 3) := by decide +kernel
theorem dX1_carryOut_11 : decode cX1_carryOut 11 = .ok (.iload_n 1, 1) := by decide +kernel
theorem dX1_carryOut_12 : decode cX1_carryOut 12 = .ok (.iaload, 1) := by decide +kernel
theorem dX1_carryOut_13 : decode cX1_carryOut 13 = .ok (.istore_n 3, 1) := by decide +kernel
theorem dX1_carryOut_14 : decode cX1_carryOut 14 = .ok (.iconst 0, 1) := by decide +kernel
theorem dX1_carryOut_15 : decode cX1_carryOut 15 = .ok (.istore 4, 2) := by decide +kernel
theorem dX1_carryOut_17 : decode cX1_carryOut 17 = .ok (.aload_n 0, 1) := by decide +kernel
theorem dX1_carryOut_18 : decode cX1_carryOut 18 = .ok (.getfield 13, 3) := by decide +kernel
theorem dX1_carryOut_21 : decode cX1_carryOut 21 = .ok (.iload_n 1, 1) := by decide +kernel
theorem dX1_carryOut_22 : decode cX1_carryOut 22 = .ok (.iaload, 1) := by decide +kernel
theorem dX1_carryOut_23 : decode cX1_carryOut 23 = .ok (.iconst 1, 1) := by decide +kernel
theorem dX1_carryOut_24 : decode cX1_carryOut 24 = .ok (.if_icmp .gt 65, 3) := by decide +kernel
theorem dX1_carryOut_27 : decode cX1_carryOut 27 = .ok (.aload_n 0, 1) := by decide +kernel
theorem dX1_carryOut_28 : decode cX1_carryOut 28 = .ok (.getfield 13, 3) := by decide +kernel
theorem dX1_carryOut_31 : decode cX1_carryOut 31 = .ok (.iload_n 1, 1) := by decide +kernel
theorem dX1_carryOut_32 : decode cX1_carryOut 32 = .ok (.iaload, 1) := by decide +kernel
theorem dX1_carryOut_33 : decode cX1_carryOut 33 = .ok (.ifCond .ne 9, 3) := by decide +kernel
theorem dX1_carryOut_36 : decode cX1_carryOut 36 = .ok (.iconst 1, 1) := by decide +kernel
theorem dX1_carryOut_37 : decode cX1_carryOut 37 = .ok (.iload_n 3, 1) := by decide +kernel
theorem dX1_carryOut_38 : decode cX1_carryOut 38 = .ok (.ishl, 1) := by decide +kernel
theorem dX1_carryOut_39 : decode cX1_carryOut 39 = .ok (.goto 9, 3) := by decide +kernel
theorem dX1_carryOut_42 : decode cX1_carryOut 42 = .ok (.aload_n 0, 1) := by decide +kernel
theorem dX1_carryOut_43 : decode cX1_carryOut 43 = .ok (.getfield 23, 3) := by decide +kernel
theorem dX1_carryOut_46 : decode cX1_carryOut 46 = .ok (.iload_n 3, 1) := by decide +kernel
theorem dX1_carryOut_47 : decode cX1_carryOut 47 = .ok (.iaload, 1) := by decide +kernel
theorem dX1_carryOut_48 : decode cX1_carryOut 48 = .ok (.istore 5, 2) := by decide +kernel
theorem dX1_carryOut_50 : decode cX1_carryOut 50 = .ok (.iload 5, 2) := by decide +kernel
theorem dX1_carryOut_52 : decode cX1_carryOut 52 = .ok (.aload_n 0, 1) := by decide +kernel
theorem dX1_carryOut_53 : decode cX1_carryOut 53 = .ok (.getfield 23, 3) := by decide +kernel
theorem dX1_carryOut_56 : decode cX1_carryOut 56 = .ok (.iload_n 2, 1) := by decide +kernel
theorem dX1_carryOut_57 : decode cX1_carryOut 57 = .ok (.iaload, 1) := by decide +kernel
theorem dX1_carryOut_58 : decode cX1_carryOut 58 = .ok (.iconst (-1), 1) := by decide +kernel
theorem dX1_carryOut_59 : decode cX1_carryOut 59 = .ok (.ixor, 1) := by decide +kernel
theorem dX1_carryOut_60 : decode cX1_carryOut 60 = .ok (.iand, 1) := by decide +kernel
theorem dX1_carryOut_61 : decode cX1_carryOut 61 = .ok (.ifCond .eq 7, 3) := by decide +kernel
theorem dX1_carryOut_64 : decode cX1_carryOut 64 = .ok (.iconst 1, 1) := by decide +kernel
theorem dX1_carryOut_65 : decode cX1_carryOut 65 = .ok (.goto 4, 3) := by decide +kernel
theorem dX1_carryOut_68 : decode cX1_carryOut 68 = .ok (.iconst 0, 1) := by decide +kernel
theorem dX1_carryOut_69 : decode cX1_carryOut 69 = .ok (.istore 4, 2) := by decide +kernel
theorem dX1_carryOut_71 : decode cX1_carryOut 71 = .ok (.aload_n 0, 1) := by decide +kernel
theorem dX1_carryOut_72 : decode cX1_carryOut 72 = .ok (.getfield 23, 3) := by decide +kernel
theorem dX1_carryOut_75 : decode cX1_carryOut 75 = .ok (.iload_n 2, 1) := by decide +kernel
theorem dX1_carryOut_76 : decode cX1_carryOut 76 = .ok (.aload_n 0, 1) := by decide +kernel
theorem dX1_carryOut_77 : decode cX1_carryOut 77 = .ok (.getfield 23, 3) := by decide +kernel
theorem dX1_carryOut_80 : decode cX1_carryOut 80 = .ok (.iload_n 2, 1) := by decide +kernel
theorem dX1_carryOut_81 : decode cX1_carryOut 81 = .ok (.iaload, 1) := by decide +kernel
theorem dX1_carryOut_82 : decode cX1_carryOut 82 = .ok (.iload 5, 2) := by decide +kernel
theorem dX1_carryOut_84 : decode cX1_carryOut 84 = .ok (.ior, 1) := by decide +kernel
theorem dX1_carryOut_85 : decode cX1_carryOut 85 = .ok (.iastore, 1) := by decide +kernel
theorem dX1_carryOut_86 : decode cX1_carryOut 86 = .ok (.iload 4, 2) := by decide +kernel
theorem dX1_carryOut_88 : decode cX1_carryOut 88 = .ok (.ireturn, 1) := by decide +kernel
theorem dX1_carryOut_89 : decode cX1_carryOut 89 = .ok (.aload_n 0, 1) := by decide +kernel
theorem dX1_carryOut_90 : decode cX1_carryOut 90 = .ok (.getfield 13, 3) := by decide +kernel
theorem dX1_carryOut_93 : decode cX1_carryOut 93 = .ok (.iload_n 1, 1) := by decide +kernel
theorem dX1_carryOut_94 : decode cX1_carryOut 94 = .ok (.iaload, 1) := by decide +kernel
theorem dX1_carryOut_95 : decode cX1_carryOut 95 = .ok (.iconst 2, 1) := by decide +kernel
theorem dX1_carryOut_96 : decode cX1_carryOut 96 = .ok (.if_icmp .ne 12, 3) := by decide +kernel
theorem dX1_carryOut_99 : decode cX1_carryOut 99 = .ok (.aload_n 0, 1) := by decide +kernel
theorem dX1_carryOut_100 : decode cX1_carryOut 100 = .ok (.getfield 23, 3) := by decide +kernel
theorem dX1_carryOut_103 : decode cX1_carryOut 103 = .ok (.iload_n 3, 1) := by decide +kernel
theorem dX1_carryOut_104 : decode cX1_carryOut 104 = .ok (.iaload, 1) := by decide +kernel
theorem dX1_carryOut_105 : decode cX1_carryOut 105 = .ok (.goto 9, 3) := by decide +kernel
theorem dX1_carryOut_108 : decode cX1_carryOut 108 = .ok (.aload_n 0, 1) := by decide +kernel
theorem dX1_carryOut_109 : decode cX1_carryOut 109 = .ok (.getfield 23, 3) := by decide +kernel
theorem dX1_carryOut_112 : decode cX1_carryOut 112 = .ok (.iload_n 2, 1) := by decide +kernel
theorem dX1_carryOut_113 : decode cX1_carryOut 113 = .ok (.iaload, 1) := by decide +kernel
theorem dX1_carryOut_114 : decode cX1_carryOut 114 = .ok (.istore 5, 2) := by decide +kernel
theorem dX1_carryOut_116 : decode cX1_carryOut 116 = .ok (.iconst 0, 1) := by decide +kernel
theorem dX1_carryOut_117 : decode cX1_carryOut 117 = .ok (.istore 6, 2) := by decide +kernel
theorem dX1_carryOut_119 : decode cX1_carryOut 119 = .ok (.iload 6, 2) := by decide +kernel
theorem dX1_carryOut_121 : decode cX1_carryOut 121 = .ok (.bipush 8, 2) := by decide +kernel
theorem dX1_carryOut_123 : decode cX1_carryOut 123 = .ok (.if_icmp .ge 110, 3) := by decide +kernel
theorem dX1_carryOut_126 : decode cX1_carryOut 126 = .ok (.iload 5, 2) := by decide +kernel
theorem dX1_carryOut_128 : decode cX1_carryOut 128 = .ok (.iload 6, 2) := by decide +kernel
theorem dX1_carryOut_130 : decode cX1_carryOut 130 = .ok (.ishr, 1) := by decide +kernel
theorem dX1_carryOut_131 : decode cX1_carryOut 131 = .ok (.iconst 1, 1) := by decide +kernel
theorem dX1_carryOut_132 : decode cX1_carryOut 132 = .ok (.iand, 1) := by decide +kernel
theorem dX1_carryOut_133 : decode cX1_carryOut 133 = .ok (.iconst 1, 1) := by decide +kernel
theorem dX1_carryOut_134 : decode cX1_carryOut 134 = .ok (.if_icmp .ne 93, 3) := by decide +kernel
theorem dX1_carryOut_137 : decode cX1_carryOut 137 = .ok (.aload_n 0, 1) := by decide +kernel
theorem dX1_carryOut_138 : decode cX1_carryOut 138 = .ok (.getfield 13, 3) := by decide +kernel
theorem dX1_carryOut_141 : decode cX1_carryOut 141 = .ok (.iload_n 1, 1) := by decide +kernel
theorem dX1_carryOut_142 : decode cX1_carryOut 142 = .ok (.iaload, 1) := by decide +kernel
theorem dX1_carryOut_143 : decode cX1_carryOut 143 = .ok (.iconst 2, 1) := by decide +kernel
theorem dX1_carryOut_144 : decode cX1_carryOut 144 = .ok (.if_icmp .ne 7, 3) := by decide +kernel
theorem dX1_carryOut_147 : decode cX1_carryOut 147 = .ok (.iload_n 2, 1) := by decide +kernel
theorem dX1_carryOut_148 : decode cX1_carryOut 148 = .ok (.goto 5, 3) := by decide +kernel
theorem dX1_carryOut_151 : decode cX1_carryOut 151 = .ok (.iload 6, 2) := by decide +kernel
theorem dX1_carryOut_153 : decode cX1_carryOut 153 = .ok (.istore 7, 2) := by decide +kernel
theorem dX1_carryOut_155 : decode cX1_carryOut 155 = .ok (.aload_n 0, 1) := by decide +kernel
theorem dX1_carryOut_156 : decode cX1_carryOut 156 = .ok (.getfield 13, 3) := by decide +kernel
theorem dX1_carryOut_159 : decode cX1_carryOut 159 = .ok (.iload_n 1, 1) := by decide +kernel
theorem dX1_carryOut_160 : decode cX1_carryOut 160 = .ok (.iaload, 1) := by decide +kernel
theorem dX1_carryOut_161 : decode cX1_carryOut 161 = .ok (.iconst 2, 1) := by decide +kernel
theorem dX1_carryOut_162 : decode cX1_carryOut 162 = .ok (.if_icmp .ne 13, 3) := by decide +kernel
theorem dX1_carryOut_165 : decode cX1_carryOut 165 = .ok (.aload_n 0, 1) := by decide +kernel
theorem dX1_carryOut_166 : decode cX1_carryOut 166 = .ok (.getfield 23, 3) := by decide +kernel
theorem dX1_carryOut_169 : decode cX1_carryOut 169 = .ok (.iload 6, 2) := by decide +kernel
theorem dX1_carryOut_171 : decode cX1_carryOut 171 = .ok (.iaload, 1) := by decide +kernel
theorem dX1_carryOut_172 : decode cX1_carryOut 172 = .ok (.goto 9, 3) := by decide +kernel
theorem dX1_carryOut_175 : decode cX1_carryOut 175 = .ok (.aload_n 0, 1) := by decide +kernel
theorem dX1_carryOut_176 : decode cX1_carryOut 176 = .ok (.getfield 23, 3) := by decide +kernel
theorem dX1_carryOut_179 : decode cX1_carryOut 179 = .ok (.iload_n 3, 1) := by decide +kernel
theorem dX1_carryOut_180 : decode cX1_carryOut 180 = .ok (.iaload, 1) := by decide +kernel
theorem dX1_carryOut_181 : decode cX1_carryOut 181 = .ok (.istore 8, 2) := by decide +kernel
theorem dX1_carryOut_183 : decode cX1_carryOut 183 = .ok (.iload 4, 2) := by decide +kernel
theorem dX1_carryOut_185 : decode cX1_carryOut 185 = .ok (.ifCond .ne 18, 3) := by decide +kernel
theorem dX1_carryOut_188 : decode cX1_carryOut 188 = .ok (.iload 8, 2) := by decide +kernel
theorem dX1_carryOut_190 : decode cX1_carryOut 190 = .ok (.aload_n 0, 1) := by decide +kernel
theorem dX1_carryOut_191 : decode cX1_carryOut 191 = .ok (.getfield 23, 3) := by decide +kernel
theorem dX1_carryOut_194 : decode cX1_carryOut 194 = .ok (.iload 7, 2) := by decide +kernel
theorem dX1_carryOut_196 : decode cX1_carryOut 196 = .ok (.iaload, 1) := by decide +kernel
theorem dX1_carryOut_197 : decode cX1_carryOut 197 = .ok (.iconst (-1), 1) := by decide +kernel
theorem dX1_carryOut_198 : decode cX1_carryOut 198 = .ok (.ixor, 1) := by decide +kernel
theorem dX1_carryOut_199 : decode cX1_carryOut 199 = .ok (.iand, 1) := by decide +kernel
theorem dX1_carryOut_200 : decode cX1_carryOut 200 = .ok (.ifCond .eq 7, 3) := by decide +kernel
theorem dX1_carryOut_203 : decode cX1_carryOut 203 = .ok (.iconst 1, 1) := by decide +kernel
theorem dX1_carryOut_204 : decode cX1_carryOut 204 = .ok (.goto 4, 3) := by decide +kernel
theorem dX1_carryOut_207 : decode cX1_carryOut 207 = .ok (.iconst 0, 1) := by decide +kernel
theorem dX1_carryOut_208 : decode cX1_carryOut 208 = .ok (.istore 4, 2) := by decide +kernel
theorem dX1_carryOut_210 : decode cX1_carryOut 210 = .ok (.aload_n 0, 1) := by decide +kernel
theorem dX1_carryOut_211 : decode cX1_carryOut 211 = .ok (.getfield 23, 3) := by decide +kernel
theorem dX1_carryOut_214 : decode cX1_carryOut 214 = .ok (.iload 7, 2) := by decide +kernel
theorem dX1_carryOut_216 : decode cX1_carryOut 216 = .ok (.aload_n 0, 1) := by decide +kernel
theorem dX1_carryOut_217 : decode cX1_carryOut 217 = .ok (.getfield 23, 3) := by decide +kernel
theorem dX1_carryOut_220 : decode cX1_carryOut 220 = .ok (.iload 7, 2) := by decide +kernel
theorem dX1_carryOut_222 : decode cX1_carryOut 222 = .ok (.iaload, 1) := by decide +kernel
theorem dX1_carryOut_223 : decode cX1_carryOut 223 = .ok (.iload 8, 2) := by decide +kernel
theorem dX1_carryOut_225 : decode cX1_carryOut 225 = .ok (.ior, 1) := by decide +kernel
theorem dX1_carryOut_226 : decode cX1_carryOut 226 = .ok (.iastore, 1) := by decide +kernel
theorem dX1_carryOut_227 : decode cX1_carryOut 227 = .ok (.iinc 6 1, 3) := by decide +kernel
theorem dX1_carryOut_230 : decode cX1_carryOut 230 = .ok (.goto (-111), 3) := by decide +kernel
theorem dX1_carryOut_233 : decode cX1_carryOut 233 = .ok (.iload 4, 2) := by decide +kernel
theorem dX1_carryOut_235 : decode cX1_carryOut 235 = .ok (.ireturn, 1) := by decide +kernel
theorem dX1_pointedBy_0 : decode cX1_pointedBy 0 = .ok (.aload_n 0, 1) := by decide +kernel
theorem dX1_pointedBy_1 : decode cX1_pointedBy 1 = .ok (.invokevirtual 44, 3) := by decide +kernel
theorem dX1_pointedBy_4 : decode cX1_pointedBy 4 = .ok (.iconst 0, 1) := by decide +kernel
theorem dX1_pointedBy_5 : decode cX1_pointedBy 5 = .ok (.istore_n 2, 1) := by decide +kernel
theorem dX1_pointedBy_6 : decode cX1_pointedBy 6 = .ok (.iconst 0, 1) := by decide +kernel
theorem dX1_pointedBy_7 : decode cX1_pointedBy 7 = .ok (.istore_n 3, 1) := by decide +kernel
theorem dX1_pointedBy_8 : decode cX1_pointedBy 8 = .ok (.iload_n 3, 1) := by decide +kernel
theorem dX1_pointedBy_9 : decode cX1_pointedBy 9 = .ok (.bipush 8, 2) := by decide +kernel
theorem dX1_pointedBy_11 : decode cX1_pointedBy 11 = .ok (.if_icmp .ge 41, 3) := by decide +kernel
theorem dX1_pointedBy_14 : decode cX1_pointedBy 14 = .ok (.aload_n 0, 1) := by decide +kernel
theorem dX1_pointedBy_15 : decode cX1_pointedBy 15 = .ok (.iload_n 1, 1) := by decide +kernel
theorem dX1_pointedBy_16 : decode cX1_pointedBy 16 = .ok (.invokevirtual 29, 3) := by decide +kernel
theorem dX1_pointedBy_19 : decode cX1_pointedBy 19 = .ok (.ifCond .eq 33, 3) := by decide +kernel
theorem dX1_pointedBy_22 : decode cX1_pointedBy 22 = .ok (.aload_n 0, 1) := by decide +kernel
theorem dX1_pointedBy_23 : decode cX1_pointedBy 23 = .ok (.getfield 23, 3) := by decide +kernel
theorem dX1_pointedBy_26 : decode cX1_pointedBy 26 = .ok (.iload_n 3, 1) := by decide +kernel
theorem dX1_pointedBy_27 : decode cX1_pointedBy 27 = .ok (.iaload, 1) := by decide +kernel
theorem dX1_pointedBy_28 : decode cX1_pointedBy 28 = .ok (.iload_n 1, 1) := by decide +kernel
theorem dX1_pointedBy_29 : decode cX1_pointedBy 29 = .ok (.ishr, 1) := by decide +kernel
theorem dX1_pointedBy_30 : decode cX1_pointedBy 30 = .ok (.iconst 1, 1) := by decide +kernel
theorem dX1_pointedBy_31 : decode cX1_pointedBy 31 = .ok (.iand, 1) := by decide +kernel
theorem dX1_pointedBy_32 : decode cX1_pointedBy 32 = .ok (.iconst 1, 1) := by decide +kernel
end
section
set_option maxRecDepth 100000
theorem dX1_pointedBy_33 : decode cX1_pointedBy 33 = .ok (.if_icmp .ne 11, 3) := by decide +kernel
theorem dX1_pointedBy_36 : decode cX1_pointedBy 36 = .ok (.iload_n 2, 1) := by decide +kernel
theorem dX1_pointedBy_37 : decode cX1_pointedBy 37 = .ok (.iconst 1, 1) := by decide +kernel
theorem dX1_pointedBy_38 : decode cX1_pointedBy 38 = .ok (.iload_n 3, 1) := by decide +kernel
theorem dX1_pointedBy_39 : decode cX1_pointedBy 39 = .ok (.ishl, 1) := by decide +kernel
theorem dX1_pointedBy_40 : decode cX1_pointedBy 40 = .ok (.ior, 1) := by decide +kernel
theorem dX1_pointedBy_41 : decode cX1_pointedBy 41 = .ok (.goto 4, 3) := by decide +kernel
theorem dX1_pointedBy_44 : decode cX1_pointedBy 44 = .ok (.iload_n 2, 1) := by decide +kernel
theorem dX1_pointedBy_45 : decode cX1_pointedBy 45 = .ok (.istore_n 2, 1) := by decide +kernel
theorem dX1_pointedBy_46 : decode cX1_pointedBy 46 = .ok (.iinc 3 1, 3) := by decide +kernel
theorem dX1_pointedBy_49 : decode cX1_pointedBy 49 = .ok (.goto (-41), 3) := by decide +kernel
theorem dX1_pointedBy_52 : decode cX1_pointedBy 52 = .ok (.iload_n 2, 1) := by decide +kernel
theorem dX1_pointedBy_53 : decode cX1_pointedBy 53 = .ok (.ireturn, 1) := by decide +kernel
theorem dX1_alias_0 : decode cX1_alias 0 = .ok (.aload_n 0, 1) := by decide +kernel
theorem dX1_alias_1 : decode cX1_alias 1 = .ok (.invokevirtual 44, 3) := by decide +kernel
theorem dX1_alias_4 : decode cX1_alias 4 = .ok (.aload_n 0, 1) := by decide +kernel
theorem dX1_alias_5 : decode cX1_alias 5 = .ok (.iload_n 1, 1) := by decide +kernel
theorem dX1_alias_6 : decode cX1_alias 6 = .ok (.invokevirtual 29, 3) := by decide +kernel
theorem dX1_alias_9 : decode cX1_alias 9 = .ok (.ifCond .eq 36, 3) := by decide +kernel
theorem dX1_alias_12 : decode cX1_alias 12 = .ok (.aload_n 0, 1) := by decide +kernel
theorem dX1_alias_13 : decode cX1_alias 13 = .ok (.iload_n 2, 1) := by decide +kernel
theorem dX1_alias_14 : decode cX1_alias 14 = .ok (.invokevirtual 29, 3) := by decide +kernel
theorem dX1_alias_17 : decode cX1_alias 17 = .ok (.ifCond .eq 28, 3) := by decide +kernel
theorem dX1_alias_20 : decode cX1_alias 20 = .ok (.iload_n 1, 1) := by decide +kernel
theorem dX1_alias_21 : decode cX1_alias 21 = .ok (.iload_n 2, 1) := by decide +kernel
theorem dX1_alias_22 : decode cX1_alias 22 = .ok (.if_icmp .eq 23, 3) := by decide +kernel
theorem dX1_alias_25 : decode cX1_alias 25 = .ok (.aload_n 0, 1) := by decide +kernel
theorem dX1_alias_26 : decode cX1_alias 26 = .ok (.getfield 23, 3) := by decide +kernel
theorem dX1_alias_29 : decode cX1_alias 29 = .ok (.iload_n 1, 1) := by decide +kernel
theorem dX1_alias_30 : decode cX1_alias 30 = .ok (.iaload, 1) := by decide +kernel
theorem dX1_alias_31 : decode cX1_alias 31 = .ok (.aload_n 0, 1) := by decide +kernel
theorem dX1_alias_32 : decode cX1_alias 32 = .ok (.getfield 23, 3) := by decide +kernel
theorem dX1_alias_35 : decode cX1_alias 35 = .ok (.iload_n 2, 1) := by decide +kernel
theorem dX1_alias_36 : decode cX1_alias 36 = .ok (.iaload, 1) := by decide +kernel
theorem dX1_alias_37 : decode cX1_alias 37 = .ok (.iand, 1) := by decide +kernel
theorem dX1_alias_38 : decode cX1_alias 38 = .ok (.ifCond .eq 7, 3) := by decide +kernel
theorem dX1_alias_41 : decode cX1_alias 41 = .ok (.iconst 1, 1) := by decide +kernel
theorem dX1_alias_42 : decode cX1_alias 42 = .ok (.goto 4, 3) := by decide +kernel
theorem dX1_alias_45 : decode cX1_alias 45 = .ok (.iconst 0, 1) := by decide +kernel
theorem dX1_alias_46 : decode cX1_alias 46 = .ok (.ireturn, 1) := by decide +kernel
theorem dX1_reach_0 : decode cX1_reach 0 = .ok (.aload_n 0, 1) := by decide +kernel
theorem dX1_reach_1 : decode cX1_reach 1 = .ok (.invokevirtual 44, 3) := by decide +kernel
theorem dX1_reach_4 : decode cX1_reach 4 = .ok (.aload_n 0, 1) := by decide +kernel
theorem dX1_reach_5 : decode cX1_reach 5 = .ok (.iload_n 1, 1) := by decide +kernel
theorem dX1_reach_6 : decode cX1_reach 6 = .ok (.invokevirtual 29, 3) := by decide +kernel
theorem dX1_reach_9 : decode cX1_reach 9 = .ok (.ifCond .eq 11, 3) := by decide +kernel
theorem dX1_reach_12 : decode cX1_reach 12 = .ok (.aload_n 0, 1) := by decide +kernel
theorem dX1_reach_13 : decode cX1_reach 13 = .ok (.iload_n 1, 1) := by decide +kernel
theorem dX1_reach_14 : decode cX1_reach 14 = .ok (.invokevirtual 47, 3) := by decide +kernel
theorem dX1_reach_17 : decode cX1_reach 17 = .ok (.goto 4, 3) := by decide +kernel
theorem dX1_reach_20 : decode cX1_reach 20 = .ok (.iconst 0, 1) := by decide +kernel
theorem dX1_reach_21 : decode cX1_reach 21 = .ok (.ireturn, 1) := by decide +kernel
theorem dX1_reached_0 : decode cX1_reached 0 = .ok (.aload_n 0, 1) := by decide +kernel
theorem dX1_reached_1 : decode cX1_reached 1 = .ok (.getfield 23, 3) := by decide +kernel
theorem dX1_reached_4 : decode cX1_reached 4 = .ok (.iload_n 1, 1) := by decide +kernel
theorem dX1_reached_5 : decode cX1_reached 5 = .ok (.iaload, 1) := by decide +kernel
theorem dX1_reached_6 : decode cX1_reached 6 = .ok (.istore_n 2, 1) := by decide +kernel
theorem dX1_reached_7 : decode cX1_reached 7 = .ok (.iconst 0, 1) := by decide +kernel
theorem dX1_reached_8 : decode cX1_reached 8 = .ok (.istore_n 3, 1) := by decide +kernel
theorem dX1_reached_9 : decode cX1_reached 9 = .ok (.iload_n 3, 1) := by decide +kernel
theorem dX1_reached_10 : decode cX1_reached 10 = .ok (.bipush 8, 2) := by decide +kernel
theorem dX1_reached_12 : decode cX1_reached 12 = .ok (.if_icmp .ge 49, 3) := by decide +kernel
theorem dX1_reached_15 : decode cX1_reached 15 = .ok (.iconst 0, 1) := by decide +kernel
theorem dX1_reached_16 : decode cX1_reached 16 = .ok (.istore 4, 2) := by decide +kernel
theorem dX1_reached_18 : decode cX1_reached 18 = .ok (.iload 4, 2) := by decide +kernel
theorem dX1_reached_20 : decode cX1_reached 20 = .ok (.bipush 8, 2) := by decide +kernel
theorem dX1_reached_22 : decode cX1_reached 22 = .ok (.if_icmp .ge 33, 3) := by decide +kernel
theorem dX1_reached_25 : decode cX1_reached 25 = .ok (.iload_n 2, 1) := by decide +kernel
theorem dX1_reached_26 : decode cX1_reached 26 = .ok (.iload 4, 2) := by decide +kernel
theorem dX1_reached_28 : decode cX1_reached 28 = .ok (.ishr, 1) := by decide +kernel
theorem dX1_reached_29 : decode cX1_reached 29 = .ok (.iconst 1, 1) := by decide +kernel
theorem dX1_reached_30 : decode cX1_reached 30 = .ok (.iand, 1) := by decide +kernel
theorem dX1_reached_31 : decode cX1_reached 31 = .ok (.iconst 1, 1) := by decide +kernel
theorem dX1_reached_32 : decode cX1_reached 32 = .ok (.if_icmp .ne 15, 3) := by decide +kernel
theorem dX1_reached_35 : decode cX1_reached 35 = .ok (.iload_n 2, 1) := by decide +kernel
theorem dX1_reached_36 : decode cX1_reached 36 = .ok (.aload_n 0, 1) := by decide +kernel
theorem dX1_reached_37 : decode cX1_reached 37 = .ok (.getfield 23, 3) := by decide +kernel
theorem dX1_reached_40 : decode cX1_reached 40 = .ok (.iload 4, 2) := by decide +kernel
theorem dX1_reached_42 : decode cX1_reached 42 = .ok (.iaload, 1) := by decide +kernel
theorem dX1_reached_43 : decode cX1_reached 43 = .ok (.ior, 1) := by decide +kernel
theorem dX1_reached_44 : decode cX1_reached 44 = .ok (.goto 4, 3) := by decide +kernel
theorem dX1_reached_47 : decode cX1_reached 47 = .ok (.iload_n 2, 1) := by decide +kernel
theorem dX1_reached_48 : decode cX1_reached 48 = .ok (.istore_n 2, 1) := by decide +kernel
theorem dX1_reached_49 : decode cX1_reached 49 = .ok (.iinc 4 1, 3) := by decide +kernel
theorem dX1_reached_52 : decode cX1_reached 52 = .ok (.goto (-34), 3) := by decide +kernel
theorem dX1_reached_55 : decode cX1_reached 55 = .ok (.iinc 3 1, 3) := by decide +kernel
theorem dX1_reached_58 : decode cX1_reached 58 = .ok (.goto (-49), 3) := by decide +kernel
theorem dX1_reached_61 : decode cX1_reached 61 = .ok (.iload_n 2, 1) := by decide +kernel
theorem dX1_reached_62 : decode cX1_reached 62 = .ok (.ireturn, 1) := by decide +kernel
theorem dX1_flows_0 : decode cX1_flows 0 = .ok (.aload_n 0, 1) := by decide +kernel
theorem dX1_flows_1 : decode cX1_flows 1 = .ok (.iload_n 1, 1) := by decide +kernel
theorem dX1_flows_2 : decode cX1_flows 2 = .ok (.invokevirtual 29, 3) := by decide +kernel
theorem dX1_flows_5 : decode cX1_flows 5 = .ok (.ifCond .eq 9, 3) := by decide +kernel
theorem dX1_flows_8 : decode cX1_flows 8 = .ok (.iconst 1, 1) := by decide +kernel
theorem dX1_flows_9 : decode cX1_flows 9 = .ok (.iload_n 1, 1) := by decide +kernel
theorem dX1_flows_10 : decode cX1_flows 10 = .ok (.ishl, 1) := by decide +kernel
theorem dX1_flows_11 : decode cX1_flows 11 = .ok (.goto 4, 3) := by decide +kernel
theorem dX1_flows_14 : decode cX1_flows 14 = .ok (.iconst 0, 1) := by decide +kernel
theorem dX1_flows_15 : decode cX1_flows 15 = .ok (.istore_n 3, 1) := by decide +kernel
theorem dX1_flows_16 : decode cX1_flows 16 = .ok (.iconst 0, 1) := by decide +kernel
theorem dX1_flows_17 : decode cX1_flows 17 = .ok (.istore 4, 2) := by decide +kernel
theorem dX1_flows_19 : decode cX1_flows 19 = .ok (.iload 4, 2) := by decide +kernel
theorem dX1_flows_21 : decode cX1_flows 21 = .ok (.bipush 8, 2) := by decide +kernel
theorem dX1_flows_23 : decode cX1_flows 23 = .ok (.if_icmp .ge 89, 3) := by decide +kernel
theorem dX1_flows_26 : decode cX1_flows 26 = .ok (.iconst 0, 1) := by decide +kernel
theorem dX1_flows_27 : decode cX1_flows 27 = .ok (.istore 5, 2) := by decide +kernel
theorem dX1_flows_29 : decode cX1_flows 29 = .ok (.iload 5, 2) := by decide +kernel
theorem dX1_flows_31 : decode cX1_flows 31 = .ok (.bipush 12, 2) := by decide +kernel
theorem dX1_flows_33 : decode cX1_flows 33 = .ok (.if_icmp .ge 73, 3) := by decide +kernel
theorem dX1_flows_36 : decode cX1_flows 36 = .ok (.aload_n 0, 1) := by decide +kernel
theorem dX1_flows_37 : decode cX1_flows 37 = .ok (.getfield 7, 3) := by decide +kernel
theorem dX1_flows_40 : decode cX1_flows 40 = .ok (.iload 5, 2) := by decide +kernel
theorem dX1_flows_42 : decode cX1_flows 42 = .ok (.baload, 1) := by decide +kernel
theorem dX1_flows_43 : decode cX1_flows 43 = .ok (.ifCond .eq 33, 3) := by decide +kernel
theorem dX1_flows_46 : decode cX1_flows 46 = .ok (.aload_n 0, 1) := by decide +kernel
theorem dX1_flows_47 : decode cX1_flows 47 = .ok (.getfield 13, 3) := by decide +kernel
theorem dX1_flows_50 : decode cX1_flows 50 = .ok (.iload 5, 2) := by decide +kernel
theorem dX1_flows_52 : decode cX1_flows 52 = .ok (.iaload, 1) := by decide +kernel
theorem dX1_flows_53 : decode cX1_flows 53 = .ok (.iconst 1, 1) := by decide +kernel
theorem dX1_flows_54 : decode cX1_flows 54 = .ok (.if_icmp .ne 22, 3) := by decide +kernel
theorem dX1_flows_57 : decode cX1_flows 57 = .ok (.iload_n 3, 1) := by decide +kernel
theorem dX1_flows_58 : decode cX1_flows 58 = .ok (.aload_n 0, 1) := by decide +kernel
theorem dX1_flows_59 : decode cX1_flows 59 = .ok (.getfield 17, 3) := by decide +kernel
theorem dX1_flows_62 : decode cX1_flows 62 = .ok (.iload 5, 2) := by decide +kernel
theorem dX1_flows_64 : decode cX1_flows 64 = .ok (.iaload, 1) := by decide +kernel
theorem dX1_flows_65 : decode cX1_flows 65 = .ok (.ishr, 1) := by decide +kernel
theorem dX1_flows_66 : decode cX1_flows 66 = .ok (.iconst 1, 1) := by decide +kernel
theorem dX1_flows_67 : decode cX1_flows 67 = .ok (.iand, 1) := by decide +kernel
theorem dX1_flows_68 : decode cX1_flows 68 = .ok (.iconst 1, 1) := by decide +kernel
theorem dX1_flows_69 : decode cX1_flows 69 = .ok (.if_icmp .ne 7, 3) := by decide +kernel
theorem dX1_flows_72 : decode cX1_flows 72 = .ok (.iconst 1, 1) := by decide +kernel
theorem dX1_flows_73 : decode cX1_flows 73 = .ok (.goto 4, 3) := by decide +kernel
theorem dX1_flows_76 : decode cX1_flows 76 = .ok (.iconst 0, 1) := by decide +kernel
theorem dX1_flows_77 : decode cX1_flows 77 = .ok (.istore 6, 2) := by decide +kernel
theorem dX1_flows_79 : decode cX1_flows 79 = .ok (.iload 6, 2) := by decide +kernel
theorem dX1_flows_81 : decode cX1_flows 81 = .ok (.ifCond .eq 17, 3) := by decide +kernel
theorem dX1_flows_84 : decode cX1_flows 84 = .ok (.iload_n 3, 1) := by decide +kernel
theorem dX1_flows_85 : decode cX1_flows 85 = .ok (.iconst 1, 1) := by decide +kernel
theorem dX1_flows_86 : decode cX1_flows 86 = .ok (.aload_n 0, 1) := by decide +kernel
theorem dX1_flows_87 : decode cX1_flows 87 = .ok (.getfield 20, 3) := by decide +kernel
theorem dX1_flows_90 : decode cX1_flows 90 = .ok (.iload 5, 2) := by decide +kernel
theorem dX1_flows_92 : decode cX1_flows 92 = .ok (.iaload, 1) := by decide +kernel
theorem dX1_flows_93 : decode cX1_flows 93 = .ok (.ishl, 1) := by decide +kernel
theorem dX1_flows_94 : decode cX1_flows 94 = .ok (.ior, 1) := by decide +kernel
theorem dX1_flows_95 : decode cX1_flows 95 = .ok (.goto 4, 3) := by decide +kernel
theorem dX1_flows_98 : decode cX1_flows 98 = .ok (.iload_n 3, 1) := by decide +kernel
theorem dX1_flows_99 : decode cX1_flows 99 = .ok (.istore_n 3, 1) := by decide +kernel
theorem dX1_flows_100 : decode cX1_flows 100 = .ok (.iinc 5 1, 3) := by decide +kernel
theorem dX1_flows_103 : decode cX1_flows 103 = .ok (.goto (-74), 3) := by decide +kernel
theorem dX1_flows_106 : decode cX1_flows 106 = .ok (.iinc 4 1, 3) := by decide +kernel
theorem dX1_flows_109 : decode cX1_flows 109 = .ok (.goto (-90), 3) := by decide +kernel
theorem dX1_flows_112 : decode cX1_flows 112 = .ok (.aload_n 0, 1) := by decide +kernel
theorem dX1_flows_113 : decode cX1_flows 113 = .ok (.iload_n 2, 1) := by decide +kernel
theorem dX1_flows_114 : decode cX1_flows 114 = .ok (.invokevirtual 29, 3) := by decide +kernel
theorem dX1_flows_117 : decode cX1_flows 117 = .ok (.ifCond .eq 16, 3) := by decide +kernel
theorem dX1_flows_120 : decode cX1_flows 120 = .ok (.iload_n 3, 1) := by decide +kernel
theorem dX1_flows_121 : decode cX1_flows 121 = .ok (.iload_n 2, 1) := by decide +kernel
theorem dX1_flows_122 : decode cX1_flows 122 = .ok (.ishr, 1) := by decide +kernel
theorem dX1_flows_123 : decode cX1_flows 123 = .ok (.iconst 1, 1) := by decide +kernel
theorem dX1_flows_124 : decode cX1_flows 124 = .ok (.iand, 1) := by decide +kernel
theorem dX1_flows_125 : decode cX1_flows 125 = .ok (.iconst 1, 1) := by decide +kernel
theorem dX1_flows_126 : decode cX1_flows 126 = .ok (.if_icmp .ne 7, 3) := by decide +kernel
theorem dX1_flows_129 : decode cX1_flows 129 = .ok (.iconst 1, 1) := by decide +kernel
theorem dX1_flows_130 : decode cX1_flows 130 = .ok (.goto 4, 3) := by decide +kernel
theorem dX1_flows_133 : decode cX1_flows 133 = .ok (.iconst 0, 1) := by decide +kernel
theorem dX1_flows_134 : decode cX1_flows 134 = .ok (.ireturn, 1) := by decide +kernel
theorem dX1_total_0 : decode cX1_total 0 = .ok (.aload_n 0, 1) := by decide +kernel
theorem dX1_total_1 : decode cX1_total 1 = .ok (.invokevirtual 44, 3) := by decide +kernel
theorem dX1_total_4 : decode cX1_total 4 = .ok (.iconst 0, 1) := by decide +kernel
theorem dX1_total_5 : decode cX1_total 5 = .ok (.istore_n 1, 1) := by decide +kernel
theorem dX1_total_6 : decode cX1_total 6 = .ok (.iconst 0, 1) := by decide +kernel
theorem dX1_total_7 : decode cX1_total 7 = .ok (.istore_n 2, 1) := by decide +kernel
theorem dX1_total_8 : decode cX1_total 8 = .ok (.iload_n 2, 1) := by decide +kernel
theorem dX1_total_9 : decode cX1_total 9 = .ok (.bipush 64, 2) := by decide +kernel
theorem dX1_total_11 : decode cX1_total 11 = .ok (.if_icmp .ge 28, 3) := by decide +kernel
theorem dX1_total_14 : decode cX1_total 14 = .ok (.iload_n 1, 1) := by decide +kernel
theorem dX1_total_15 : decode cX1_total 15 = .ok (.aload_n 0, 1) := by decide +kernel
theorem dX1_total_16 : decode cX1_total 16 = .ok (.getfield 23, 3) := by decide +kernel
theorem dX1_total_19 : decode cX1_total 19 = .ok (.iload_n 2, 1) := by decide +kernel
theorem dX1_total_20 : decode cX1_total 20 = .ok (.bipush 8, 2) := by decide +kernel
theorem dX1_total_22 : decode cX1_total 22 = .ok (.idiv, 1) := by decide +kernel
theorem dX1_total_23 : decode cX1_total 23 = .ok (.iaload, 1) := by decide +kernel
theorem dX1_total_24 : decode cX1_total 24 = .ok (.iload_n 2, 1) := by decide +kernel
theorem dX1_total_25 : decode cX1_total 25 = .ok (.bipush 8, 2) := by decide +kernel
theorem dX1_total_27 : decode cX1_total 27 = .ok (.irem, 1) := by decide +kernel
theorem dX1_total_28 : decode cX1_total 28 = .ok (.ishr, 1) := by decide +kernel
theorem dX1_total_29 : decode cX1_total 29 = .ok (.iconst 1, 1) := by decide +kernel
theorem dX1_total_30 : decode cX1_total 30 = .ok (.iand, 1) := by decide +kernel
theorem dX1_total_31 : decode cX1_total 31 = .ok (.iadd, 1) := by decide +kernel
theorem dX1_total_32 : decode cX1_total 32 = .ok (.istore_n 1, 1) := by decide +kernel
theorem dX1_total_33 : decode cX1_total 33 = .ok (.iinc 2 1, 3) := by decide +kernel
theorem dX1_total_36 : decode cX1_total 36 = .ok (.goto (-28), 3) := by decide +kernel
theorem dX1_total_39 : decode cX1_total 39 = .ok (.iload_n 1, 1) := by decide +kernel
theorem dX1_total_40 : decode cX1_total 40 = .ok (.ireturn, 1) := by decide +kernel
theorem dX1_redundant_0 : decode cX1_redundant 0 = .ok (.iload_n 1, 1) := by decide +kernel
theorem dX1_redundant_1 : decode cX1_redundant 1 = .ok (.ifCond .lt 18, 3) := by decide +kernel
theorem dX1_redundant_4 : decode cX1_redundant 4 = .ok (.iload_n 1, 1) := by decide +kernel
theorem dX1_redundant_5 : decode cX1_redundant 5 = .ok (.bipush 11, 2) := by decide +kernel
theorem dX1_redundant_7 : decode cX1_redundant 7 = .ok (.if_icmp .gt 12, 3) := by decide +kernel
theorem dX1_redundant_10 : decode cX1_redundant 10 = .ok (.aload_n 0, 1) := by decide +kernel
theorem dX1_redundant_11 : decode cX1_redundant 11 = .ok (.getfield 7, 3) := by decide +kernel
theorem dX1_redundant_14 : decode cX1_redundant 14 = .ok (.iload_n 1, 1) := by decide +kernel
theorem dX1_redundant_15 : decode cX1_redundant 15 = .ok (.baload, 1) := by decide +kernel
theorem dX1_redundant_16 : decode cX1_redundant 16 = .ok (.ifCond .ne 5, 3) := by decide +kernel
theorem dX1_redundant_19 : decode cX1_redundant 19 = .ok (.iconst 0, 1) := by decide +kernel
theorem dX1_redundant_20 : decode cX1_redundant 20 = .ok (.ireturn, 1) := by decide +kernel
theorem dX1_redundant_21 : decode cX1_redundant 21 = .ok (.aload_n 0, 1) := by decide +kernel
theorem dX1_redundant_22 : decode cX1_redundant 22 = .ok (.invokevirtual 44, 3) := by decide +kernel
theorem dX1_redundant_25 : decode cX1_redundant 25 = .ok (.iconst 0, 1) := by decide +kernel
theorem dX1_redundant_26 : decode cX1_redundant 26 = .ok (.istore_n 2, 1) := by decide +kernel
theorem dX1_redundant_27 : decode cX1_redundant 27 = .ok (.iload_n 2, 1) := by decide +kernel
theorem dX1_redundant_28 : decode cX1_redundant 28 = .ok (.bipush 8, 2) := by decide +kernel
theorem dX1_redundant_30 : decode cX1_redundant 30 = .ok (.if_icmp .ge 21, 3) := by decide +kernel
theorem dX1_redundant_33 : decode cX1_redundant 33 = .ok (.aload_n 0, 1) := by decide +kernel
theorem dX1_redundant_34 : decode cX1_redundant 34 = .ok (.getfield 26, 3) := by decide +kernel
theorem dX1_redundant_37 : decode cX1_redundant 37 = .ok (.iload_n 2, 1) := by decide +kernel
theorem dX1_redundant_38 : decode cX1_redundant 38 = .ok (.aload_n 0, 1) := by decide +kernel
theorem dX1_redundant_39 : decode cX1_redundant 39 = .ok (.getfield 23, 3) := by decide +kernel
theorem dX1_redundant_42 : decode cX1_redundant 42 = .ok (.iload_n 2, 1) := by decide +kernel
theorem dX1_redundant_43 : decode cX1_redundant 43 = .ok (.iaload, 1) := by decide +kernel
theorem dX1_redundant_44 : decode cX1_redundant 44 = .ok (.iastore, 1) := by decide +kernel
theorem dX1_redundant_45 : decode cX1_redundant 45 = .ok (.iinc 2 1, 3) := by decide +kernel
theorem dX1_redundant_48 : decode cX1_redundant 48 = .ok (.goto (-21), 3) := by decide +kernel
theorem dX1_redundant_51 : decode cX1_redundant 51 = .ok (.aload_n 0, 1) := by decide +kernel
theorem dX1_redundant_52 : decode cX1_redundant 52 = .ok (.getfield 7, 3) := by decide +kernel
theorem dX1_redundant_55 : decode cX1_redundant 55 = .ok (.iload_n 1, 1) := by decide +kernel
theorem dX1_redundant_56 : decode cX1_redundant 56 = .ok (.iconst 0, 1) := by decide +kernel
theorem dX1_redundant_57 : decode cX1_redundant 57 = .ok (.bastore, 1) := by decide +kernel
theorem dX1_redundant_58 : decode cX1_redundant 58 = .ok (.aload_n 0, 1) := by decide +kernel
theorem dX1_redundant_59 : decode cX1_redundant 59 = .ok (.invokevirtual 44, 3) := by decide +kernel
theorem dX1_redundant_62 : decode cX1_redundant 62 = .ok (.aload_n 0, 1) := by decide +kernel
theorem dX1_redundant_63 : decode cX1_redundant 63 = .ok (.getfield 7, 3) := by decide +kernel
theorem dX1_redundant_66 : decode cX1_redundant 66 = .ok (.iload_n 1, 1) := by decide +kernel
theorem dX1_redundant_67 : decode cX1_redundant 67 = .ok (.iconst 1, 1) := by decide +kernel
theorem dX1_redundant_68 : decode cX1_redundant 68 = .ok (.bastore, 1) := by decide +kernel
theorem dX1_redundant_69 : decode cX1_redundant 69 = .ok (.iconst 1, 1) := by decide +kernel
theorem dX1_redundant_70 : decode cX1_redundant 70 = .ok (.istore_n 2, 1) := by decide +kernel
theorem dX1_redundant_71 : decode cX1_redundant 71 = .ok (.iconst 0, 1) := by decide +kernel
theorem dX1_redundant_72 : decode cX1_redundant 72 = .ok (.istore_n 3, 1) := by decide +kernel
theorem dX1_redundant_73 : decode cX1_redundant 73 = .ok (.iload_n 3, 1) := by decide +kernel
theorem dX1_redundant_74 : decode cX1_redundant 74 = .ok (.bipush 8, 2) := by decide +kernel
theorem dX1_redundant_76 : decode cX1_redundant 76 = .ok (.if_icmp .ge 34, 3) := by decide +kernel
theorem dX1_redundant_79 : decode cX1_redundant 79 = .ok (.iload_n 2, 1) := by decide +kernel
theorem dX1_redundant_80 : decode cX1_redundant 80 = .ok (.ifCond .eq 22, 3) := by decide +kernel
theorem dX1_redundant_83 : decode cX1_redundant 83 = .ok (.aload_n 0, 1) := by decide +kernel
theorem dX1_redundant_84 : decode cX1_redundant 84 = .ok (.getfield 26, 3) := by decide +kernel
theorem dX1_redundant_87 : decode cX1_redundant 87 = .ok (.iload_n 3, 1) := by decide +kernel
theorem dX1_redundant_88 : decode cX1_redundant 88 = .ok (.iaload, 1) := by decide +kernel
theorem dX1_redundant_89 : decode cX1_redundant 89 = .ok (.aload_n 0, 1) := by decide +kernel
theorem dX1_redundant_90 : decode cX1_redundant 90 = .ok (.getfield 23, 3) := by decide +kernel
theorem dX1_redundant_93 : decode cX1_redundant 93 = .ok (.iload_n 3, 1) := by decide +kernel
theorem dX1_redundant_94 : decode cX1_redundant 94 = .ok (.iaload, 1) := by decide +kernel
theorem dX1_redundant_95 : decode cX1_redundant 95 = .ok (.if_icmp .ne 7, 3) := by decide +kernel
theorem dX1_redundant_98 : decode cX1_redundant 98 = .ok (.iconst 1, 1) := by decide +kernel
theorem dX1_redundant_99 : decode cX1_redundant 99 = .ok (.goto 4, 3) := by decide +kernel
theorem dX1_redundant_102 : decode cX1_redundant 102 = .ok (.iconst 0, 1) := by decide +kernel
theorem dX1_redundant_103 : decode cX1_redundant 103 = .ok (.istore_n 2, 1) := by decide +kernel
theorem dX1_redundant_104 : decode cX1_redundant 104 = .ok (.iinc 3 1, 3) := by decide +kernel
theorem dX1_redundant_107 : decode cX1_redundant 107 = .ok (.goto (-34), 3) := by decide +kernel
theorem dX1_redundant_110 : decode cX1_redundant 110 = .ok (.iload_n 2, 1) := by decide +kernel
theorem dX1_redundant_111 : decode cX1_redundant 111 = .ok (.ireturn, 1) := by decide +kernel
theorem dX1_gain_0 : decode cX1_gain 0 = .ok (.aload_n 0, 1) := by decide +kernel
theorem dX1_gain_1 : decode cX1_gain 1 = .ok (.iload_n 1, 1) := by decide +kernel
theorem dX1_gain_2 : decode cX1_gain 2 = .ok (.iload_n 2, 1) := by decide +kernel
theorem dX1_gain_3 : decode cX1_gain 3 = .ok (.iload_n 3, 1) := by decide +kernel
theorem dX1_gain_4 : decode cX1_gain 4 = .ok (.invokevirtual 33, 3) := by decide +kernel
theorem dX1_gain_7 : decode cX1_gain 7 = .ok (.ifCond .ne 5, 3) := by decide +kernel
theorem dX1_gain_10 : decode cX1_gain 10 = .ok (.iconst (-1), 1) := by decide +kernel
theorem dX1_gain_11 : decode cX1_gain 11 = .ok (.ireturn, 1) := by decide +kernel
theorem dX1_gain_12 : decode cX1_gain 12 = .ok (.aload_n 0, 1) := by decide +kernel
theorem dX1_gain_13 : decode cX1_gain 13 = .ok (.invokevirtual 51, 3) := by decide +kernel
theorem dX1_gain_16 : decode cX1_gain 16 = .ok (.istore 4, 2) := by decide +kernel
theorem dX1_gain_18 : decode cX1_gain 18 = .ok (.aload_n 0, 1) := by decide +kernel
theorem dX1_gain_19 : decode cX1_gain 19 = .ok (.bipush 12, 2) := by decide +kernel
theorem dX1_gain_21 : decode cX1_gain 21 = .ok (.iload_n 1, 1) := by decide +kernel
theorem dX1_gain_22 : decode cX1_gain 22 = .ok (.iload_n 2, 1) := by decide +kernel
theorem dX1_gain_23 : decode cX1_gain 23 = .ok (.iload_n 3, 1) := by decide +kernel
theorem dX1_gain_24 : decode cX1_gain 24 = .ok (.invokevirtual 37, 3) := by decide +kernel
theorem dX1_gain_27 : decode cX1_gain 27 = .ok (.aload_n 0, 1) := by decide +kernel
theorem dX1_gain_28 : decode cX1_gain 28 = .ok (.invokevirtual 51, 3) := by decide +kernel
theorem dX1_gain_31 : decode cX1_gain 31 = .ok (.istore 5, 2) := by decide +kernel
theorem dX1_gain_33 : decode cX1_gain 33 = .ok (.aload_n 0, 1) := by decide +kernel
theorem dX1_gain_34 : decode cX1_gain 34 = .ok (.getfield 7, 3) := by decide +kernel
theorem dX1_gain_37 : decode cX1_gain 37 = .ok (.bipush 12, 2) := by decide +kernel
theorem dX1_gain_39 : decode cX1_gain 39 = .ok (.iconst 0, 1) := by decide +kernel
theorem dX1_gain_40 : decode cX1_gain 40 = .ok (.bastore, 1) := by decide +kernel
theorem dX1_gain_41 : decode cX1_gain 41 = .ok (.iload 5, 2) := by decide +kernel
theorem dX1_gain_43 : decode cX1_gain 43 = .ok (.iload 4, 2) := by decide +kernel
theorem dX1_gain_45 : decode cX1_gain 45 = .ok (.isub, 1) := by decide +kernel
theorem dX1_gain_46 : decode cX1_gain 46 = .ok (.ireturn, 1) := by decide +kernel
theorem dX1_cyclic_0 : decode cX1_cyclic 0 = .ok (.aload_n 0, 1) := by decide +kernel
theorem dX1_cyclic_1 : decode cX1_cyclic 1 = .ok (.invokevirtual 44, 3) := by decide +kernel
theorem dX1_cyclic_4 : decode cX1_cyclic 4 = .ok (.iconst 0, 1) := by decide +kernel
theorem dX1_cyclic_5 : decode cX1_cyclic 5 = .ok (.istore_n 1, 1) := by decide +kernel
theorem dX1_cyclic_6 : decode cX1_cyclic 6 = .ok (.iconst 0, 1) := by decide +kernel
theorem dX1_cyclic_7 : decode cX1_cyclic 7 = .ok (.istore_n 2, 1) := by decide +kernel
theorem dX1_cyclic_8 : decode cX1_cyclic 8 = .ok (.iload_n 2, 1) := by decide +kernel
theorem dX1_cyclic_9 : decode cX1_cyclic 9 = .ok (.bipush 8, 2) := by decide +kernel
theorem dX1_cyclic_11 : decode cX1_cyclic 11 = .ok (.if_icmp .ge 32, 3) := by decide +kernel
theorem dX1_cyclic_14 : decode cX1_cyclic 14 = .ok (.aload_n 0, 1) := by decide +kernel
theorem dX1_cyclic_15 : decode cX1_cyclic 15 = .ok (.iload_n 2, 1) := by decide +kernel
theorem dX1_cyclic_16 : decode cX1_cyclic 16 = .ok (.invokevirtual 47, 3) := by decide +kernel
theorem dX1_cyclic_19 : decode cX1_cyclic 19 = .ok (.iload_n 2, 1) := by decide +kernel
theorem dX1_cyclic_20 : decode cX1_cyclic 20 = .ok (.ishr, 1) := by decide +kernel
theorem dX1_cyclic_21 : decode cX1_cyclic 21 = .ok (.iconst 1, 1) := by decide +kernel
theorem dX1_cyclic_22 : decode cX1_cyclic 22 = .ok (.iand, 1) := by decide +kernel
theorem dX1_cyclic_23 : decode cX1_cyclic 23 = .ok (.iconst 1, 1) := by decide +kernel
theorem dX1_cyclic_24 : decode cX1_cyclic 24 = .ok (.if_icmp .ne 11, 3) := by decide +kernel
theorem dX1_cyclic_27 : decode cX1_cyclic 27 = .ok (.iload_n 1, 1) := by decide +kernel
theorem dX1_cyclic_28 : decode cX1_cyclic 28 = .ok (.iconst 1, 1) := by decide +kernel
theorem dX1_cyclic_29 : decode cX1_cyclic 29 = .ok (.iload_n 2, 1) := by decide +kernel
theorem dX1_cyclic_30 : decode cX1_cyclic 30 = .ok (.ishl, 1) := by decide +kernel
theorem dX1_cyclic_31 : decode cX1_cyclic 31 = .ok (.ior, 1) := by decide +kernel
theorem dX1_cyclic_32 : decode cX1_cyclic 32 = .ok (.goto 4, 3) := by decide +kernel
theorem dX1_cyclic_35 : decode cX1_cyclic 35 = .ok (.iload_n 1, 1) := by decide +kernel
theorem dX1_cyclic_36 : decode cX1_cyclic 36 = .ok (.istore_n 1, 1) := by decide +kernel
theorem dX1_cyclic_37 : decode cX1_cyclic 37 = .ok (.iinc 2 1, 3) := by decide +kernel
theorem dX1_cyclic_40 : decode cX1_cyclic 40 = .ok (.goto (-32), 3) := by decide +kernel
theorem dX1_cyclic_43 : decode cX1_cyclic 43 = .ok (.iload_n 1, 1) := by decide +kernel
theorem dX1_cyclic_44 : decode cX1_cyclic 44 = .ok (.ireturn, 1) := by decide +kernel
theorem dX1_twins_0 : decode cX1_twins 0 = .ok (.aload_n 0, 1) := by decide +kernel
theorem dX1_twins_1 : decode cX1_twins 1 = .ok (.invokevirtual 44, 3) := by decide +kernel
theorem dX1_twins_4 : decode cX1_twins 4 = .ok (.iconst 0, 1) := by decide +kernel
theorem dX1_twins_5 : decode cX1_twins 5 = .ok (.istore_n 2, 1) := by decide +kernel
theorem dX1_twins_6 : decode cX1_twins 6 = .ok (.iconst 0, 1) := by decide +kernel
theorem dX1_twins_7 : decode cX1_twins 7 = .ok (.istore_n 3, 1) := by decide +kernel
theorem dX1_twins_8 : decode cX1_twins 8 = .ok (.iload_n 3, 1) := by decide +kernel
theorem dX1_twins_9 : decode cX1_twins 9 = .ok (.bipush 8, 2) := by decide +kernel
theorem dX1_twins_11 : decode cX1_twins 11 = .ok (.if_icmp .ge 42, 3) := by decide +kernel
theorem dX1_twins_14 : decode cX1_twins 14 = .ok (.aload_n 0, 1) := by decide +kernel
theorem dX1_twins_15 : decode cX1_twins 15 = .ok (.iload_n 1, 1) := by decide +kernel
theorem dX1_twins_16 : decode cX1_twins 16 = .ok (.invokevirtual 29, 3) := by decide +kernel
theorem dX1_twins_19 : decode cX1_twins 19 = .ok (.ifCond .eq 34, 3) := by decide +kernel
theorem dX1_twins_22 : decode cX1_twins 22 = .ok (.aload_n 0, 1) := by decide +kernel
theorem dX1_twins_23 : decode cX1_twins 23 = .ok (.getfield 23, 3) := by decide +kernel
theorem dX1_twins_26 : decode cX1_twins 26 = .ok (.iload_n 3, 1) := by decide +kernel
theorem dX1_twins_27 : decode cX1_twins 27 = .ok (.iaload, 1) := by decide +kernel
theorem dX1_twins_28 : decode cX1_twins 28 = .ok (.aload_n 0, 1) := by decide +kernel
theorem dX1_twins_29 : decode cX1_twins 29 = .ok (.getfield 23, 3) := by decide +kernel
theorem dX1_twins_32 : decode cX1_twins 32 = .ok (.iload_n 1, 1) := by decide +kernel
theorem dX1_twins_33 : decode cX1_twins 33 = .ok (.iaload, 1) := by decide +kernel
theorem dX1_twins_34 : decode cX1_twins 34 = .ok (.if_icmp .ne 11, 3) := by decide +kernel
theorem dX1_twins_37 : decode cX1_twins 37 = .ok (.iload_n 2, 1) := by decide +kernel
theorem dX1_twins_38 : decode cX1_twins 38 = .ok (.iconst 1, 1) := by decide +kernel
theorem dX1_twins_39 : decode cX1_twins 39 = .ok (.iload_n 3, 1) := by decide +kernel
theorem dX1_twins_40 : decode cX1_twins 40 = .ok (.ishl, 1) := by decide +kernel
theorem dX1_twins_41 : decode cX1_twins 41 = .ok (.ior, 1) := by decide +kernel
theorem dX1_twins_42 : decode cX1_twins 42 = .ok (.goto 4, 3) := by decide +kernel
theorem dX1_twins_45 : decode cX1_twins 45 = .ok (.iload_n 2, 1) := by decide +kernel
theorem dX1_twins_46 : decode cX1_twins 46 = .ok (.istore_n 2, 1) := by decide +kernel
theorem dX1_twins_47 : decode cX1_twins 47 = .ok (.iinc 3 1, 3) := by decide +kernel
theorem dX1_twins_50 : decode cX1_twins 50 = .ok (.goto (-42), 3) := by decide +kernel
theorem dX1_twins_53 : decode cX1_twins 53 = .ok (.iload_n 2, 1) := by decide +kernel
theorem dX1_twins_54 : decode cX1_twins 54 = .ok (.ireturn, 1) := by decide +kernel
end
section
set_option maxRecDepth 100000
theorem dL_law_0 : decode cL_law 0 = .ok (.new 7, 3) := by decide +kernel
theorem dL_law_3 : decode cL_law 3 = .ok (.dup, 1) := by decide +kernel
theorem dL_law_4 : decode cL_law 4 = .ok (.invokespecial 9, 3) := by decide +kernel
theorem dL_law_7 : decode cL_law 7 = .ok (.astore_n 1, 1) := by decide +kernel
theorem dL_law_8 : decode cL_law 8 = .ok (.new 10, 3) := by decide +kernel
theorem dL_law_11 : decode cL_law 11 = .ok (.dup, 1) := by decide +kernel
theorem dL_law_12 : decode cL_law 12 = .ok (.invokespecial 12, 3) := by decide +kernel
theorem dL_law_15 : decode cL_law 15 = .ok (.astore_n 2, 1) := by decide +kernel
theorem dL_law_16 : decode cL_law 16 = .ok (.iconst 0, 1) := by decide +kernel
theorem dL_law_17 : decode cL_law 17 = .ok (.istore_n 3, 1) := by decide +kernel
theorem dL_law_18 : decode cL_law 18 = .ok (.iload_n 3, 1) := by decide +kernel
theorem dL_law_19 : decode cL_law 19 = .ok (.aload_n 0, 1) := by decide +kernel
theorem dL_law_20 : decode cL_law 20 = .ok (.arraylength, 1) := by decide +kernel
theorem dL_law_21 : decode cL_law 21 = .ok (.iconst 4, 1) := by decide +kernel
theorem dL_law_22 : decode cL_law 22 = .ok (.isub, 1) := by decide +kernel
theorem dL_law_23 : decode cL_law 23 = .ok (.if_icmp .gt 412, 3) := by decide +kernel
theorem dL_law_26 : decode cL_law 26 = .ok (.aload_n 0, 1) := by decide +kernel
theorem dL_law_27 : decode cL_law 27 = .ok (.iload_n 3, 1) := by decide +kernel
theorem dL_law_28 : decode cL_law 28 = .ok (.iaload, 1) := by decide +kernel
theorem dL_law_29 : decode cL_law 29 = .ok (.bipush 15, 2) := by decide +kernel
theorem dL_law_31 : decode cL_law 31 = .ok (.iand, 1) := by decide +kernel
theorem dL_law_32 : decode cL_law 32 = .ok (.tableswitch 397 0 12 #[68, 111, 134, 147, 170, 193, 226, 249, 282, 295, 318, 361, 374], 68) := by decide +kernel
theorem dL_law_100 : decode cL_law 100 = .ok (.aload_n 1, 1) := by decide +kernel
theorem dL_law_101 : decode cL_law 101 = .ok (.aload_n 0, 1) := by decide +kernel
theorem dL_law_102 : decode cL_law 102 = .ok (.iload_n 3, 1) := by decide +kernel
theorem dL_law_103 : decode cL_law 103 = .ok (.iconst 1, 1) := by decide +kernel
theorem dL_law_104 : decode cL_law 104 = .ok (.iadd, 1) := by decide +kernel
theorem dL_law_105 : decode cL_law 105 = .ok (.iaload, 1) := by decide +kernel
theorem dL_law_106 : decode cL_law 106 = .ok (.aload_n 0, 1) := by decide +kernel
theorem dL_law_107 : decode cL_law 107 = .ok (.iload_n 3, 1) := by decide +kernel
theorem dL_law_108 : decode cL_law 108 = .ok (.iconst 2, 1) := by decide +kernel
theorem dL_law_109 : decode cL_law 109 = .ok (.iadd, 1) := by decide +kernel
theorem dL_law_110 : decode cL_law 110 = .ok (.iaload, 1) := by decide +kernel
theorem dL_law_111 : decode cL_law 111 = .ok (.aload_n 0, 1) := by decide +kernel
theorem dL_law_112 : decode cL_law 112 = .ok (.iload_n 3, 1) := by decide +kernel
theorem dL_law_113 : decode cL_law 113 = .ok (.iconst 3, 1) := by decide +kernel
theorem dL_law_114 : decode cL_law 114 = .ok (.iadd, 1) := by decide +kernel
theorem dL_law_115 : decode cL_law 115 = .ok (.iaload, 1) := by decide +kernel
theorem dL_law_116 : decode cL_law 116 = .ok (.invokevirtual 13, 3) := by decide +kernel
theorem dL_law_119 : decode cL_law 119 = .ok (.aload_n 2, 1) := by decide +kernel
theorem dL_law_120 : decode cL_law 120 = .ok (.aload_n 0, 1) := by decide +kernel
theorem dL_law_121 : decode cL_law 121 = .ok (.iload_n 3, 1) := by decide +kernel
theorem dL_law_122 : decode cL_law 122 = .ok (.iconst 1, 1) := by decide +kernel
theorem dL_law_123 : decode cL_law 123 = .ok (.iadd, 1) := by decide +kernel
theorem dL_law_124 : decode cL_law 124 = .ok (.iaload, 1) := by decide +kernel
theorem dL_law_125 : decode cL_law 125 = .ok (.aload_n 0, 1) := by decide +kernel
theorem dL_law_126 : decode cL_law 126 = .ok (.iload_n 3, 1) := by decide +kernel
theorem dL_law_127 : decode cL_law 127 = .ok (.iconst 2, 1) := by decide +kernel
theorem dL_law_128 : decode cL_law 128 = .ok (.iadd, 1) := by decide +kernel
theorem dL_law_129 : decode cL_law 129 = .ok (.iaload, 1) := by decide +kernel
theorem dL_law_130 : decode cL_law 130 = .ok (.aload_n 0, 1) := by decide +kernel
theorem dL_law_131 : decode cL_law 131 = .ok (.iload_n 3, 1) := by decide +kernel
theorem dL_law_132 : decode cL_law 132 = .ok (.iconst 3, 1) := by decide +kernel
theorem dL_law_133 : decode cL_law 133 = .ok (.iadd, 1) := by decide +kernel
theorem dL_law_134 : decode cL_law 134 = .ok (.iaload, 1) := by decide +kernel
theorem dL_law_135 : decode cL_law 135 = .ok (.invokevirtual 17, 3) := by decide +kernel
theorem dL_law_138 : decode cL_law 138 = .ok (.if_icmp .eq 291, 3) := by decide +kernel
theorem dL_law_141 : decode cL_law 141 = .ok (.iconst 0, 1) := by decide +kernel
theorem dL_law_142 : decode cL_law 142 = .ok (.ireturn, 1) := by decide +kernel
theorem dL_law_143 : decode cL_law 143 = .ok (.aload_n 1, 1) := by decide +kernel
theorem dL_law_144 : decode cL_law 144 = .ok (.aload_n 0, 1) := by decide +kernel
theorem dL_law_145 : decode cL_law 145 = .ok (.iload_n 3, 1) := by decide +kernel
theorem dL_law_146 : decode cL_law 146 = .ok (.iconst 1, 1) := by decide +kernel
theorem dL_law_147 : decode cL_law 147 = .ok (.iadd, 1) := by decide +kernel
theorem dL_law_148 : decode cL_law 148 = .ok (.iaload, 1) := by decide +kernel
theorem dL_law_149 : decode cL_law 149 = .ok (.invokevirtual 18, 3) := by decide +kernel
theorem dL_law_152 : decode cL_law 152 = .ok (.aload_n 2, 1) := by decide +kernel
theorem dL_law_153 : decode cL_law 153 = .ok (.aload_n 0, 1) := by decide +kernel
theorem dL_law_154 : decode cL_law 154 = .ok (.iload_n 3, 1) := by decide +kernel
theorem dL_law_155 : decode cL_law 155 = .ok (.iconst 1, 1) := by decide +kernel
theorem dL_law_156 : decode cL_law 156 = .ok (.iadd, 1) := by decide +kernel
theorem dL_law_157 : decode cL_law 157 = .ok (.iaload, 1) := by decide +kernel
theorem dL_law_158 : decode cL_law 158 = .ok (.invokevirtual 22, 3) := by decide +kernel
theorem dL_law_161 : decode cL_law 161 = .ok (.if_icmp .eq 268, 3) := by decide +kernel
theorem dL_law_164 : decode cL_law 164 = .ok (.iconst 0, 1) := by decide +kernel
theorem dL_law_165 : decode cL_law 165 = .ok (.ireturn, 1) := by decide +kernel
theorem dL_law_166 : decode cL_law 166 = .ok (.aload_n 1, 1) := by decide +kernel
theorem dL_law_167 : decode cL_law 167 = .ok (.invokevirtual 23, 3) := by decide +kernel
theorem dL_law_170 : decode cL_law 170 = .ok (.aload_n 2, 1) := by decide +kernel
theorem dL_law_171 : decode cL_law 171 = .ok (.invokevirtual 27, 3) := by decide +kernel
theorem dL_law_174 : decode cL_law 174 = .ok (.if_icmp .eq 255, 3) := by decide +kernel
theorem dL_law_177 : decode cL_law 177 = .ok (.iconst 0, 1) := by decide +kernel
theorem dL_law_178 : decode cL_law 178 = .ok (.ireturn, 1) := by decide +kernel
theorem dL_law_179 : decode cL_law 179 = .ok (.aload_n 1, 1) := by decide +kernel
theorem dL_law_180 : decode cL_law 180 = .ok (.aload_n 0, 1) := by decide +kernel
theorem dL_law_181 : decode cL_law 181 = .ok (.iload_n 3, 1) := by decide +kernel
theorem dL_law_182 : decode cL_law 182 = .ok (.iconst 1, 1) := by decide +kernel
theorem dL_law_183 : decode cL_law 183 = .ok (.iadd, 1) := by decide +kernel
theorem dL_law_184 : decode cL_law 184 = .ok (.iaload, 1) := by decide +kernel
theorem dL_law_185 : decode cL_law 185 = .ok (.invokevirtual 28, 3) := by decide +kernel
theorem dL_law_188 : decode cL_law 188 = .ok (.aload_n 2, 1) := by decide +kernel
theorem dL_law_189 : decode cL_law 189 = .ok (.aload_n 0, 1) := by decide +kernel
theorem dL_law_190 : decode cL_law 190 = .ok (.iload_n 3, 1) := by decide +kernel
theorem dL_law_191 : decode cL_law 191 = .ok (.iconst 1, 1) := by decide +kernel
theorem dL_law_192 : decode cL_law 192 = .ok (.iadd, 1) := by decide +kernel
theorem dL_law_193 : decode cL_law 193 = .ok (.iaload, 1) := by decide +kernel
theorem dL_law_194 : decode cL_law 194 = .ok (.invokevirtual 32, 3) := by decide +kernel
theorem dL_law_197 : decode cL_law 197 = .ok (.if_icmp .eq 232, 3) := by decide +kernel
theorem dL_law_200 : decode cL_law 200 = .ok (.iconst 0, 1) := by decide +kernel
theorem dL_law_201 : decode cL_law 201 = .ok (.ireturn, 1) := by decide +kernel
theorem dL_law_202 : decode cL_law 202 = .ok (.aload_n 1, 1) := by decide +kernel
theorem dL_law_203 : decode cL_law 203 = .ok (.aload_n 0, 1) := by decide +kernel
theorem dL_law_204 : decode cL_law 204 = .ok (.iload_n 3, 1) := by decide +kernel
theorem dL_law_205 : decode cL_law 205 = .ok (.iconst 1, 1) := by decide +kernel
theorem dL_law_206 : decode cL_law 206 = .ok (.iadd, 1) := by decide +kernel
theorem dL_law_207 : decode cL_law 207 = .ok (.iaload, 1) := by decide +kernel
theorem dL_law_208 : decode cL_law 208 = .ok (.invokevirtual 33, 3) := by decide +kernel
theorem dL_law_211 : decode cL_law 211 = .ok (.aload_n 2, 1) := by decide +kernel
theorem dL_law_212 : decode cL_law 212 = .ok (.aload_n 0, 1) := by decide +kernel
theorem dL_law_213 : decode cL_law 213 = .ok (.iload_n 3, 1) := by decide +kernel
theorem dL_law_214 : decode cL_law 214 = .ok (.iconst 1, 1) := by decide +kernel
theorem dL_law_215 : decode cL_law 215 = .ok (.iadd, 1) := by decide +kernel
theorem dL_law_216 : decode cL_law 216 = .ok (.iaload, 1) := by decide +kernel
theorem dL_law_217 : decode cL_law 217 = .ok (.invokevirtual 36, 3) := by decide +kernel
theorem dL_law_220 : decode cL_law 220 = .ok (.if_icmp .eq 209, 3) := by decide +kernel
theorem dL_law_223 : decode cL_law 223 = .ok (.iconst 0, 1) := by decide +kernel
theorem dL_law_224 : decode cL_law 224 = .ok (.ireturn, 1) := by decide +kernel
theorem dL_law_225 : decode cL_law 225 = .ok (.aload_n 1, 1) := by decide +kernel
theorem dL_law_226 : decode cL_law 226 = .ok (.aload_n 0, 1) := by decide +kernel
theorem dL_law_227 : decode cL_law 227 = .ok (.iload_n 3, 1) := by decide +kernel
theorem dL_law_228 : decode cL_law 228 = .ok (.iconst 1, 1) := by decide +kernel
theorem dL_law_229 : decode cL_law 229 = .ok (.iadd, 1) := by decide +kernel
theorem dL_law_230 : decode cL_law 230 = .ok (.iaload, 1) := by decide +kernel
theorem dL_law_231 : decode cL_law 231 = .ok (.aload_n 0, 1) := by decide +kernel
theorem dL_law_232 : decode cL_law 232 = .ok (.iload_n 3, 1) := by decide +kernel
theorem dL_law_233 : decode cL_law 233 = .ok (.iconst 2, 1) := by decide +kernel
theorem dL_law_234 : decode cL_law 234 = .ok (.iadd, 1) := by decide +kernel
theorem dL_law_235 : decode cL_law 235 = .ok (.iaload, 1) := by decide +kernel
theorem dL_law_236 : decode cL_law 236 = .ok (.invokevirtual 37, 3) := by decide +kernel
theorem dL_law_239 : decode cL_law 239 = .ok (.aload_n 2, 1) := by decide +kernel
theorem dL_law_240 : decode cL_law 240 = .ok (.aload_n 0, 1) := by decide +kernel
theorem dL_law_241 : decode cL_law 241 = .ok (.iload_n 3, 1) := by decide +kernel
theorem dL_law_242 : decode cL_law 242 = .ok (.iconst 1, 1) := by decide +kernel
theorem dL_law_243 : decode cL_law 243 = .ok (.iadd, 1) := by decide +kernel
theorem dL_law_244 : decode cL_law 244 = .ok (.iaload, 1) := by decide +kernel
theorem dL_law_245 : decode cL_law 245 = .ok (.aload_n 0, 1) := by decide +kernel
theorem dL_law_246 : decode cL_law 246 = .ok (.iload_n 3, 1) := by decide +kernel
theorem dL_law_247 : decode cL_law 247 = .ok (.iconst 2, 1) := by decide +kernel
theorem dL_law_248 : decode cL_law 248 = .ok (.iadd, 1) := by decide +kernel
theorem dL_law_249 : decode cL_law 249 = .ok (.iaload, 1) := by decide +kernel
theorem dL_law_250 : decode cL_law 250 = .ok (.invokevirtual 41, 3) := by decide +kernel
theorem dL_law_253 : decode cL_law 253 = .ok (.if_icmp .eq 176, 3) := by decide +kernel
theorem dL_law_256 : decode cL_law 256 = .ok (.iconst 0, 1) := by decide +kernel
theorem dL_law_257 : decode cL_law 257 = .ok (.ireturn, 1) := by decide +kernel
theorem dL_law_258 : decode cL_law 258 = .ok (.aload_n 1, 1) := by decide +kernel
theorem dL_law_259 : decode cL_law 259 = .ok (.aload_n 0, 1) := by decide +kernel
theorem dL_law_260 : decode cL_law 260 = .ok (.iload_n 3, 1) := by decide +kernel
theorem dL_law_261 : decode cL_law 261 = .ok (.iconst 1, 1) := by decide +kernel
theorem dL_law_262 : decode cL_law 262 = .ok (.iadd, 1) := by decide +kernel
theorem dL_law_263 : decode cL_law 263 = .ok (.iaload, 1) := by decide +kernel
theorem dL_law_264 : decode cL_law 264 = .ok (.invokevirtual 42, 3) := by decide +kernel
theorem dL_law_267 : decode cL_law 267 = .ok (.aload_n 2, 1) := by decide +kernel
theorem dL_law_268 : decode cL_law 268 = .ok (.aload_n 0, 1) := by decide +kernel
theorem dL_law_269 : decode cL_law 269 = .ok (.iload_n 3, 1) := by decide +kernel
theorem dL_law_270 : decode cL_law 270 = .ok (.iconst 1, 1) := by decide +kernel
theorem dL_law_271 : decode cL_law 271 = .ok (.iadd, 1) := by decide +kernel
theorem dL_law_272 : decode cL_law 272 = .ok (.iaload, 1) := by decide +kernel
theorem dL_law_273 : decode cL_law 273 = .ok (.invokevirtual 45, 3) := by decide +kernel
theorem dL_law_276 : decode cL_law 276 = .ok (.if_icmp .eq 153, 3) := by decide +kernel
theorem dL_law_279 : decode cL_law 279 = .ok (.iconst 0, 1) := by decide +kernel
theorem dL_law_280 : decode cL_law 280 = .ok (.ireturn, 1) := by decide +kernel
theorem dL_law_281 : decode cL_law 281 = .ok (.aload_n 1, 1) := by decide +kernel
theorem dL_law_282 : decode cL_law 282 = .ok (.aload_n 0, 1) := by decide +kernel
theorem dL_law_283 : decode cL_law 283 = .ok (.iload_n 3, 1) := by decide +kernel
theorem dL_law_284 : decode cL_law 284 = .ok (.iconst 1, 1) := by decide +kernel
theorem dL_law_285 : decode cL_law 285 = .ok (.iadd, 1) := by decide +kernel
theorem dL_law_286 : decode cL_law 286 = .ok (.iaload, 1) := by decide +kernel
theorem dL_law_287 : decode cL_law 287 = .ok (.aload_n 0, 1) := by decide +kernel
theorem dL_law_288 : decode cL_law 288 = .ok (.iload_n 3, 1) := by decide +kernel
theorem dL_law_289 : decode cL_law 289 = .ok (.iconst 2, 1) := by decide +kernel
theorem dL_law_290 : decode cL_law 290 = .ok (.iadd, 1) := by decide +kernel
theorem dL_law_291 : decode cL_law 291 = .ok (.iaload, 1) := by decide +kernel
theorem dL_law_292 : decode cL_law 292 = .ok (.invokevirtual 46, 3) := by decide +kernel
theorem dL_law_295 : decode cL_law 295 = .ok (.aload_n 2, 1) := by decide +kernel
theorem dL_law_296 : decode cL_law 296 = .ok (.aload_n 0, 1) := by decide +kernel
theorem dL_law_297 : decode cL_law 297 = .ok (.iload_n 3, 1) := by decide +kernel
theorem dL_law_298 : decode cL_law 298 = .ok (.iconst 1, 1) := by decide +kernel
theorem dL_law_299 : decode cL_law 299 = .ok (.iadd, 1) := by decide +kernel
theorem dL_law_300 : decode cL_law 300 = .ok (.iaload, 1) := by decide +kernel
theorem dL_law_301 : decode cL_law 301 = .ok (.aload_n 0, 1) := by decide +kernel
theorem dL_law_302 : decode cL_law 302 = .ok (.iload_n 3, 1) := by decide +kernel
theorem dL_law_303 : decode cL_law 303 = .ok (.iconst 2, 1) := by decide +kernel
theorem dL_law_304 : decode cL_law 304 = .ok (.iadd, 1) := by decide +kernel
theorem dL_law_305 : decode cL_law 305 = .ok (.iaload, 1) := by decide +kernel
theorem dL_law_306 : decode cL_law 306 = .ok (.invokevirtual 49, 3) := by decide +kernel
theorem dL_law_309 : decode cL_law 309 = .ok (.if_icmp .eq 120, 3) := by decide +kernel
theorem dL_law_312 : decode cL_law 312 = .ok (.iconst 0, 1) := by decide +kernel
theorem dL_law_313 : decode cL_law 313 = .ok (.ireturn, 1) := by decide +kernel
theorem dL_law_314 : decode cL_law 314 = .ok (.aload_n 1, 1) := by decide +kernel
theorem dL_law_315 : decode cL_law 315 = .ok (.invokevirtual 50, 3) := by decide +kernel
theorem dL_law_318 : decode cL_law 318 = .ok (.aload_n 2, 1) := by decide +kernel
theorem dL_law_319 : decode cL_law 319 = .ok (.invokevirtual 53, 3) := by decide +kernel
theorem dL_law_322 : decode cL_law 322 = .ok (.if_icmp .eq 107, 3) := by decide +kernel
theorem dL_law_325 : decode cL_law 325 = .ok (.iconst 0, 1) := by decide +kernel
theorem dL_law_326 : decode cL_law 326 = .ok (.ireturn, 1) := by decide +kernel
theorem dL_law_327 : decode cL_law 327 = .ok (.aload_n 1, 1) := by decide +kernel
theorem dL_law_328 : decode cL_law 328 = .ok (.aload_n 0, 1) := by decide +kernel
theorem dL_law_329 : decode cL_law 329 = .ok (.iload_n 3, 1) := by decide +kernel
theorem dL_law_330 : decode cL_law 330 = .ok (.iconst 1, 1) := by decide +kernel
theorem dL_law_331 : decode cL_law 331 = .ok (.iadd, 1) := by decide +kernel
theorem dL_law_332 : decode cL_law 332 = .ok (.iaload, 1) := by decide +kernel
theorem dL_law_333 : decode cL_law 333 = .ok (.invokevirtual 54, 3) := by decide +kernel
theorem dL_law_336 : decode cL_law 336 = .ok (.aload_n 2, 1) := by decide +kernel
theorem dL_law_337 : decode cL_law 337 = .ok (.aload_n 0, 1) := by decide +kernel
theorem dL_law_338 : decode cL_law 338 = .ok (.iload_n 3, 1) := by decide +kernel
theorem dL_law_339 : decode cL_law 339 = .ok (.iconst 1, 1) := by decide +kernel
theorem dL_law_340 : decode cL_law 340 = .ok (.iadd, 1) := by decide +kernel
theorem dL_law_341 : decode cL_law 341 = .ok (.iaload, 1) := by decide +kernel
theorem dL_law_342 : decode cL_law 342 = .ok (.invokevirtual 57, 3) := by decide +kernel
theorem dL_law_345 : decode cL_law 345 = .ok (.if_icmp .eq 84, 3) := by decide +kernel
theorem dL_law_348 : decode cL_law 348 = .ok (.iconst 0, 1) := by decide +kernel
theorem dL_law_349 : decode cL_law 349 = .ok (.ireturn, 1) := by decide +kernel
theorem dL_law_350 : decode cL_law 350 = .ok (.aload_n 1, 1) := by decide +kernel
theorem dL_law_351 : decode cL_law 351 = .ok (.aload_n 0, 1) := by decide +kernel
theorem dL_law_352 : decode cL_law 352 = .ok (.iload_n 3, 1) := by decide +kernel
theorem dL_law_353 : decode cL_law 353 = .ok (.iconst 1, 1) := by decide +kernel
theorem dL_law_354 : decode cL_law 354 = .ok (.iadd, 1) := by decide +kernel
theorem dL_law_355 : decode cL_law 355 = .ok (.iaload, 1) := by decide +kernel
theorem dL_law_356 : decode cL_law 356 = .ok (.aload_n 0, 1) := by decide +kernel
theorem dL_law_357 : decode cL_law 357 = .ok (.iload_n 3, 1) := by decide +kernel
theorem dL_law_358 : decode cL_law 358 = .ok (.iconst 2, 1) := by decide +kernel
theorem dL_law_359 : decode cL_law 359 = .ok (.iadd, 1) := by decide +kernel
theorem dL_law_360 : decode cL_law 360 = .ok (.iaload, 1) := by decide +kernel
theorem dL_law_361 : decode cL_law 361 = .ok (.aload_n 0, 1) := by decide +kernel
theorem dL_law_362 : decode cL_law 362 = .ok (.iload_n 3, 1) := by decide +kernel
theorem dL_law_363 : decode cL_law 363 = .ok (.iconst 3, 1) := by decide +kernel
theorem dL_law_364 : decode cL_law 364 = .ok (.iadd, 1) := by decide +kernel
theorem dL_law_365 : decode cL_law 365 = .ok (.iaload, 1) := by decide +kernel
theorem dL_law_366 : decode cL_law 366 = .ok (.invokevirtual 58, 3) := by decide +kernel
theorem dL_law_369 : decode cL_law 369 = .ok (.aload_n 2, 1) := by decide +kernel
theorem dL_law_370 : decode cL_law 370 = .ok (.aload_n 0, 1) := by decide +kernel
theorem dL_law_371 : decode cL_law 371 = .ok (.iload_n 3, 1) := by decide +kernel
theorem dL_law_372 : decode cL_law 372 = .ok (.iconst 1, 1) := by decide +kernel
theorem dL_law_373 : decode cL_law 373 = .ok (.iadd, 1) := by decide +kernel
theorem dL_law_374 : decode cL_law 374 = .ok (.iaload, 1) := by decide +kernel
theorem dL_law_375 : decode cL_law 375 = .ok (.aload_n 0, 1) := by decide +kernel
theorem dL_law_376 : decode cL_law 376 = .ok (.iload_n 3, 1) := by decide +kernel
theorem dL_law_377 : decode cL_law 377 = .ok (.iconst 2, 1) := by decide +kernel
theorem dL_law_378 : decode cL_law 378 = .ok (.iadd, 1) := by decide +kernel
theorem dL_law_379 : decode cL_law 379 = .ok (.iaload, 1) := by decide +kernel
theorem dL_law_380 : decode cL_law 380 = .ok (.aload_n 0, 1) := by decide +kernel
theorem dL_law_381 : decode cL_law 381 = .ok (.iload_n 3, 1) := by decide +kernel
theorem dL_law_382 : decode cL_law 382 = .ok (.iconst 3, 1) := by decide +kernel
theorem dL_law_383 : decode cL_law 383 = .ok (.iadd, 1) := by decide +kernel
theorem dL_law_384 : decode cL_law 384 = .ok (.iaload, 1) := by decide +kernel
theorem dL_law_385 : decode cL_law 385 = .ok (.invokevirtual 61, 3) := by decide +kernel
theorem dL_law_388 : decode cL_law 388 = .ok (.if_icmp .eq 41, 3) := by decide +kernel
theorem dL_law_391 : decode cL_law 391 = .ok (.iconst 0, 1) := by decide +kernel
theorem dL_law_392 : decode cL_law 392 = .ok (.ireturn, 1) := by decide +kernel
theorem dL_law_393 : decode cL_law 393 = .ok (.aload_n 1, 1) := by decide +kernel
theorem dL_law_394 : decode cL_law 394 = .ok (.invokevirtual 62, 3) := by decide +kernel
theorem dL_law_397 : decode cL_law 397 = .ok (.aload_n 2, 1) := by decide +kernel
theorem dL_law_398 : decode cL_law 398 = .ok (.invokevirtual 65, 3) := by decide +kernel
theorem dL_law_401 : decode cL_law 401 = .ok (.if_icmp .eq 28, 3) := by decide +kernel
theorem dL_law_404 : decode cL_law 404 = .ok (.iconst 0, 1) := by decide +kernel
theorem dL_law_405 : decode cL_law 405 = .ok (.ireturn, 1) := by decide +kernel
theorem dL_law_406 : decode cL_law 406 = .ok (.aload_n 1, 1) := by decide +kernel
theorem dL_law_407 : decode cL_law 407 = .ok (.aload_n 0, 1) := by decide +kernel
theorem dL_law_408 : decode cL_law 408 = .ok (.iload_n 3, 1) := by decide +kernel
theorem dL_law_409 : decode cL_law 409 = .ok (.iconst 1, 1) := by decide +kernel
theorem dL_law_410 : decode cL_law 410 = .ok (.iadd, 1) := by decide +kernel
theorem dL_law_411 : decode cL_law 411 = .ok (.iaload, 1) := by decide +kernel
theorem dL_law_412 : decode cL_law 412 = .ok (.invokevirtual 66, 3) := by decide +kernel
theorem dL_law_415 : decode cL_law 415 = .ok (.aload_n 2, 1) := by decide +kernel
theorem dL_law_416 : decode cL_law 416 = .ok (.aload_n 0, 1) := by decide +kernel
theorem dL_law_417 : decode cL_law 417 = .ok (.iload_n 3, 1) := by decide +kernel
theorem dL_law_418 : decode cL_law 418 = .ok (.iconst 1, 1) := by decide +kernel
theorem dL_law_419 : decode cL_law 419 = .ok (.iadd, 1) := by decide +kernel
theorem dL_law_420 : decode cL_law 420 = .ok (.iaload, 1) := by decide +kernel
theorem dL_law_421 : decode cL_law 421 = .ok (.invokevirtual 69, 3) := by decide +kernel
theorem dL_law_424 : decode cL_law 424 = .ok (.if_icmp .eq 5, 3) := by decide +kernel
theorem dL_law_427 : decode cL_law 427 = .ok (.iconst 0, 1) := by decide +kernel
theorem dL_law_428 : decode cL_law 428 = .ok (.ireturn, 1) := by decide +kernel
theorem dL_law_429 : decode cL_law 429 = .ok (.iinc 3 4, 3) := by decide +kernel
theorem dL_law_432 : decode cL_law 432 = .ok (.goto (-414), 3) := by decide +kernel
theorem dL_law_435 : decode cL_law 435 = .ok (.iconst 1, 1) := by decide +kernel
theorem dL_law_436 : decode cL_law 436 = .ok (.ireturn, 1) := by decide +kernel
end
section
/-! my kit: naturals as the machine's ints, the two classes' worlds, contracts that keep a world's shape, calls, returns, loops -/
set_option maxRecDepth 100000
abbrev vwCl : List vw_C := [(RX0, TX0, 8), (RX1, TX1, 6)]
def bI (b : Bool) : Int32 := if b then 1 else 0
def nf (f : Nat → Nat) : Nat → Int32 := fun j => nI (f j)
def bf (f : Nat → Bool) : Nat → Int32 := fun j => bI (f j)
/-- a without the bits of b -/
def ndf (a b : Nat) : Nat := a ^^^ (a &&& b)
/-- a variable: 0 .. 7 -/
def vr (x : Int32) : Bool := decide (¬ x < 0) && decide (x.toNatClampNeg < 8)
/-- a kind: 0 .. 3 -/
def kr (x : Int32) : Bool := decide (¬ x < 0) && decide (x.toNatClampNeg < 4)
/-- a statement's number that may be asked for: 0 .. 11 -/
def tr (x : Int32) : Bool := decide (¬ x < 0) && decide (x.toNatClampNeg < 12)
theorem ndf_bit (a b i : Nat) : (ndf a b).testBit i = (a.testBit i && !b.testBit i) := by
  unfold ndf
  rw [Nat.testBit_xor, Nat.testBit_and]
  cases a.testBit i <;> cases b.testBit i <;> rfl
theorem bI_0 {b : Bool} : bI b = 0 ↔ b = false := by cases b <;> decide
theorem bI_1 {b : Bool} : bI b = nI 1 ↔ b = true := by cases b <;> decide
theorem nf_up (f : Nat → Nat) (k v : Nat) : upd (nf f) k (nI v) = nf (va_up f k v) := by
  funext j
  simp only [upd, nf, va_up]
  split <;> rfl
theorem bf_up (f : Nat → Bool) (k : Nat) (v : Bool) : upd (bf f) k (bI v) = bf (va_up f k v) := by
  funext j
  simp only [upd, bf, va_up]
  split <;> rfl
theorem ni_and (a b : Nat) : nI a &&& nI b = nI (a &&& b) := by
  apply Int32.toBitVec_inj.1
  show BitVec.ofNat 32 a &&& BitVec.ofNat 32 b = BitVec.ofNat 32 (a &&& b)
  apply BitVec.eq_of_getLsbD_eq
  intro i hi
  simp [hi]
theorem ni_or (a b : Nat) : nI a ||| nI b = nI (a ||| b) := by
  apply Int32.toBitVec_inj.1
  show BitVec.ofNat 32 a ||| BitVec.ofNat 32 b = BitVec.ofNat 32 (a ||| b)
  apply BitVec.eq_of_getLsbD_eq
  intro i hi
  simp [hi]
theorem ni_xor (a b : Nat) : nI a ^^^ nI b = nI (a ^^^ b) := by
  apply Int32.toBitVec_inj.1
  show BitVec.ofNat 32 a ^^^ BitVec.ofNat 32 b = BitVec.ofNat 32 (a ^^^ b)
  apply BitVec.eq_of_getLsbD_eq
  intro i hi
  simp [hi]
theorem ni_m1 : ∀ i, i < 32 → ((-1 : Int32).toBitVec).getLsbD i = true := by decide +kernel
theorem ni_ndf (a b : Nat) : nI a &&& (nI b ^^^ (-1)) = nI (ndf a b) := by
  apply Int32.toBitVec_inj.1
  show BitVec.ofNat 32 a &&& (BitVec.ofNat 32 b ^^^ (-1 : Int32).toBitVec) = BitVec.ofNat 32 (ndf a b)
  apply BitVec.eq_of_getLsbD_eq
  intro i hi
  rw [BitVec.getLsbD_and, BitVec.getLsbD_xor, ni_m1 i hi, BitVec.getLsbD_ofNat, BitVec.getLsbD_ofNat, BitVec.getLsbD_ofNat, ndf_bit]
  simp [hi]
theorem ni_4097 (a : Nat) : nI a &&& (-4097) = nI (ndf a (2 ^ 12)) := by
  rw [← ni_ndf]
  rfl
theorem ni_sl : ∀ n, n < 32 → ((nI n &&& 31).toBitVec.smod 32).toNat = n := by decide +kernel
theorem ni_shl : ∀ k, k < 31 → (nI 1 <<< (nI k &&& 31)) = nI (2 ^ k) := by decide +kernel
theorem ni_bit {s k : Nat} (hs : s < 2 ^ 31) (hk : k < 32) : (nI s >>> (nI k &&& 31)) &&& nI 1 = bI (s.testBit k) := by
  rw [pk_shrN hs _ k (ni_sl k hk), ni_and, Nat.and_one_is_mod, Nat.testBit_eq_decide_div_mod_eq]
  rcases Nat.mod_two_eq_zero_or_one (s / 2 ^ k) with h | h <;> rw [h] <;> rfl
theorem ni_sh : ∀ v, v < 256 → (nI v).toInt16.toInt32 = nI v := by decide +kernel
theorem ni_by : ∀ v, v < 128 → (nI v).toInt8.toInt32 = nI v := by decide +kernel
theorem ni_vs {v : Nat} (h : v < 256) : vp_nar .short (nI v) = nI v := by rw [vp_nar_short]; exact ni_sh v h
theorem ni_vb {v : Nat} (h : v < 128) : vp_nar .byte (nI v) = nI v := by rw [vp_nar_byte]; exact ni_by v h
theorem ni_vz (b : Bool) : vp_nar .boolean (bI b) = bI b := by cases b <;> rfl
theorem ni_nz (b : Bool) : narrow .boolean (.int (bI b)) = .int (bI b) := by cases b <;> rfl
theorem ni_addb (n : Nat) (b : Bool) : nI n + bI b = nI (n + b.toNat) := by
  cases b
  · exact nI_add n 0
  · exact nI_add n 1
theorem ni_z {n : Nat} (h : n < 2 ^ 31) : nI n = 0 ↔ n = 0 := by
  rw [← nI_0, nI_eq h (by decide)]
theorem vr_n {j : Nat} (h : j < 2 ^ 31) : vr (nI j) = decide (j < 8) := by
  unfold vr
  rw [nI_clamp h, decide_eq_true (nI_pos h), Bool.true_and]
theorem vr_of {x : Int32} (h : vr x = true) : ∃ j, j < 8 ∧ x = nI j := by
  unfold vr at h
  rw [Bool.and_eq_true] at h
  have h1 := of_decide_eq_true h.1
  have h2 := of_decide_eq_true h.2
  obtain ⟨j, hj, rfl⟩ := nI_of h1
  rw [nI_clamp hj] at h2
  exact ⟨j, h2, rfl⟩
theorem vr_lt {x : Int32} (h : x < 0) : vr x = false := by
  unfold vr
  rw [decide_eq_false (fun q => q h), Bool.false_and]
theorem vr_ge {x : Int32} (h : nI 8 ≤ x) : vr x = false := by
  cases e : vr x with
  | false => rfl
  | true =>
    obtain ⟨j, hj, rfl⟩ := vr_of e
    exact absurd ((nI_leI (by omega) (by omega)).mp h) (by omega)
theorem vr_in {x : Int32} (h : ¬ x < 0) (h2 : ¬ nI 8 ≤ x) : vr x = true := by
  obtain ⟨j, hj, rfl⟩ := nI_of h
  rw [vr_n hj]
  exact decide_eq_true (Nat.not_le.mp (fun q => h2 ((nI_leI (by omega) hj).mpr q)))
theorem kr_of {x : Int32} (h : kr x = true) : ∃ j, j < 4 ∧ x = nI j := by
  unfold kr at h
  rw [Bool.and_eq_true] at h
  have h1 := of_decide_eq_true h.1
  have h2 := of_decide_eq_true h.2
  obtain ⟨j, hj, rfl⟩ := nI_of h1
  rw [nI_clamp hj] at h2
  exact ⟨j, h2, rfl⟩
theorem kr_lt {x : Int32} (h : x < 0) : kr x = false := by
  unfold kr
  rw [decide_eq_false (fun q => q h), Bool.false_and]
theorem kr_n {j : Nat} (h : j < 2 ^ 31) : kr (nI j) = decide (j < 4) := by
  unfold kr
  rw [nI_clamp h, decide_eq_true (nI_pos h), Bool.true_and]
theorem kr_gt {x : Int32} (h : nI 3 < x) : kr x = false := by
  cases e : kr x with
  | false => rfl
  | true =>
    obtain ⟨j, hj, rfl⟩ := kr_of e
    exact absurd ((nI_ltI (by omega) (by omega)).mp h) (by omega)
theorem kr_in {x : Int32} (h : ¬ x < 0) (h2 : ¬ nI 3 < x) : kr x = true := by
  obtain ⟨j, hj, rfl⟩ := nI_of h
  rw [kr_n hj]
  exact decide_eq_true (Nat.lt_succ_of_le (Nat.not_lt.mp (fun q => h2 ((nI_ltI (by omega) hj).mpr q))))
theorem tr_of {x : Int32} (h : tr x = true) : ∃ j, j < 12 ∧ x = nI j := by
  unfold tr at h
  rw [Bool.and_eq_true] at h
  have h1 := of_decide_eq_true h.1
  have h2 := of_decide_eq_true h.2
  obtain ⟨j, hj, rfl⟩ := nI_of h1
  rw [nI_clamp hj] at h2
  exact ⟨j, h2, rfl⟩
theorem tr_lt {x : Int32} (h : x < 0) : tr x = false := by
  unfold tr
  rw [decide_eq_false (fun q => q h), Bool.false_and]
theorem tr_n {j : Nat} (h : j < 2 ^ 31) : tr (nI j) = decide (j < 12) := by
  unfold tr
  rw [nI_clamp h, decide_eq_true (nI_pos h), Bool.true_and]
theorem tr_ge {x : Int32} (h : nI 12 ≤ x) : tr x = false := by
  cases e : tr x with
  | false => rfl
  | true =>
    obtain ⟨j, hj, rfl⟩ := tr_of e
    exact absurd ((nI_leI (by omega) (by omega)).mp h) (by omega)
theorem tr_gt {x : Int32} (h : nI 11 < x) : tr x = false := by
  cases e : tr x with
  | false => rfl
  | true =>
    obtain ⟨j, hj, rfl⟩ := tr_of e
    exact absurd ((nI_ltI (by omega) (by omega)).mp h) (by omega)
theorem tr_in {x : Int32} (h : ¬ x < 0) (h2 : ¬ nI 12 ≤ x) : tr x = true := by
  obtain ⟨j, hj, rfl⟩ := nI_of h
  rw [tr_n hj]
  exact decide_eq_true (Nat.not_le.mp (fun q => h2 ((nI_leI (by omega) hj).mpr q)))
theorem tr_in' {x : Int32} (h : ¬ x < 0) (h2 : ¬ nI 11 < x) : tr x = true := by
  obtain ⟨j, hj, rfl⟩ := nI_of h
  rw [tr_n hj]
  exact decide_eq_true (Nat.lt_succ_of_le (Nat.not_lt.mp (fun q => h2 ((nI_ltI (by omega) hj).mpr q))))
theorem vr_gt {x : Int32} (h : nI 7 < x) : vr x = false := by
  cases e : vr x with
  | false => rfl
  | true =>
    obtain ⟨j, hj, rfl⟩ := vr_of e
    exact absurd ((nI_ltI (by omega) (by omega)).mp h) (by omega)
theorem vr_in' {x : Int32} (h : ¬ x < 0) (h2 : ¬ nI 7 < x) : vr x = true := by
  obtain ⟨j, hj, rfl⟩ := nI_of h
  rw [vr_n hj]
  exact decide_eq_true (Nat.lt_succ_of_le (Nat.not_lt.mp (fun q => h2 ((nI_ltI (by omega) hj).mpr q))))
/-- what may be made a statement -/
def sok (a b c : Int32) : Bool := kr a && (vr b && vr c)
/-- the worlds: a: the cells' addresses, d: the arrays' classes -/
abbrev xW (a : Nat → Nat) (d : Nat → ClassId) (pr : Nat) (kn : Bool) (K X Y P F L : Nat → Nat) : va_W := [(a 0, .inr (0, [.int (nI pr), .ref (a 1), .ref (a 2), .ref (a 3), .int (bI kn), .ref (a 4), .ref (a 5), .ref (a 6)])), (a 1, .inl (d 1, 13, .inl (nf K))), (a 2, .inl (d 2, 13, .inl (nf X))), (a 3, .inl (d 3, 13, .inl (nf Y))), (a 4, .inl (d 4, 8, .inl (nf P))), (a 5, .inl (d 5, 8, .inl (nf F))), (a 6, .inl (d 6, 8, .inl (nf L)))]
abbrev xT (d : Nat → ClassId) : List (ClassId × FieldType) := [(d 1, .byte), (d 2, .byte), (d 3, .byte), (d 4, .short), (d 5, .short), (d 6, .short)]
abbrev mW (a : Nat → Nat) (d : Nat → ClassId) (T : Nat → Bool) (K X Y P O : Nat → Nat) : va_W := [(a 0, .inr (1, [.ref (a 1), .ref (a 2), .ref (a 3), .ref (a 4), .ref (a 5), .ref (a 6)])), (a 1, .inl (d 1, 13, .inl (bf T))), (a 2, .inl (d 2, 13, .inl (nf K))), (a 3, .inl (d 3, 13, .inl (nf X))), (a 4, .inl (d 4, 13, .inl (nf Y))), (a 5, .inl (d 5, 8, .inl (nf P))), (a 6, .inl (d 6, 8, .inl (nf O)))]
abbrev mT (d : Nat → ClassId) : List (ClassId × FieldType) := [(d 1, .boolean), (d 2, .int), (d 3, .int), (d 4, .int), (d 5, .int), (d 6, .int)]
/-- a contract's start and end over one list of cells -/
def gU (D : va_G) (tys : List (ClassId × FieldType)) (ws : va_W) (sz : Nat) (U : State) : Prop := U.heap.size = sz ∧ va_P D vwCl ws U.heap ∧ va_K D vwCl tys U ∧ va_D (fun _ => True) ws
abbrev Ki (l : Launch) (y : MethodName) (b : ByteArray) (L : Nat) (r : Option FieldType) (fr lo : Nat) (D : va_G) (tys : List (ClassId × FieldType)) (ws : va_W) (args : List Value) {S : Type} (post : Int32 → S → Prop) (w' : S → va_W) : Prop := ∀ sz : Nat, Met l y (ws_ y b L r) { frames := fr, cells := 0, slots := 0, locals := lo } (va_Pc args (gU D tys ws sz)) (va_Qi post (fun u t => va_P D vwCl (w' u) t.heap ∧ va_K D vwCl tys t ∧ va_D (va_A ws sz) (w' u)) (va_A ws sz)) 0 0 (va_A ws sz)
abbrev Kv (l : Launch) (y : MethodName) (b : ByteArray) (L : Nat) (fr lo : Nat) (D : va_G) (tys : List (ClassId × FieldType)) (ws : va_W) (args : List Value) {S : Type} (post : S → Prop) (w' : S → va_W) : Prop := ∀ sz : Nat, Met l y (ws_ y b L none) { frames := fr, cells := 0, slots := 0, locals := lo } (va_Pc args (gU D tys ws sz)) (va_Qv post (fun u t => va_P D vwCl (w' u) t.heap ∧ va_K D vwCl tys t ∧ va_D (va_A ws sz) (w' u)) (va_A ws sz)) 0 0 (va_A ws sz)
set_option maxHeartbeats 1000000 in
theorem mk_i {l : Launch} {y : MethodName} {b : ByteArray} {L : Nat} {r : Option FieldType} {fr lo : Nat} {D : va_G} {tys : List (ClassId × FieldType)} {ws : va_W} {args : List Value} {S : Type} {post : Int32 → S → Prop} {w' : S → va_W} (hy : plainName y.cls = true) (hlen : (lg_sl args).length ≤ L)
    (body : ∀ (p : Program) (e : Env) (s : State) (m : MethodId) (below : List Frame) (meth : Method) (c : Code) (A : Nat → Prop), p.tables.exec = Jvm.exec → c.code = b → c.maxLocals = L → meth.sig.returnType = r → meth.locks = false → s.vm.findClass y.cls = some m.cls → (∀ w ∈ lw_all, w.before args.toArray s = true) → (∀ q : Nat, s.heap.size ≤ q → A q) → va_K D vwCl tys s → va_P D vwCl ws s.heap → va_D A ws → va_S A s.heap s.heap [] → ∀ ls : Array Slot, lv_has ls L (lv_args 0 args) →
      W p l e { frames := fr, cells := 0, slots := 0, locals := lo } s m args.toArray below meth c s.heap [] 0 0 (MQ below (va_Qi post (fun u t => va_P D vwCl (w' u) t.heap ∧ va_K D vwCl tys t ∧ va_D A (w' u)) A) args.toArray s 0 0 A) (F0 m 0 ls [])) : Ki l y b L r fr lo D tys ws args post w' := by
  intro sz
  refine Met.ofW (cc := b) (maxL := L) (ret := r) hy rfl ?_
  intro p e s m args' below meth c s₁ B hml hv
  obtain ⟨rfl, hsz, hP, hK, hD0⟩ := hv
  subst hsz
  have hts := atoms_spec (ws := ws_ y b L r) B.pre
  have hD := hD0.self (sz := s.heap.size)
  rw [lg_entry_eq]
  exact body p e s m below meth c (va_A ws s.heap.size) B.exec B.bytes hml B.returns B.notSynchronized (findClass_of_methodNamed B.named) (fun w h => hts w (List.mem_cons_of_mem _ h)) (fun q h => Or.inr h) hK hP hD va_S.rf _ (lv_entry args hlen)
set_option maxHeartbeats 1000000 in
theorem mk_v {l : Launch} {y : MethodName} {b : ByteArray} {L : Nat} {fr lo : Nat} {D : va_G} {tys : List (ClassId × FieldType)} {ws : va_W} {args : List Value} {S : Type} {post : S → Prop} {w' : S → va_W} (hy : plainName y.cls = true) (hlen : (lg_sl args).length ≤ L)
    (body : ∀ (p : Program) (e : Env) (s : State) (m : MethodId) (below : List Frame) (meth : Method) (c : Code) (A : Nat → Prop), p.tables.exec = Jvm.exec → c.code = b → c.maxLocals = L → meth.sig.returnType = none → meth.locks = false → s.vm.findClass y.cls = some m.cls → (∀ w ∈ lw_all, w.before args.toArray s = true) → (∀ q : Nat, s.heap.size ≤ q → A q) → va_K D vwCl tys s → va_P D vwCl ws s.heap → va_D A ws → va_S A s.heap s.heap [] → ∀ ls : Array Slot, lv_has ls L (lv_args 0 args) →
      W p l e { frames := fr, cells := 0, slots := 0, locals := lo } s m args.toArray below meth c s.heap [] 0 0 (MQ below (va_Qv post (fun u t => va_P D vwCl (w' u) t.heap ∧ va_K D vwCl tys t ∧ va_D A (w' u)) A) args.toArray s 0 0 A) (F0 m 0 ls [])) : Kv l y b L fr lo D tys ws args post w' := by
  intro sz
  refine Met.ofW (cc := b) (maxL := L) (ret := none) hy rfl ?_
  intro p e s m args' below meth c s₁ B hml hv
  obtain ⟨rfl, hsz, hP, hK, hD0⟩ := hv
  subst hsz
  have hts := atoms_spec (ws := ws_ y b L none) B.pre
  have hD := hD0.self (sz := s.heap.size)
  rw [lg_entry_eq]
  exact body p e s m below meth c (va_A ws s.heap.size) B.exec B.bytes hml B.returns B.notSynchronized (findClass_of_methodNamed B.named) (fun w h => hts w (List.mem_cons_of_mem _ h)) (fun q h => Or.inr h) hK hP hD va_S.rf _ (lv_entry args hlen)
theorem gU_blind (D : va_G) (tys : List (ClassId × FieldType)) (ws : va_W) (sz : Nat) (av : List Value) : FrameBlind (va_Pc av (gU D tys ws sz)) := fun a U g mk q => by
  obtain ⟨q0, q1, qP, qK, qD⟩ := q
  exact ⟨q0, q1, qP, va_K.moved (u := U) (U := U.calling g mk a) (Vm.Alike.refl U.vm) qK, qD⟩
section NV
variable {p : Program} {l : Launch} {e : Env} {R : Room} {s : State} {m : MethodId} {args : Array Value} {below : List Frame} {meth : Method} {c : Code} {H : Heap} {locs : List Loc} {cells slots : Nat} {Q : State → Prop}
variable {cc : ByteArray} {pc : Nat} {ls : Array Slot} {rest : List Value} {D : va_G} {cl : List vw_C} {A : Nat → Prop} {a : Nat} {tys : List (ClassId × FieldType)} {ws : va_W} {H0 : Heap}
theorem nv_ior (hexec : p.tables.exec = Jvm.exec) (hb : c.code = cc) {x y : Nat} (hdg : decode cc pc = .ok (.ior, 1)) (k : W p l e R s m args below meth c H locs cells slots Q (F0 m (pc + 1) ls (.int (nI (x ||| y)) :: rest))) : W p l e R s m args below meth c H locs cells slots Q (F0 m pc ls (.int (nI y) :: .int (nI x) :: rest)) := lv_ior hexec hb hdg (by rw [ni_or]; exact k)
theorem nv_iand (hexec : p.tables.exec = Jvm.exec) (hb : c.code = cc) {x y : Nat} (hdg : decode cc pc = .ok (.iand, 1)) (k : W p l e R s m args below meth c H locs cells slots Q (F0 m (pc + 1) ls (.int (nI (x &&& y)) :: rest))) : W p l e R s m args below meth c H locs cells slots Q (F0 m pc ls (.int (nI y) :: .int (nI x) :: rest)) := lv_iand hexec hb hdg (by rw [ni_and]; exact k)
theorem nv_iaddb (hexec : p.tables.exec = Jvm.exec) (hb : c.code = cc) {x : Nat} {y : Bool} (hdg : decode cc pc = .ok (.iadd, 1)) (k : W p l e R s m args below meth c H locs cells slots Q (F0 m (pc + 1) ls (.int (nI (x + y.toNat)) :: rest))) : W p l e R s m args below meth c H locs cells slots Q (F0 m pc ls (.int (bI y) :: .int (nI x) :: rest)) := lv_iadd hexec hb hdg (by rw [ni_addb]; exact k)
theorem nv_bit (hexec : p.tables.exec = Jvm.exec) (hb : c.code = cc) {x y : Nat} (h1 : decode cc pc = .ok (.ishr, 1)) (h2 : decode cc (pc + 1) = .ok (.iconst 1, 1)) (h3 : decode cc (pc + 2) = .ok (.iand, 1)) (hx : x < 2 ^ 31) (hy : y < 32) (k : W p l e R s m args below meth c H locs cells slots Q (F0 m (pc + 3) ls (.int (bI (x.testBit y)) :: rest))) : W p l e R s m args below meth c H locs cells slots Q (F0 m pc ls (.int (nI y) :: .int (nI x) :: rest)) :=
  lv_ishr hexec hb h1 (lv_iconst (v := nI 1) hexec hb h2 (by decide) (lv_iand hexec hb h3 (by rw [ni_bit hx hy]; exact k)))
theorem nv_ndf (hexec : p.tables.exec = Jvm.exec) (hb : c.code = cc) {x y : Nat} (h1 : decode cc pc = .ok (.iconst (-1), 1)) (h2 : decode cc (pc + 1) = .ok (.ixor, 1)) (h3 : decode cc (pc + 2) = .ok (.iand, 1)) (k : W p l e R s m args below meth c H locs cells slots Q (F0 m (pc + 3) ls (.int (nI (ndf x y)) :: rest))) : W p l e R s m args below meth c H locs cells slots Q (F0 m pc ls (.int (nI y) :: .int (nI x) :: rest)) :=
  lv_iconst (v := -1) hexec hb h1 (by decide) (lv_ixor hexec hb h2 (lv_iand hexec hb h3 (by rw [ni_ndf]; exact k)))
theorem nv_shl (hexec : p.tables.exec = Jvm.exec) (hb : c.code = cc) {y : Nat} (hdg : decode cc pc = .ok (.ishl, 1)) (hy : y < 31) (k : W p l e R s m args below meth c H locs cells slots Q (F0 m (pc + 1) ls (.int (nI (2 ^ y)) :: rest))) : W p l e R s m args below meth c H locs cells slots Q (F0 m pc ls (.int (nI y) :: .int (nI 1) :: rest)) := lv_ishl hexec hb hdg (by rw [ni_shl y hy]; exact k)
theorem nv_i2s (hexec : p.tables.exec = Jvm.exec) (hb : c.code = cc) {x : Nat} (hdg : decode cc pc = .ok (.i2s, 1)) (hx : x < 256) (k : W p l e R s m args below meth c H locs cells slots Q (F0 m (pc + 1) ls (.int (nI x) :: rest))) : W p l e R s m args below meth c H locs cells slots Q (F0 m pc ls (.int (nI x) :: rest)) := lv_i2s (v := nI x) hexec hb hdg (ni_sh x hx) k
theorem nv_i2b (hexec : p.tables.exec = Jvm.exec) (hb : c.code = cc) {x : Nat} (hdg : decode cc pc = .ok (.i2b, 1)) (hx : x < 128) (k : W p l e R s m args below meth c H locs cells slots Q (F0 m (pc + 1) ls (.int (nI x) :: rest))) : W p l e R s m args below meth c H locs cells slots Q (F0 m pc ls (.int (nI x) :: rest)) := lv_i2b (v := nI x) hexec hb hdg (ni_by x hx) k
theorem nv_4097 (hexec : p.tables.exec = Jvm.exec) (hb : c.code = cc) {x : Nat} (hdg : decode cc pc = .ok (.iand, 1)) (k : W p l e R s m args below meth c H locs cells slots Q (F0 m (pc + 1) ls (.int (nI (ndf x (2 ^ 12))) :: rest))) : W p l e R s m args below meth c H locs cells slots Q (F0 m pc ls (.int (-4097) :: .int (nI x) :: rest)) := lv_iand hexec hb hdg (by rw [ni_4097]; exact k)
theorem nv_idiv (hexec : p.tables.exec = Jvm.exec) (hb : c.code = cc) {x y : Nat} (hdg : decode cc pc = .ok (.idiv, 1)) (hx : x < 2 ^ 31) (h0 : 0 < y) (hy : y < 2 ^ 31) (k : W p l e R s m args below meth c H locs cells slots Q (F0 m (pc + 1) ls (.int (nI (x / y)) :: rest))) : W p l e R s m args below meth c H locs cells slots Q (F0 m pc ls (.int (nI y) :: .int (nI x) :: rest)) := lv_idiv hexec hb hdg (fun q => by rw [ni_z hy] at q; omega) (by rw [pk_div hx h0 hy]; exact k)
theorem nv_irem (hexec : p.tables.exec = Jvm.exec) (hb : c.code = cc) {x y : Nat} (hdg : decode cc pc = .ok (.irem, 1)) (hx : x < 2 ^ 31) (h0 : 0 < y) (hy : y < 2 ^ 31) (k : W p l e R s m args below meth c H locs cells slots Q (F0 m (pc + 1) ls (.int (nI (x % y)) :: rest))) : W p l e R s m args below meth c H locs cells slots Q (F0 m pc ls (.int (nI y) :: .int (nI x) :: rest)) := lv_irem hexec hb hdg (fun q => by rw [ni_z hy] at q; omega) (by rw [pk_rem hx h0 hy]; exact k)
theorem nv_bald (hexec : p.tables.exec = Jvm.exec) (hb : c.code = cc) (hK : va_K D cl tys s) (hP : va_P D cl ws H) (q0 t0 : Nat) {cA : ClassId} {n : Nat} {f : Nat → Nat} (ha : ws[q0]? = some (a, .inl (cA, n, .inl (nf f)))) (ht : tys[t0]? = some (cA, .byte)) {i : Nat} (hi : i < n) (hdg : decode cc pc = .ok (.baload, 1)) (kk : W p l e R s m args below meth c H locs cells slots Q (F0 m (pc + 1) ls (.int (nI (f i)) :: rest))) (hn : n < 2 ^ 31 := by decide) : W p l e R s m args below meth c H locs cells slots Q (F0 m pc ls (.int (nI i) :: .ref a :: rest)) :=
  va_bald hexec hb hK hP q0 t0 ha ht (vp_in_nI hi hn) hdg (by rw [nI_clamp (by omega)]; exact kk)
theorem nv_sald (hexec : p.tables.exec = Jvm.exec) (hb : c.code = cc) (hK : va_K D cl tys s) (hP : va_P D cl ws H) (q0 t0 : Nat) {cA : ClassId} {n : Nat} {f : Nat → Nat} (ha : ws[q0]? = some (a, .inl (cA, n, .inl (nf f)))) (ht : tys[t0]? = some (cA, .short)) {i : Nat} (hi : i < n) (hdg : decode cc pc = .ok (.saload, 1)) (kk : W p l e R s m args below meth c H locs cells slots Q (F0 m (pc + 1) ls (.int (nI (f i)) :: rest))) (hn : n < 2 ^ 31 := by decide) : W p l e R s m args below meth c H locs cells slots Q (F0 m pc ls (.int (nI i) :: .ref a :: rest)) :=
  va_sald hexec hb hK hP q0 t0 ha ht (vp_in_nI hi hn) hdg (by rw [nI_clamp (by omega)]; exact kk)
theorem nv_iald (hexec : p.tables.exec = Jvm.exec) (hb : c.code = cc) (hK : va_K D cl tys s) (hP : va_P D cl ws H) (q0 t0 : Nat) {cA : ClassId} {n : Nat} {f : Nat → Nat} (ha : ws[q0]? = some (a, .inl (cA, n, .inl (nf f)))) (ht : tys[t0]? = some (cA, .int)) {i : Nat} (hi : i < n) (hdg : decode cc pc = .ok (.iaload, 1)) (kk : W p l e R s m args below meth c H locs cells slots Q (F0 m (pc + 1) ls (.int (nI (f i)) :: rest))) (hn : n < 2 ^ 31 := by decide) : W p l e R s m args below meth c H locs cells slots Q (F0 m pc ls (.int (nI i) :: .ref a :: rest)) :=
  va_iald hexec hb hK hP q0 t0 ha ht (vp_in_nI hi hn) hdg (by rw [nI_clamp (by omega)]; exact kk)
theorem nv_zald (hexec : p.tables.exec = Jvm.exec) (hb : c.code = cc) (hK : va_K D cl tys s) (hP : va_P D cl ws H) (q0 t0 : Nat) {cA : ClassId} {n : Nat} {f : Nat → Bool} (ha : ws[q0]? = some (a, .inl (cA, n, .inl (bf f)))) (ht : tys[t0]? = some (cA, .boolean)) {i : Nat} (hi : i < n) (hdg : decode cc pc = .ok (.baload, 1)) (kk : W p l e R s m args below meth c H locs cells slots Q (F0 m (pc + 1) ls (.int (bI (f i)) :: rest))) (hn : n < 2 ^ 31 := by decide) : W p l e R s m args below meth c H locs cells slots Q (F0 m pc ls (.int (nI i) :: .ref a :: rest)) :=
  va_zald hexec hb hK hP q0 t0 ha ht (vp_in_nI hi hn) hdg (by rw [nI_clamp (by omega)]; exact kk)
theorem nv_bast (hexec : p.tables.exec = Jvm.exec) (hb : c.code = cc) (hK : va_K D cl tys s) (hP : va_P D cl ws H) (hD : va_D A ws) (hS : va_S A H0 H locs) (q0 t0 : Nat) {cA : ClassId} {n : Nat} {f : Nat → Nat} (ha : ws[q0]? = some (a, .inl (cA, n, .inl (nf f)))) (ht : tys[t0]? = some (cA, .byte)) {i v : Nat} (hi : i < n) (hv : v < 128) (hdg : decode cc pc = .ok (.bastore, 1))
    (kk : ∀ (H1 : Heap) (locs1 : List Loc), va_P D cl (ws.set q0 (a, .inl (cA, n, .inl (nf (va_up f i v))))) H1 → va_D A (ws.set q0 (a, .inl (cA, n, .inl (nf (va_up f i v))))) → va_S A H0 H1 locs1 → W p l e R s m args below meth c H1 locs1 cells slots Q (F0 m (pc + 1) ls rest)) (hn : n < 2 ^ 31 := by decide) : W p l e R s m args below meth c H locs cells slots Q (F0 m pc ls (.int (nI v) :: .int (nI i) :: .ref a :: rest)) :=
  va_bast hexec hb hK hP hD hS q0 t0 ha ht (vp_in_nI hi hn) hdg (by rw [nI_clamp (by omega), ni_vb hv, nf_up]; exact kk)
theorem nv_sast (hexec : p.tables.exec = Jvm.exec) (hb : c.code = cc) (hK : va_K D cl tys s) (hP : va_P D cl ws H) (hD : va_D A ws) (hS : va_S A H0 H locs) (q0 t0 : Nat) {cA : ClassId} {n : Nat} {f : Nat → Nat} (ha : ws[q0]? = some (a, .inl (cA, n, .inl (nf f)))) (ht : tys[t0]? = some (cA, .short)) {i v : Nat} (hi : i < n) (hv : v < 256) (hdg : decode cc pc = .ok (.sastore, 1))
    (kk : ∀ (H1 : Heap) (locs1 : List Loc), va_P D cl (ws.set q0 (a, .inl (cA, n, .inl (nf (va_up f i v))))) H1 → va_D A (ws.set q0 (a, .inl (cA, n, .inl (nf (va_up f i v))))) → va_S A H0 H1 locs1 → W p l e R s m args below meth c H1 locs1 cells slots Q (F0 m (pc + 1) ls rest)) (hn : n < 2 ^ 31 := by decide) : W p l e R s m args below meth c H locs cells slots Q (F0 m pc ls (.int (nI v) :: .int (nI i) :: .ref a :: rest)) :=
  va_sast hexec hb hK hP hD hS q0 t0 ha ht (vp_in_nI hi hn) hdg (by rw [nI_clamp (by omega), ni_vs hv, nf_up]; exact kk)
theorem nv_iast (hexec : p.tables.exec = Jvm.exec) (hb : c.code = cc) (hK : va_K D cl tys s) (hP : va_P D cl ws H) (hD : va_D A ws) (hS : va_S A H0 H locs) (q0 t0 : Nat) {cA : ClassId} {n : Nat} {f : Nat → Nat} (ha : ws[q0]? = some (a, .inl (cA, n, .inl (nf f)))) (ht : tys[t0]? = some (cA, .int)) {i v : Nat} (hi : i < n) (hdg : decode cc pc = .ok (.iastore, 1))
    (kk : ∀ (H1 : Heap) (locs1 : List Loc), va_P D cl (ws.set q0 (a, .inl (cA, n, .inl (nf (va_up f i v))))) H1 → va_D A (ws.set q0 (a, .inl (cA, n, .inl (nf (va_up f i v))))) → va_S A H0 H1 locs1 → W p l e R s m args below meth c H1 locs1 cells slots Q (F0 m (pc + 1) ls rest)) (hn : n < 2 ^ 31 := by decide) : W p l e R s m args below meth c H locs cells slots Q (F0 m pc ls (.int (nI v) :: .int (nI i) :: .ref a :: rest)) :=
  va_iast hexec hb hK hP hD hS q0 t0 ha ht (vp_in_nI hi hn) hdg (by rw [nI_clamp (by omega), nf_up]; exact kk)
theorem nv_zast (hexec : p.tables.exec = Jvm.exec) (hb : c.code = cc) (hK : va_K D cl tys s) (hP : va_P D cl ws H) (hD : va_D A ws) (hS : va_S A H0 H locs) (q0 t0 : Nat) {cA : ClassId} {n : Nat} {f : Nat → Bool} (ha : ws[q0]? = some (a, .inl (cA, n, .inl (bf f)))) (ht : tys[t0]? = some (cA, .boolean)) {i : Nat} {v : Bool} (hi : i < n) (hdg : decode cc pc = .ok (.bastore, 1))
    (kk : ∀ (H1 : Heap) (locs1 : List Loc), va_P D cl (ws.set q0 (a, .inl (cA, n, .inl (bf (va_up f i v))))) H1 → va_D A (ws.set q0 (a, .inl (cA, n, .inl (bf (va_up f i v))))) → va_S A H0 H1 locs1 → W p l e R s m args below meth c H1 locs1 cells slots Q (F0 m (pc + 1) ls rest)) (hn : n < 2 ^ 31 := by decide) : W p l e R s m args below meth c H locs cells slots Q (F0 m pc ls (.int (bI v) :: .int (nI i) :: .ref a :: rest)) :=
  va_zast hexec hb hK hP hD hS q0 t0 ha ht (vp_in_nI hi hn) hdg (by rw [nI_clamp (by omega), ni_vz, bf_up]; exact kk)
theorem nv_icmp_ge (hexec : p.tables.exec = Jvm.exec) (hb : c.code = cc) {x y : Nat} {off : Int} {tgt : Nat} (hdg : decode cc pc = .ok (.if_icmp .ge off, 3)) (ht : (pc : Int) + off = (tgt : Int)) (kt : y ≤ x → W p l e R s m args below meth c H locs cells slots Q (F0 m tgt ls rest)) (kf : x < y → W p l e R s m args below meth c H locs cells slots Q (F0 m (pc + 3) ls rest)) (hx : x < 2 ^ 31 := by omega) (hy : y < 2 ^ 31 := by omega) : W p l e R s m args below meth c H locs cells slots Q (F0 m pc ls (.int (nI y) :: .int (nI x) :: rest)) :=
  lv_icmp_ge hexec hb hdg ht (fun h => kt ((nI_leI hy hx).mp h)) (fun h => kf (Nat.not_le.mp (fun q => h ((nI_leI hy hx).mpr q))))
theorem nv_icmp_gt (hexec : p.tables.exec = Jvm.exec) (hb : c.code = cc) {x y : Nat} {off : Int} {tgt : Nat} (hdg : decode cc pc = .ok (.if_icmp .gt off, 3)) (ht : (pc : Int) + off = (tgt : Int)) (kt : y < x → W p l e R s m args below meth c H locs cells slots Q (F0 m tgt ls rest)) (kf : x ≤ y → W p l e R s m args below meth c H locs cells slots Q (F0 m (pc + 3) ls rest)) (hx : x < 2 ^ 31 := by omega) (hy : y < 2 ^ 31 := by omega) : W p l e R s m args below meth c H locs cells slots Q (F0 m pc ls (.int (nI y) :: .int (nI x) :: rest)) :=
  lv_icmp_gt hexec hb hdg ht (fun h => kt ((nI_ltI hy hx).mp h)) (fun h => kf (Nat.not_lt.mp (fun q => h ((nI_ltI hy hx).mpr q))))
theorem nv_icmp_ne (hexec : p.tables.exec = Jvm.exec) (hb : c.code = cc) {x y : Nat} {off : Int} {tgt : Nat} (hdg : decode cc pc = .ok (.if_icmp .ne off, 3)) (ht : (pc : Int) + off = (tgt : Int)) (kt : x ≠ y → W p l e R s m args below meth c H locs cells slots Q (F0 m tgt ls rest)) (kf : x = y → W p l e R s m args below meth c H locs cells slots Q (F0 m (pc + 3) ls rest)) (hx : x < 2 ^ 31 := by omega) (hy : y < 2 ^ 31 := by omega) : W p l e R s m args below meth c H locs cells slots Q (F0 m pc ls (.int (nI y) :: .int (nI x) :: rest)) :=
  lv_icmp_ne hexec hb hdg ht (fun h => kt (fun q => h ((nI_eq hx hy).mpr q))) (fun h => kf ((nI_eq hx hy).mp h))
theorem nv_icmp_eq (hexec : p.tables.exec = Jvm.exec) (hb : c.code = cc) {x y : Nat} {off : Int} {tgt : Nat} (hdg : decode cc pc = .ok (.if_icmp .eq off, 3)) (ht : (pc : Int) + off = (tgt : Int)) (kt : x = y → W p l e R s m args below meth c H locs cells slots Q (F0 m tgt ls rest)) (kf : x ≠ y → W p l e R s m args below meth c H locs cells slots Q (F0 m (pc + 3) ls rest)) (hx : x < 2 ^ 31 := by omega) (hy : y < 2 ^ 31 := by omega) : W p l e R s m args below meth c H locs cells slots Q (F0 m pc ls (.int (nI y) :: .int (nI x) :: rest)) :=
  lv_icmp_eq hexec hb hdg ht (fun h => kt ((nI_eq hx hy).mp h)) (fun h => kf (fun q => h ((nI_eq hx hy).mpr q)))
theorem nv_icmp_ne1 (hexec : p.tables.exec = Jvm.exec) (hb : c.code = cc) {x : Bool} {off : Int} {tgt : Nat} (hdg : decode cc pc = .ok (.if_icmp .ne off, 3)) (ht : (pc : Int) + off = (tgt : Int)) (kt : x = false → W p l e R s m args below meth c H locs cells slots Q (F0 m tgt ls rest)) (kf : x = true → W p l e R s m args below meth c H locs cells slots Q (F0 m (pc + 3) ls rest)) : W p l e R s m args below meth c H locs cells slots Q (F0 m pc ls (.int (nI 1) :: .int (bI x) :: rest)) :=
  lv_icmp_ne hexec hb hdg ht (fun h => kt (Bool.eq_false_iff.mpr (fun q => h (bI_1.mpr q)))) (fun h => kf (bI_1.mp h))
theorem nv_ifeq (hexec : p.tables.exec = Jvm.exec) (hb : c.code = cc) {x : Bool} {off : Int} {tgt : Nat} (hdg : decode cc pc = .ok (.ifCond .eq off, 3)) (ht : (pc : Int) + off = (tgt : Int)) (kt : x = false → W p l e R s m args below meth c H locs cells slots Q (F0 m tgt ls rest)) (kf : x = true → W p l e R s m args below meth c H locs cells slots Q (F0 m (pc + 3) ls rest)) : W p l e R s m args below meth c H locs cells slots Q (F0 m pc ls (.int (bI x) :: rest)) :=
  lv_if_eq hexec hb hdg ht (fun h => kt (bI_0.mp h)) (fun h => kf (Bool.ne_false_iff.mp (fun q => h (bI_0.mpr q))))
theorem nv_ifne (hexec : p.tables.exec = Jvm.exec) (hb : c.code = cc) {x : Bool} {off : Int} {tgt : Nat} (hdg : decode cc pc = .ok (.ifCond .ne off, 3)) (ht : (pc : Int) + off = (tgt : Int)) (kt : x = true → W p l e R s m args below meth c H locs cells slots Q (F0 m tgt ls rest)) (kf : x = false → W p l e R s m args below meth c H locs cells slots Q (F0 m (pc + 3) ls rest)) : W p l e R s m args below meth c H locs cells slots Q (F0 m pc ls (.int (bI x) :: rest)) :=
  lv_if_ne hexec hb hdg ht (fun h => kt (Bool.ne_false_iff.mp (fun q => h (bI_0.mpr q)))) (fun h => kf (bI_0.mp h))
theorem nv_ifeqn (hexec : p.tables.exec = Jvm.exec) (hb : c.code = cc) {x : Nat} {off : Int} {tgt : Nat} (hdg : decode cc pc = .ok (.ifCond .eq off, 3)) (ht : (pc : Int) + off = (tgt : Int)) (kt : x = 0 → W p l e R s m args below meth c H locs cells slots Q (F0 m tgt ls rest)) (kf : x ≠ 0 → W p l e R s m args below meth c H locs cells slots Q (F0 m (pc + 3) ls rest)) (hx : x < 2 ^ 31 := by omega) : W p l e R s m args below meth c H locs cells slots Q (F0 m pc ls (.int (nI x) :: rest)) :=
  lv_if_eq hexec hb hdg ht (fun h => kt ((ni_z hx).mp h)) (fun h => kf (fun q => h ((ni_z hx).mpr q)))
theorem nv_ifnen (hexec : p.tables.exec = Jvm.exec) (hb : c.code = cc) {x : Nat} {off : Int} {tgt : Nat} (hdg : decode cc pc = .ok (.ifCond .ne off, 3)) (ht : (pc : Int) + off = (tgt : Int)) (kt : x ≠ 0 → W p l e R s m args below meth c H locs cells slots Q (F0 m tgt ls rest)) (kf : x = 0 → W p l e R s m args below meth c H locs cells slots Q (F0 m (pc + 3) ls rest)) (hx : x < 2 ^ 31 := by omega) : W p l e R s m args below meth c H locs cells slots Q (F0 m pc ls (.int (nI x) :: rest)) :=
  lv_if_ne hexec hb hdg ht (fun h => kt (fun q => h ((ni_z hx).mpr q))) (fun h => kf ((ni_z hx).mp h))
/-- a loop at pc that counts up to N -/
theorem wl_up {pc : Nat} {rest : List Value} (N : Nat) (I : Nat → Heap → List Loc → Array Slot → Prop) (hs : ∀ k, k < N → ∀ (H : Heap) (locs : List Loc) (ls : Array Slot), I k H locs ls → (∀ (H' : Heap) (locs' : List Loc) (ls' : Array Slot), I (k + 1) H' locs' ls' → W p l e R s m args below meth c H' locs' cells slots Q (F0 m pc ls' rest)) → W p l e R s m args below meth c H locs cells slots Q (F0 m pc ls rest))
    (he : ∀ (H : Heap) (locs : List Loc) (ls : Array Slot), I N H locs ls → W p l e R s m args below meth c H locs cells slots Q (F0 m pc ls rest)) (k : Nat) (hk : k ≤ N) (H : Heap) (locs : List Loc) (ls : Array Slot) (h : I k H locs ls) : W p l e R s m args below meth c H locs cells slots Q (F0 m pc ls rest) := by
  have go : ∀ (d k : Nat), k + d = N → ∀ (H : Heap) (locs : List Loc) (ls : Array Slot), I k H locs ls → W p l e R s m args below meth c H locs cells slots Q (F0 m pc ls rest) := by
    intro d
    induction d with
    | zero =>
      intro k hk H locs ls h
      have hk : k = N := hk
      subst hk
      exact he H locs ls h
    | succ d ih =>
      intro k hk H locs ls h
      exact hs k (by omega) H locs ls h (fun H' locs' ls' h' => ih (k + 1) (by omega) H' locs' ls' h')
  exact go (N - k) k (by omega) H locs ls h
theorem rt_i {S : Type} {post : Int32 → S → Prop} {w' : S → va_W} {v : Int32} (hexec : p.tables.exec = Jvm.exec) (hb : c.code = cc) (hr : meth.sig.returnType = some .int) (hlk : meth.locks = false) (u : S) (hp : post v u) (hK : va_K D vwCl tys s) (hP : va_P D vwCl (w' u) H) (hD : va_D A (w' u)) (hS : va_S A s.heap H locs) (hdg : decode cc pc = .ok (.ireturn, 1)) : W p l e R s m args below meth c H locs 0 0 (MQ below (va_Qi post (fun u t => va_P D vwCl (w' u) t.heap ∧ va_K D vwCl tys t ∧ va_D A (w' u)) A) args s 0 0 A) (F0 m pc ls [.int v]) :=
  W.iret (v := v) hexec hb hr (fun t ht hW => ⟨⟨v, u, rfl, hp, by rw [ht]; exact hP, va_K.moved hW.alike hK, hD⟩, hS.F ht⟩) hS.2.2 hdg hlk
theorem rt_z {S : Type} {post : Int32 → S → Prop} {w' : S → va_W} {v : Bool} (hexec : p.tables.exec = Jvm.exec) (hb : c.code = cc) (hr : meth.sig.returnType = some .boolean) (hlk : meth.locks = false) (u : S) (hp : post (bI v) u) (hK : va_K D vwCl tys s) (hP : va_P D vwCl (w' u) H) (hD : va_D A (w' u)) (hS : va_S A s.heap H locs) (hdg : decode cc pc = .ok (.ireturn, 1)) : W p l e R s m args below meth c H locs 0 0 (MQ below (va_Qi post (fun u t => va_P D vwCl (w' u) t.heap ∧ va_K D vwCl tys t ∧ va_D A (w' u)) A) args s 0 0 A) (F0 m pc ls [.int (bI v)]) :=
  W.zret (v := bI v) hexec hb hr (ni_nz v) (fun t ht hW => ⟨⟨bI v, u, rfl, hp, by rw [ht]; exact hP, va_K.moved hW.alike hK, hD⟩, hS.F ht⟩) hS.2.2 hdg hlk
theorem rt_v {S : Type} {post : S → Prop} {w' : S → va_W} (hexec : p.tables.exec = Jvm.exec) (hb : c.code = cc) (hr : meth.sig.returnType = none) (hlk : meth.locks = false) (u : S) (hp : post u) (hK : va_K D vwCl tys s) (hP : va_P D vwCl (w' u) H) (hD : va_D A (w' u)) (hS : va_S A s.heap H locs) (hdg : decode cc pc = .ok (.return_, 1)) : W p l e R s m args below meth c H locs 0 0 (MQ below (va_Qv post (fun u t => va_P D vwCl (w' u) t.heap ∧ va_K D vwCl tys t ∧ va_D A (w' u)) A) args s 0 0 A) (F0 m pc ls []) :=
  W.vret hexec hb hr (fun t ht hW => ⟨⟨u, rfl, hp, by rw [ht]; exact hP, va_K.moved hW.alike hK, hD⟩, hS.F ht⟩) hS.2.2 hdg hlk
theorem fr_all {A : Nat → Prop} {ws : va_W} {H0 H : Heap} {locs : List Loc} (hD : va_D A ws) (hS : va_S A H0 H locs) (hA : ∀ q, H0.size ≤ q → A q) : ∀ q, va_A ws H.size q → A q := by
  intro q h
  rcases h with ⟨k, e, h⟩ | h
  · exact hD.2 k (q, e) h
  · exact hA q (Nat.le_trans hS.1 h)
variable {S : Type} {y : MethodName} {b : ByteArray} {L fr lo nL index n : Nat} {r : Option FieldType} {own C : String} {As : List Value} {bb ci q0 : Nat} {fs : List Value} {TT : u_T} {NN : Nat}
theorem cl_Vi {post : Int32 → S → Prop} {w' : S → va_W} (hexec : p.tables.exec = Jvm.exec) (hb : c.code = cc) (hml : c.maxLocals = nL) (hown : s.vm.findClass own = some m.cls) (hts : ∀ w ∈ lw_all, w.before args s = true) (hM : Ki l y b L r fr lo D tys ws (.ref bb :: As) post w') (hg : GoodIn lw_all (wsV own index C y (ws_ y b L r))) (hd : y.cls = C ∧ y.cls ≠ "java/lang/invoke/MethodHandle" ∧ y.cls ≠ "java/lang/invoke/VarHandle" ∧ (parseMethodDescriptor y.desc).map (fun d => d.parameters.length) = some n) (hn : As.length = n) (hR : fr + 1 ≤ R.frames ∧ 8 + (L + 11) + lo ≤ R.locals) (hf : cells + 0 ≤ R.cells ∧ slots + 0 ≤ R.slots) (hK : va_K D vwCl tys s) (hP : va_P D vwCl ws H) (hD : va_D A ws) (hS : va_S A H0 H locs) (hA : ∀ q, H0.size ≤ q → A q) (hc : vwCl[ci]? = some (C, TT, NN)) (he : ws[q0]? = some (bb, .inr (ci, fs))) (hls : ls.size = nL) {st0 : List Value} (hst : st0 = As.reverse ++ .ref bb :: rest) (hrs : (rest.map fun v => v.category).sum ≤ 8) (hdg : decode cc pc = .ok (.invokevirtual index, 3))
    (kk : ∀ (r : Int32) (u : S) (H1 : Heap) (locs1 : List Loc), post r u → va_P D vwCl (w' u) H1 → va_D A (w' u) → va_S A H0 H1 locs1 → W p l e R s m args below meth c H1 locs1 cells slots Q (F0 m (pc + 3) ls (.int r :: rest))) : W p l e R s m args below meth c H locs cells slots Q (F0 m pc ls st0) := by
  have hF := fr_all hD hS hA
  refine va_calli (va_runV (As := As) (rest := rest) ⟨hexec, hb, hml, hown, hts⟩ (hM H.size) (cwV n hts hg rfl rfl rfl hd hR) ⟨gU_blind _ _ _ _ _, va_recv hK hP hc he, fun U hU hW => ⟨rfl, by rw [hU], by rw [hU]; exact hP, va_K.moved hW.alike hK, hD.weaken (fun _ _ _ _ => trivial)⟩⟩ rfl hn hls hst (lv_room hrs) hdg hf) hS (fun q _ h => hF q h) hF (fun r1 u t H1 locs1 ht hvm hp hB hz1 hk1 hS1 => ?_)
  obtain ⟨hP1, hK1, hD1⟩ := hB
  rw [ht] at hP1
  exact kk r1 u H1 locs1 hp hP1 (hD1.weaken (fun k q _ h => hF q.1 h)) hS1
theorem cl_Vv {post : S → Prop} {w' : S → va_W} (hexec : p.tables.exec = Jvm.exec) (hb : c.code = cc) (hml : c.maxLocals = nL) (hown : s.vm.findClass own = some m.cls) (hts : ∀ w ∈ lw_all, w.before args s = true) (hM : Kv l y b L fr lo D tys ws (.ref bb :: As) post w') (hg : GoodIn lw_all (wsV own index C y (ws_ y b L none))) (hd : y.cls = C ∧ y.cls ≠ "java/lang/invoke/MethodHandle" ∧ y.cls ≠ "java/lang/invoke/VarHandle" ∧ (parseMethodDescriptor y.desc).map (fun d => d.parameters.length) = some n) (hn : As.length = n) (hR : fr + 1 ≤ R.frames ∧ 8 + (L + 11) + lo ≤ R.locals) (hf : cells + 0 ≤ R.cells ∧ slots + 0 ≤ R.slots) (hK : va_K D vwCl tys s) (hP : va_P D vwCl ws H) (hD : va_D A ws) (hS : va_S A H0 H locs) (hA : ∀ q, H0.size ≤ q → A q) (hc : vwCl[ci]? = some (C, TT, NN)) (he : ws[q0]? = some (bb, .inr (ci, fs))) (hls : ls.size = nL) {st0 : List Value} (hst : st0 = As.reverse ++ .ref bb :: rest) (hrs : (rest.map fun v => v.category).sum ≤ 8) (hdg : decode cc pc = .ok (.invokevirtual index, 3))
    (kk : ∀ (u : S) (H1 : Heap) (locs1 : List Loc), post u → va_P D vwCl (w' u) H1 → va_D A (w' u) → va_S A H0 H1 locs1 → W p l e R s m args below meth c H1 locs1 cells slots Q (F0 m (pc + 3) ls rest)) : W p l e R s m args below meth c H locs cells slots Q (F0 m pc ls st0) := by
  have hF := fr_all hD hS hA
  refine va_callv (va_runV (As := As) (rest := rest) ⟨hexec, hb, hml, hown, hts⟩ (hM H.size) (cwV n hts hg rfl rfl rfl hd hR) ⟨gU_blind _ _ _ _ _, va_recv hK hP hc he, fun U hU hW => ⟨rfl, by rw [hU], by rw [hU]; exact hP, va_K.moved hW.alike hK, hD.weaken (fun _ _ _ _ => trivial)⟩⟩ rfl hn hls hst (lv_room hrs) hdg hf) hS (fun q _ h => hF q h) hF (fun u t H1 locs1 ht hvm hp hB hz1 hk1 hS1 => ?_)
  obtain ⟨hP1, hK1, hD1⟩ := hB
  rw [ht] at hP1
  exact kk u H1 locs1 hp hP1 (hD1.weaken (fun k q _ h => hF q.1 h)) hS1
theorem cl_Si {post : Int32 → S → Prop} {w' : S → va_W} (hexec : p.tables.exec = Jvm.exec) (hb : c.code = cc) (hml : c.maxLocals = nL) (hown : s.vm.findClass own = some m.cls) (hts : ∀ w ∈ lw_all, w.before args s = true) (hM : Ki l y b L r fr lo D tys ws As post w') (hg : GoodIn lw_all (va_wsS own index y (ws_ y b L r))) (hd : y.cls ≠ "java/lang/invoke/MethodHandle" ∧ y.cls ≠ "java/lang/invoke/VarHandle" ∧ (parseMethodDescriptor y.desc).map (fun d => d.parameters.length) = some n) (hn : As.length = n) (hR : fr + 1 ≤ R.frames ∧ 8 + (L + 11) + lo ≤ R.locals) (hf : cells + 0 ≤ R.cells ∧ slots + 0 ≤ R.slots) (hK : va_K D vwCl tys s) (hP : va_P D vwCl ws H) (hD : va_D A ws) (hS : va_S A H0 H locs) (hA : ∀ q, H0.size ≤ q → A q) (hls : ls.size = nL) {st0 : List Value} (hst : st0 = As.reverse ++ rest) (hrs : (rest.map fun v => v.category).sum ≤ 8) (hdg : decode cc pc = .ok (.invokestatic index, 3))
    (kk : ∀ (r : Int32) (u : S) (H1 : Heap) (locs1 : List Loc), post r u → va_P D vwCl (w' u) H1 → va_D A (w' u) → va_S A H0 H1 locs1 → W p l e R s m args below meth c H1 locs1 cells slots Q (F0 m (pc + 3) ls (.int r :: rest))) : W p l e R s m args below meth c H locs cells slots Q (F0 m pc ls st0) := by
  have hF := fr_all hD hS hA
  refine va_calli (va_runS (As := As) (rest := rest) ⟨hexec, hb, hml, hown, hts⟩ (hM H.size) (va_cwS n hts hg rfl rfl rfl hd hR) ⟨gU_blind _ _ _ _ _, fun U hU hW => ⟨rfl, by rw [hU], by rw [hU]; exact hP, va_K.moved hW.alike hK, hD.weaken (fun _ _ _ _ => trivial)⟩⟩ rfl hn hls hst (lv_room hrs) hdg hf) hS (fun q _ h => hF q h) hF (fun r1 u t H1 locs1 ht hvm hp hB hz1 hk1 hS1 => ?_)
  obtain ⟨hP1, hK1, hD1⟩ := hB
  rw [ht] at hP1
  exact kk r1 u H1 locs1 hp hP1 (hD1.weaken (fun k q _ h => hF q.1 h)) hS1
end NV
section MG
variable {p : Program} {l : Launch} {e : Env} {R : Room} {s : State} {m : MethodId} {args : Array Value} {below : List Frame} {meth : Method} {c : Code} {H : Heap} {locs : List Loc} {cells slots : Nat} {Q : State → Prop}
/-- two ways that meet again at pc2, with the same stack -/
theorem w_mg {pc2 : Nat} {ls : Array Slot} {g : JFrame} (st : List Value) (hk : W p l e R s m args below meth c H locs cells slots Q (F0 m pc2 ls st)) (h : W p l e R s m args below meth c H locs cells slots Q (F0 m pc2 ls st) → W p l e R s m args below meth c H locs cells slots Q g) : W p l e R s m args below meth c H locs cells slots Q g := h hk
end MG
/-- statement k is there, k as it is asked for -/
def hsb (T : Nat → Bool) (k : Int32) : Bool := tr k && T k.toNatClampNeg
theorem hsb_n {T : Nat → Bool} {j : Nat} (h : j < 12) : hsb T (nI j) = T j := by
  unfold hsb
  rw [tr_n (by omega), nI_clamp (by omega), decide_eq_true h, Bool.true_and]
theorem hsb_f {T : Nat → Bool} {k : Int32} (h : tr k = false) : hsb T k = false := by
  unfold hsb
  rw [h, Bool.false_and]
theorem hsb_of {T : Nat → Bool} {k : Int32} (h : hsb T k = true) : ∃ j, j < 12 ∧ k = nI j ∧ T j = true := by
  unfold hsb at h
  rw [Bool.and_eq_true] at h
  obtain ⟨j, hj, rfl⟩ := tr_of h.1
  have h2 := h.2
  rw [nI_clamp (by omega)] at h2
  exact ⟨j, hj, rfl, h2⟩
theorem sok_1 {a b c : Int32} (h : kr a = false) : sok a b c = false := by unfold sok; rw [h, Bool.false_and]
theorem sok_2 {a b c : Int32} (h : vr b = false) : sok a b c = false := by unfold sok; rw [h, Bool.false_and, Bool.and_false]
theorem sok_3 {a b c : Int32} (h : vr c = false) : sok a b c = false := by unfold sok; rw [h, Bool.and_false, Bool.and_false]
theorem sok_t {a b c : Int32} (h : kr a = true) (h2 : vr b = true) (h3 : vr c = true) : sok a b c = true := by unfold sok; rw [h, h2, h3]; rfl
theorem sok_of {a b c : Int32} (h : sok a b c = true) : (∃ j, j < 4 ∧ a = nI j) ∧ (∃ j, j < 8 ∧ b = nI j) ∧ ∃ j, j < 8 ∧ c = nI j := by
  unfold sok at h
  rw [Bool.and_eq_true, Bool.and_eq_true] at h
  exact ⟨kr_of h.1, vr_of h.2.1, vr_of h.2.2⟩
/-- what adding comes to: the answer, and what was written where -/
def adR (T : Nat → Bool) (a b c r : Int32) (o : Option (Nat × Nat × Nat × Nat)) : Prop := (sok a b c = false ∧ r = -1 ∧ o = none) ∨ (sok a b c = true ∧ (∀ j, j < 12 → T j = true) ∧ r = -2 ∧ o = none) ∨ ∃ k n1 n2 n3, k < 12 ∧ n1 < 4 ∧ n2 < 8 ∧ n3 < 8 ∧ a = nI n1 ∧ b = nI n2 ∧ c = nI n3 ∧ sok a b c = true ∧ T k = false ∧ (∀ j, j < k → T j = true) ∧ r = nI k ∧ o = some (k, n1, n2, n3)
def rmR (T : Nat → Bool) (k r : Int32) (o : Option Nat) : Prop := (hsb T k = false ∧ r = bI false ∧ o = none) ∨ ∃ j, j < 12 ∧ k = nI j ∧ T j = true ∧ r = bI true ∧ o = some j
abbrev xAdd (a : Nat → Nat) (d : Nat → ClassId) (pr : Nat) (kn : Bool) (K X Y P F L : Nat → Nat) (o : Option (Nat × Nat × Nat × Nat)) : va_W := match o with
  | none => xW a d pr kn K X Y P F L
  | some (k, n1, n2, n3) => xW a d (pr ||| 2 ^ k) false (va_up K k n1) (va_up X k n2) (va_up Y k n3) P F L
abbrev xRem (a : Nat → Nat) (d : Nat → ClassId) (pr : Nat) (kn : Bool) (K X Y P F L : Nat → Nat) (o : Option Nat) : va_W := match o with
  | none => xW a d pr kn K X Y P F L
  | some k => xW a d (ndf pr (2 ^ k)) false K X Y P F L
abbrev mAdd (a : Nat → Nat) (d : Nat → ClassId) (T : Nat → Bool) (K X Y P O : Nat → Nat) (o : Option (Nat × Nat × Nat × Nat)) : va_W := match o with
  | none => mW a d T K X Y P O
  | some (k, n1, n2, n3) => mW a d (va_up T k true) (va_up K k n1) (va_up X k n2) (va_up Y k n3) P O
abbrev mRem (a : Nat → Nat) (d : Nat → ClassId) (T : Nat → Bool) (K X Y P O : Nat → Nat) (o : Option Nat) : va_W := match o with
  | none => mW a d T K X Y P O
  | some k => mW a d (va_up T k false) K X Y P O
end
section
/-! the plain law, one: closed sets, the least one, counting, collecting; no program in sight -/
/-- closed under the statements (T: there, K: kind, X, Y) -/
def zCl (T : Nat → Bool) (K X Y : Nat → Nat) (M : Nat → Nat → Prop) : Prop := ∀ k, k < 13 → T k = true → (K k = 0 → M (X k) (Y k)) ∧ (K k = 1 → ∀ v, M (Y k) v → M (X k) v) ∧ (K k = 2 → ∀ z v, M (Y k) z → M z v → M (X k) v) ∧ (K k = 3 → ∀ z v, M (X k) z → M (Y k) v → M z v)
def zbm (P : Nat → Nat) : Nat → Nat → Prop := fun x v => (P x).testBit v = true
def zB8 (P : Nat → Nat) : Prop := ∀ x, x < 8 → P x < 256
/-- nothing that isn't in every closed one -/
def zSnd (T : Nat → Bool) (K X Y : Nat → Nat) (P : Nat → Nat) : Prop := ∀ M, zCl T K X Y M → ∀ x, x < 8 → ∀ v, (P x).testBit v = true → M x v
/-- P is the least closed one -/
def zSol (T : Nat → Bool) (K X Y : Nat → Nat) (P : Nat → Nat) : Prop := zB8 P ∧ zCl T K X Y (zbm P) ∧ zSnd T K X Y P
def zWF (K X Y : Nat → Nat) : Prop := ∀ k, k < 13 → K k < 4 ∧ X k < 8 ∧ Y k < 8
theorem z_t8 {n v : Nat} (h : n < 256) (hv : n.testBit v = true) : v < 8 := by
  rcases Nat.lt_or_ge v 8 with q | q
  · exact q
  · have h1 : n < 2 ^ v := Nat.lt_of_lt_of_le h (Nat.pow_le_pow_right (by decide) q : 2 ^ 8 ≤ 2 ^ v)
    rw [Nat.testBit_lt_two_pow h1] at hv
    cases hv
theorem z_or {a b : Nat} (ha : a < 256) (hb : b < 256) : a ||| b < 256 := Nat.or_lt_two_pow (n := 8) ha hb
theorem z_and {a b : Nat} (ha : a < 256) : a &&& b < 256 := Nat.lt_of_le_of_lt Nat.and_le_left ha
theorem z_lt8 {n : Nat} (h : ∀ v, 8 ≤ v → n.testBit v = false) : n < 256 := Nat.lt_pow_two_of_testBit (n := 8) n (fun v hv => h v hv)
theorem z_ndf {a b : Nat} (ha : a < 256) : ndf a b < 256 := z_lt8 (fun v hv => by
  rw [ndf_bit]
  cases h : a.testBit v with
  | false => rfl
  | true => exact absurd (z_t8 ha h) (by omega))
theorem z_2p {k : Nat} (h : k < 8) : 2 ^ k < 256 := (Nat.pow_lt_pow_right (by decide) h : 2 ^ k < 2 ^ 8)
theorem z_2b (k i : Nat) : (2 ^ k).testBit i = decide (k = i) := Nat.testBit_two_pow
theorem z_ext {a b : Nat} (h : ∀ v, a.testBit v = true ↔ b.testBit v = true) : a = b := Nat.eq_of_testBit_eq (fun v => Bool.eq_iff_iff.mpr (h v))
theorem z_ne0 {n : Nat} (h : n ≠ 0) : ∃ v, n.testBit v = true := by
  rcases Classical.em (∃ v, n.testBit v = true) with q | q
  · exact q
  · refine absurd (Nat.eq_of_testBit_eq (fun v => ?_)) h
    rw [Nat.zero_testBit]
    exact Bool.eq_false_iff.mpr (fun e => q ⟨v, e⟩)
theorem z_uniq {T : Nat → Bool} {K X Y P P2 : Nat → Nat} (h : zSol T K X Y P) (h2 : zSol T K X Y P2) : ∀ x, x < 8 → P x = P2 x := fun x hx => z_ext (fun v => ⟨h.2.2 _ h2.2.1 x hx v, h2.2.2 _ h.2.1 x hx v⟩)
theorem z_Clsub {T T2 : Nat → Bool} {K X Y : Nat → Nat} {M : Nat → Nat → Prop} (hT : ∀ k, k < 13 → T2 k = true → T k = true) (h : zCl T K X Y M) : zCl T2 K X Y M := fun k hk ht => h k hk (hT k hk ht)
theorem z_Solcong {T T2 : Nat → Bool} {K X Y P : Nat → Nat} (hT : ∀ k, k < 13 → T2 k = T k) (h : zSol T K X Y P) : zSol T2 K X Y P := ⟨h.1, z_Clsub (fun k hk q => by rw [← hT k hk]; exact q) h.2.1, fun M hM => h.2.2 M (z_Clsub (fun k hk q => by rw [hT k hk]; exact q) hM)⟩
theorem z_mono {T T2 : Nat → Bool} {K X Y P P2 : Nat → Nat} (hT : ∀ k, k < 13 → T2 k = true → T k = true) (h : zSol T K X Y P) (h2 : zSol T2 K X Y P2) : ∀ x, x < 8 → ∀ v, (P2 x).testBit v = true → (P x).testBit v = true := fun x hx v q => h2.2.2 _ (z_Clsub hT h.2.1) x hx v q
/-- how many of the first n -/
def zcnt (p : Nat → Bool) : Nat → Nat
  | 0 => 0
  | n + 1 => zcnt p n + (p n).toNat
theorem zcnt_le (p : Nat → Bool) (n : Nat) : zcnt p n ≤ n := by
  induction n with
  | zero => exact Nat.le_refl 0
  | succ n ih =>
    have h : (p n).toNat ≤ 1 := by cases p n <;> decide
    show zcnt p n + (p n).toNat ≤ n + 1
    omega
theorem zcnt_mono {p q : Nat → Bool} {n : Nat} (h : ∀ i, i < n → p i = true → q i = true) : zcnt p n ≤ zcnt q n := by
  induction n with
  | zero => exact Nat.le_refl 0
  | succ n ih =>
    have h1 := ih (fun i hi => h i (by omega))
    have h2 : (p n).toNat ≤ (q n).toNat := by
      cases e : p n with
      | false => exact Nat.zero_le _
      | true => rw [h n (by omega) e]; decide
    show zcnt p n + (p n).toNat ≤ zcnt q n + (q n).toNat
    omega
theorem zcnt_lt {p q : Nat → Bool} {n : Nat} (h : ∀ i, i < n → p i = true → q i = true) (hx : ∃ i, i < n ∧ p i = false ∧ q i = true) : zcnt p n < zcnt q n := by
  induction n with
  | zero => obtain ⟨i, hi, -⟩ := hx; omega
  | succ n ih =>
    have h2 : (p n).toNat ≤ (q n).toNat := by
      cases e : p n with
      | false => exact Nat.zero_le _
      | true => rw [h n (by omega) e]; decide
    show zcnt p n + (p n).toNat < zcnt q n + (q n).toNat
    obtain ⟨i, hi, e1, e2⟩ := hx
    rcases Nat.lt_or_ge i n with hl | hl
    · have h1 := ih (fun i hi => h i (by omega)) ⟨i, hl, e1, e2⟩
      omega
    · have hin : i = n := by omega
      subst hin
      have h1 := zcnt_mono (n := i) (fun j hj => h j (by omega))
      rw [e1, e2]
      show _ + 0 < _ + 1
      omega
theorem zcnt_cong {p q : Nat → Bool} {n : Nat} (h : ∀ i, i < n → p i = q i) : zcnt p n = zcnt q n := Nat.le_antisymm (zcnt_mono (fun i hi e => by rw [← h i hi]; exact e)) (zcnt_mono (fun i hi e => by rw [h i hi]; exact e))
theorem zcnt_eq {p q : Nat → Bool} {n : Nat} (h : ∀ i, i < n → p i = true → q i = true) (he : zcnt p n = zcnt q n) : ∀ i, i < n → p i = q i := by
  intro i hi
  cases e : p i with
  | true => exact (h i hi e).symm
  | false =>
    cases e2 : q i with
    | false => rfl
    | true => exact absurd he (Nat.ne_of_lt (zcnt_lt h ⟨i, hi, e, e2⟩))
def zpair (P : Nat → Nat) (i : Nat) : Bool := (P (i / 8)).testBit (i % 8)
/-- how many pointers -/
def ztot (P : Nat → Nat) : Nat := zcnt (zpair P) 64
theorem ztot_le (P : Nat → Nat) : ztot P ≤ 64 := zcnt_le _ 64
theorem ztot_cong {P P2 : Nat → Nat} (h : ∀ x, x < 8 → P x = P2 x) : ztot P = ztot P2 := zcnt_cong (fun i hi => by unfold zpair; rw [h (i / 8) (by omega)])
theorem ztot_lt {P P2 : Nat → Nat} (h : ∀ x, x < 8 → ∀ v, (P x).testBit v = true → (P2 x).testBit v = true) (hx : ∃ x, x < 8 ∧ ∃ v, v < 8 ∧ (P x).testBit v = false ∧ (P2 x).testBit v = true) : ztot P < ztot P2 := by
  obtain ⟨x, hx, v, hv, e1, e2⟩ := hx
  refine zcnt_lt (fun i hi => h (i / 8) (by omega) (i % 8)) ⟨8 * x + v, by omega, ?_, ?_⟩
  · unfold zpair
    rw [show (8 * x + v) / 8 = x by omega, show (8 * x + v) % 8 = v by omega]
    exact e1
  · unfold zpair
    rw [show (8 * x + v) / 8 = x by omega, show (8 * x + v) % 8 = v by omega]
    exact e2
/-- fewer statements, as many pointers: the same ones -/
theorem ztot_iff {P P2 : Nat → Nat} (hB : zB8 P) (hB2 : zB8 P2) (h : ∀ x, x < 8 → ∀ v, (P2 x).testBit v = true → (P x).testBit v = true) : ztot P = ztot P2 ↔ ∀ x, x < 8 → P x = P2 x := by
  constructor
  · intro he x hx
    refine z_ext (fun v => ⟨fun q => ?_, h x hx v⟩)
    have hv := z_t8 (hB x hx) q
    have h1 := zcnt_eq (p := zpair P2) (q := zpair P) (n := 64) (fun i hi => h (i / 8) (by omega) (i % 8)) he.symm (8 * x + v) (by omega)
    unfold zpair at h1
    rw [show (8 * x + v) / 8 = x by omega, show (8 * x + v) % 8 = v by omega] at h1
    rw [h1]
    exact q
  · exact ztot_cong
/-- the set of those of the first n that p says -/
def zcol (p : Nat → Bool) : Nat → Nat
  | 0 => 0
  | n + 1 => if p n then zcol p n ||| 2 ^ n else zcol p n
theorem zcol_bit (p : Nat → Bool) (n i : Nat) : (zcol p n).testBit i = (decide (i < n) && p i) := by
  induction n with
  | zero => simp [zcol]
  | succ n ih =>
    unfold zcol
    cases e : p n with
    | false =>
      rw [if_neg (by decide), ih]
      rcases Nat.lt_trichotomy i n with q | q | q
      · rw [decide_eq_true q, decide_eq_true (by omega)]
      · subst q; rw [e, Bool.and_false, Bool.and_false]
      · rw [decide_eq_false (by omega), decide_eq_false (by omega)]
    | true =>
      rw [if_pos rfl, Nat.testBit_or, ih, z_2b]
      rcases Nat.lt_trichotomy i n with q | q | q
      · rw [decide_eq_true q, decide_eq_true (show i < n + 1 by omega), decide_eq_false (show ¬ n = i by omega), Bool.or_false]
      · subst q; rw [decide_eq_true (show i < i + 1 by omega), decide_eq_true (show i = i from rfl), e]; simp
      · rw [decide_eq_false (show ¬ i < n by omega), decide_eq_false (show ¬ i < n + 1 by omega), decide_eq_false (show ¬ n = i by omega), Bool.false_and, Bool.or_false]
theorem zcol_cong {p q : Nat → Bool} {n : Nat} (h : ∀ i, i < n → p i = q i) : zcol p n = zcol q n := Nat.eq_of_testBit_eq (fun i => by
  rw [zcol_bit, zcol_bit]
  rcases Nat.lt_or_ge i n with e | e
  · rw [h i e]
  · rw [decide_eq_false (by omega), Bool.false_and, Bool.false_and])
theorem zcol_lt (p : Nat → Bool) (n : Nat) : zcol p n < 2 ^ n := Nat.lt_pow_two_of_testBit _ (fun i hi => by rw [zcol_bit, decide_eq_false (by omega), Bool.false_and])
theorem zcol_self {a n : Nat} (h : a < 2 ^ n) : zcol (fun i => a.testBit i) n = a := Nat.eq_of_testBit_eq (fun i => by
  rw [zcol_bit]
  rcases Nat.lt_or_ge i n with e | e
  · rw [decide_eq_true e, Bool.true_and]
  · rw [decide_eq_false (by omega), Bool.false_and, Nat.testBit_lt_two_pow (Nat.lt_of_lt_of_le h (Nat.pow_le_pow_right (by decide) e))])
/-- going on from s along P, c steps, the c-th through c % 8 -/
def zrch (P : Nat → Nat) (s : Nat) : Nat → Nat
  | 0 => s
  | c + 1 => if (zrch P s c).testBit (c % 8) then zrch P s c ||| P (c % 8) else zrch P s c
theorem zrch_lt {P : Nat → Nat} {s : Nat} (hP : zB8 P) (hs : s < 256) (c : Nat) : zrch P s c < 256 := by
  induction c with
  | zero => exact hs
  | succ c ih =>
    unfold zrch
    split
    · exact z_or ih (hP _ (Nat.mod_lt _ (by decide)))
    · exact ih
theorem zrch_cong {P P2 : Nat → Nat} {s : Nat} (h : ∀ x, x < 8 → P x = P2 x) (c : Nat) : zrch P s c = zrch P2 s c := by
  induction c with
  | zero => rfl
  | succ c ih =>
    unfold zrch
    rw [ih, h (c % 8) (Nat.mod_lt _ (by decide))]
/-- along the edges a k → b k (k < 12, on k), the c-th step by the edge c % 12 -/
def zfl (on : Nat → Bool) (a b : Nat → Nat) (s : Nat) : Nat → Nat
  | 0 => s
  | c + 1 => if on (c % 12) && (zfl on a b s c).testBit (a (c % 12)) then zfl on a b s c ||| 2 ^ b (c % 12) else zfl on a b s c
def zpath (on : Nat → Bool) (a b : Nat → Nat) (u w : Nat) : Prop := ∀ M : Nat → Prop, M u → (∀ k, k < 12 → on k = true → M (a k) → M (b k)) → M w
def zfc (on : Nat → Bool) (a b : Nat → Nat) (s : Nat) : Prop := ∀ k, k < 12 → on k = true → s.testBit (a k) = true → s.testBit (b k) = true
section ZF
variable {on : Nat → Bool} {a b : Nat → Nat} {s : Nat}
theorem zfl_lt (hb : ∀ k, k < 12 → b k < 8) (hs : s < 256) (c : Nat) : zfl on a b s c < 256 := by
  induction c with
  | zero => exact hs
  | succ c ih =>
    unfold zfl
    split
    · exact z_or ih (z_2p (hb _ (Nat.mod_lt _ (by decide))))
    · exact ih
theorem zfl_up (c : Nat) (v : Nat) (h : (zfl on a b s c).testBit v = true) : (zfl on a b s (c + 1)).testBit v = true := by
  rw [zfl]
  split
  · rw [Nat.testBit_or, h, Bool.true_or]
  · exact h
theorem zfl_ups (c d : Nat) (v : Nat) (h : (zfl on a b s c).testBit v = true) : (zfl on a b s (c + d)).testBit v = true := by
  induction d with
  | zero => exact h
  | succ d ih => exact zfl_up (c + d) v ih
theorem zfl_snd {M : Nat → Prop} (h0 : ∀ v, s.testBit v = true → M v) (hM : ∀ k, k < 12 → on k = true → M (a k) → M (b k)) (c : Nat) : ∀ v, (zfl on a b s c).testBit v = true → M v := by
  induction c with
  | zero => exact h0
  | succ c ih =>
    intro v hv
    rw [zfl] at hv
    split at hv
    · next h =>
      rw [Bool.and_eq_true] at h
      rw [Nat.testBit_or, Bool.or_eq_true, z_2b] at hv
      rcases hv with hv | hv
      · exact ih v hv
      · rw [← of_decide_eq_true hv]
        exact hM _ (Nat.mod_lt _ (by decide)) h.1 (ih _ h.2)
    · exact ih v hv
theorem zfl_stay {c : Nat} (h : zfc on a b (zfl on a b s c)) (d : Nat) : zfl on a b s (c + d) = zfl on a b s c := by
  induction d with
  | zero => rfl
  | succ d ih =>
    show zfl on a b s (c + d + 1) = _
    rw [zfl, ih]
    split
    · next q =>
      rw [Bool.and_eq_true] at q
      have h1 := h _ (Nat.mod_lt _ (by decide)) q.1 q.2
      refine z_ext (fun v => ?_)
      rw [Nat.testBit_or, Bool.or_eq_true, z_2b]
      constructor
      · intro e
        rcases e with e | e
        · exact e
        · rw [← of_decide_eq_true e]; exact h1
      · exact Or.inl
    · rfl
/-- a round that brings nothing new: closed -/
theorem zfl_round {r : Nat} (h : zfl on a b s (12 * r + 12) = zfl on a b s (12 * r)) : zfc on a b (zfl on a b s (12 * r)) := by
  intro k hk ho hv
  have h1 : (zfl on a b s (12 * r + k)).testBit (a k) = true := zfl_ups (12 * r) k _ hv
  have h2 : (zfl on a b s (12 * r + k + 1)).testBit (b k) = true := by
    rw [zfl, show (12 * r + k) % 12 = k by omega, if_pos (by rw [ho, h1]; rfl), Nat.testBit_or, z_2b]
    simp
  have h3 := zfl_ups (12 * r + k + 1) (11 - k) _ h2
  rw [show 12 * r + k + 1 + (11 - k) = 12 * r + 12 by omega, h] at h3
  exact h3
theorem zfl_closed {u : Nat} (hu : u < 8) (hb : ∀ k, k < 12 → b k < 8) : zfc on a b (zfl on a b (2 ^ u) 96) := by
  have key : ∀ r, zfc on a b (zfl on a b (2 ^ u) (12 * r)) ∨ r + 1 ≤ zcnt (fun i => (zfl on a b (2 ^ u) (12 * r)).testBit i) 8 := by
    intro r
    induction r with
    | zero =>
      refine Or.inr ?_
      have h1 := zcnt_lt (p := fun _ => false) (q := fun i => (2 ^ u).testBit i) (n := 8) (fun i _ h => by cases h) ⟨u, hu, rfl, by rw [z_2b]; simp⟩
      exact Nat.succ_le_of_lt (Nat.lt_of_le_of_lt (Nat.zero_le _) h1)
    | succ r ih =>
      rcases ih with h | h
      · refine Or.inl ?_
        rw [show 12 * (r + 1) = 12 * r + 12 by omega, zfl_stay h 12]
        exact h
      · rcases Classical.em (zfl on a b (2 ^ u) (12 * r + 12) = zfl on a b (2 ^ u) (12 * r)) with q | q
        · refine Or.inl ?_
          rw [show 12 * (r + 1) = 12 * r + 12 by omega, q]
          exact zfl_round q
        · refine Or.inr ?_
          rw [show 12 * (r + 1) = 12 * r + 12 by omega]
          refine Nat.succ_le_of_lt (Nat.lt_of_le_of_lt h (zcnt_lt (fun i _ e => zfl_ups (12 * r) 12 i e) ?_))
          rcases Classical.em (∃ i, i < 8 ∧ (zfl on a b (2 ^ u) (12 * r)).testBit i = false ∧ (zfl on a b (2 ^ u) (12 * r + 12)).testBit i = true) with w | w
          · exact w
          · refine absurd (z_ext (fun v => ⟨fun e => ?_, zfl_ups (12 * r) 12 v⟩)) q
            cases f : (zfl on a b (2 ^ u) (12 * r)).testBit v with
            | true => rfl
            | false => exact absurd ⟨v, z_t8 (zfl_lt hb (z_2p hu) _) e, f, e⟩ w
  rcases key 8 with h | h
  · exact h
  · exact absurd (Nat.le_trans h (zcnt_le _ 8)) (by decide)
theorem zfl_iff {u w : Nat} (hu : u < 8) (hb : ∀ k, k < 12 → b k < 8) : (zfl on a b (2 ^ u) 96).testBit w = true ↔ zpath on a b u w := by
  constructor
  · intro h M h0 hM
    refine zfl_snd (M := M) (fun v hv => ?_) hM 96 w h
    rw [z_2b] at hv
    rw [← of_decide_eq_true hv]
    exact h0
  · intro h
    refine h (fun v => (zfl on a b (2 ^ u) 96).testBit v = true) ?_ (zfl_closed hu hb)
    have h1 := zfl_ups (on := on) (a := a) (b := b) (s := 2 ^ u) 0 96 u (by rw [zfl, z_2b]; simp)
    exact h1
end ZF
theorem zpath_rev {on : Nat → Bool} {a b : Nat → Nat} {u w : Nat} (h : zpath on a b u w) : zpath on b a w u := by
  refine h (fun z => zpath on b a z u) (fun M h0 _ => h0) (fun k hk ho q M h0 hM => ?_)
  exact q M (hM k hk ho h0) hM
/-- forth from u to w, and back from w to u -/
theorem zfl_back {on : Nat → Bool} {a b : Nat → Nat} {u w : Nat} (hu : u < 8) (hw : w < 8) (ha : ∀ k, k < 12 → a k < 8) (hb : ∀ k, k < 12 → b k < 8) : (zfl on a b (2 ^ u) 96).testBit w = (zfl on b a (2 ^ w) 96).testBit u := Bool.eq_iff_iff.mpr ((zfl_iff hu hb).trans ((⟨zpath_rev, zpath_rev⟩ : zpath on a b u w ↔ zpath on b a w u).trans (zfl_iff hw ha).symm))
theorem zfl_0 {on : Nat → Bool} {a b : Nat → Nat} (c : Nat) : zfl on a b 0 c = 0 := by
  induction c with
  | zero => rfl
  | succ c ih => rw [zfl, ih, Nat.zero_testBit, Bool.and_false]; rfl
theorem zfl_cong {on on2 : Nat → Bool} {a b : Nat → Nat} {s : Nat} (h : ∀ k, k < 12 → on k = on2 k) (c : Nat) : zfl on a b s c = zfl on2 a b s c := by
  induction c with
  | zero => rfl
  | succ c ih => rw [zfl, zfl, ih, h (c % 12) (Nat.mod_lt _ (by decide))]
end
section
/-! the plain law, two: passing on what is new along links that grow (points, fresh, links), step by step, and what it comes to -/
abbrev Sg : Type := (Nat → Nat) × (Nat → Nat) × (Nat → Nat)
def zBn (σ : Sg) : Prop := zB8 σ.1 ∧ zB8 σ.2.1 ∧ zB8 σ.2.2
/-- point(x, s) -/
def ptF (σ : Sg) (x s : Nat) : Sg := (va_up σ.1 x (σ.1 x ||| ndf s (σ.1 x)), va_up σ.2.1 x (σ.2.1 x ||| ndf s (σ.1 x)), σ.2.2)
/-- link(f, t) -/
def lkF (σ : Sg) (f t : Nat) : Sg := if (σ.2.2 f).testBit t then σ else ptF (σ.1, σ.2.1, va_up σ.2.2 f (σ.2.2 f ||| 2 ^ t)) t (σ.1 f)
/-- follow: one z -/
def foF (ld st : Bool) (xk yk news : Nat) (σ : Sg) : Nat → Sg
  | 0 => σ
  | z + 1 => if news.testBit z then (if st then lkF (if ld then lkF (foF ld st xk yk news σ z) z xk else foF ld st xk yk news σ z) yk z else (if ld then lkF (foF ld st xk yk news σ z) z xk else foF ld st xk yk news σ z)) else foF ld st xk yk news σ z
def flF (K X Y : Nat → Nat) (k v news : Nat) (σ : Sg) : Sg := foF (decide (K k = 2) && decide (Y k = v)) (decide (K k = 3) && decide (X k = v)) (X k) (Y k) news σ 8
def p1F (T : Nat → Bool) (K X Y : Nat → Nat) (v news : Nat) (σ : Sg) : Nat → Sg
  | 0 => σ
  | k + 1 => if T k then flF K X Y k v news (p1F T K X Y v news σ k) else p1F T K X Y v news σ k
def p2F (v news : Nat) (σ : Sg) : Nat → Sg
  | 0 => σ
  | w + 1 => if ((p2F v news σ w).2.2 v).testBit w then ptF (p2F v news σ w) w news else p2F v news σ w
/-- passOn(v) -/
def psF (T : Nat → Bool) (K X Y : Nat → Nat) (v : Nat) (σ : Sg) : Sg := p2F v (σ.2.1 v) (p1F T K X Y v (σ.2.1 v) (σ.1, va_up σ.2.1 v 0, σ.2.2) 13) 8
/-- solve's second loop -/
def inF (T : Nat → Bool) (K X Y : Nat → Nat) (σ : Sg) : Nat → Sg
  | 0 => σ
  | k + 1 => if T k then (if K k = 0 then ptF (inF T K X Y σ k) (X k) (2 ^ Y k) else if K k = 1 then lkF (inF T K X Y σ k) (Y k) (X k) else inF T K X Y σ k) else inF T K X Y σ k
theorem up_s {α : Type} {f : Nat → α} {k : Nat} {v : α} : va_up f k v k = v := va_up_self f k v
theorem zB8_up {P : Nat → Nat} {k v : Nat} (h : zB8 P) (hv : v < 256) : zB8 (va_up P k v) := fun x hx => by
  rcases Classical.em (x = k) with e | e
  · subst e; rw [va_up_self]; exact hv
  · rw [va_up_ne _ _ e]; exact h x hx
theorem Bn_pt {σ : Sg} {x s : Nat} (h : zBn σ) (hx : x < 8) (hs : s < 256) : zBn (ptF σ x s) := ⟨zB8_up h.1 (z_or (h.1 x hx) (z_ndf hs)), zB8_up h.2.1 (z_or (h.2.1 x hx) (z_ndf hs)), h.2.2⟩
theorem Bn_lk {σ : Sg} {f t : Nat} (h : zBn σ) (hf : f < 8) (ht : t < 8) : zBn (lkF σ f t) := by
  unfold lkF
  split
  · exact h
  · exact Bn_pt (σ := (σ.1, σ.2.1, va_up σ.2.2 f (σ.2.2 f ||| 2 ^ t))) ⟨h.1, h.2.1, zB8_up h.2.2 (z_or (h.2.2 f hf) (z_2p ht))⟩ ht (h.1 f hf)
theorem Bn_fo {ld st : Bool} {xk yk news : Nat} {σ : Sg} (h : zBn σ) (hx : xk < 8) (hy : yk < 8) {z : Nat} (hz : z ≤ 8) : zBn (foF ld st xk yk news σ z) := by
  induction z with
  | zero => exact h
  | succ z ih =>
    have ih := ih (by omega)
    have h1 : zBn (if ld then lkF (foF ld st xk yk news σ z) z xk else foF ld st xk yk news σ z) := by
      split
      · exact Bn_lk ih (by omega) hx
      · exact ih
    unfold foF
    split
    · split
      · exact Bn_lk h1 hy (by omega)
      · exact h1
    · exact ih
theorem Bn_p1 {T : Nat → Bool} {K X Y : Nat → Nat} {v news : Nat} {σ : Sg} (hW : zWF K X Y) (h : zBn σ) {k : Nat} (hk : k ≤ 13) : zBn (p1F T K X Y v news σ k) := by
  induction k with
  | zero => exact h
  | succ k ih =>
    have ih := ih (by omega)
    unfold p1F
    split
    · exact Bn_fo ih (hW k (by omega)).2.1 (hW k (by omega)).2.2 (Nat.le_refl 8)
    · exact ih
theorem Bn_p2 {v news : Nat} {σ : Sg} (hn : news < 256) (h : zBn σ) {w : Nat} (hw : w ≤ 8) : zBn (p2F v news σ w) := by
  induction w with
  | zero => exact h
  | succ w ih =>
    have ih := ih (by omega)
    unfold p2F
    split
    · exact Bn_pt ih (by omega) hn
    · exact ih
theorem Bn_in {T : Nat → Bool} {K X Y : Nat → Nat} {σ : Sg} (hW : zWF K X Y) (h : zBn σ) {k : Nat} (hk : k ≤ 13) : zBn (inF T K X Y σ k) := by
  induction k with
  | zero => exact h
  | succ k ih =>
    have ih := ih (by omega)
    have hw := hW k (by omega)
    unfold inF
    split
    · split
      · exact Bn_pt ih hw.2.1 (z_2p hw.2.2)
      · split
        · exact Bn_lk ih hw.2.2 hw.2.1
        · exact ih
    · exact ih
/-- what is in points, and isn't fresh -/
def zdn (σ : Sg) (x v : Nat) : Prop := (σ.1 x).testBit v = true ∧ (σ.2.1 x).testBit v = false
def zle (σ τ : Sg) : Prop := ∀ x, x < 8 → (∀ v, (σ.1 x).testBit v = true → (τ.1 x).testBit v = true) ∧ (∀ v, (σ.2.2 x).testBit v = true → (τ.2.2 x).testBit v = true) ∧ ∀ v, zdn τ x v ↔ zdn σ x v
theorem zle_rf (σ : Sg) : zle σ σ := fun _ _ => ⟨fun _ h => h, fun _ h => h, fun _ => Iff.rfl⟩
theorem zle_tr {σ τ υ : Sg} (h : zle σ τ) (h2 : zle τ υ) : zle σ υ := fun x hx => ⟨fun v q => (h2 x hx).1 v ((h x hx).1 v q), fun v q => (h2 x hx).2.1 v ((h x hx).2.1 v q), fun v => ((h2 x hx).2.2 v).trans ((h x hx).2.2 v)⟩
def zG0 (T : Nat → Bool) (K X Y : Nat → Nat) (σ : Sg) : Prop := zBn σ ∧ (∀ x, x < 8 → ∀ v, (σ.2.1 x).testBit v = true → (σ.1 x).testBit v = true) ∧ ∀ M, zCl T K X Y M → (∀ x, x < 8 → ∀ v, (σ.1 x).testBit v = true → M x v) ∧ ∀ x, x < 8 → ∀ w, (σ.2.2 x).testBit w = true → ∀ v, M x v → M w v
def zCC (E : Nat → Nat → Prop) (σ : Sg) : Prop := (∀ x, x < 8 → ∀ w, (σ.2.2 x).testBit w = true → ∀ v, E x v → (σ.1 w).testBit v = true) ∧ ∀ x, x < 8 → ∀ v, E x v → (σ.1 x).testBit v = true
section ZS
variable {T : Nat → Bool} {K X Y : Nat → Nat}
theorem pt_ok {σ : Sg} {x s : Nat} (h : zG0 T K X Y σ) (hx : x < 8) (hs : s < 256) (hj : ∀ M, zCl T K X Y M → ∀ v, s.testBit v = true → M x v) : zG0 T K X Y (ptF σ x s) ∧ zle σ (ptF σ x s) ∧ ∀ v, s.testBit v = true → ((ptF σ x s).1 x).testBit v = true := by
  obtain ⟨hB, hF, hS⟩ := h
  have e1 : ∀ y v, ((ptF σ x s).1 y).testBit v = true ↔ (σ.1 y).testBit v = true ∨ (y = x ∧ s.testBit v = true) := by
    intro y v
    show (va_up σ.1 x (σ.1 x ||| ndf s (σ.1 x)) y).testBit v = true ↔ _
    rcases Classical.em (y = x) with e | e
    · subst e
      rw [va_up_self, Nat.testBit_or, ndf_bit]
      cases (σ.1 y).testBit v <;> cases s.testBit v <;> simp
    · rw [va_up_ne _ _ e]
      constructor
      · exact Or.inl
      · intro q
        rcases q with q | q
        · exact q
        · exact absurd q.1 e
  have e2 : ∀ y v, ((ptF σ x s).2.1 y).testBit v = true ↔ (σ.2.1 y).testBit v = true ∨ (y = x ∧ s.testBit v = true ∧ (σ.1 x).testBit v = false) := by
    intro y v
    show (va_up σ.2.1 x (σ.2.1 x ||| ndf s (σ.1 x)) y).testBit v = true ↔ _
    rcases Classical.em (y = x) with e | e
    · subst e
      rw [va_up_self, Nat.testBit_or, ndf_bit]
      cases (σ.2.1 y).testBit v <;> cases (σ.1 y).testBit v <;> cases s.testBit v <;> simp
    · rw [va_up_ne _ _ e]
      constructor
      · exact Or.inl
      · intro q
        rcases q with q | q
        · exact q
        · exact absurd q.1 e
  refine ⟨⟨Bn_pt hB hx hs, fun y hy v q => ?_, fun M hM => ⟨fun y hy v q => ?_, (hS M hM).2⟩⟩, fun y hy => ⟨fun v q => (e1 y v).mpr (Or.inl q), fun v q => q, fun v => ?_⟩, fun v q => (e1 x v).mpr (Or.inr ⟨rfl, q⟩)⟩
  · rcases (e2 y v).mp q with q | q
    · exact (e1 y v).mpr (Or.inl (hF y hy v q))
    · exact (e1 y v).mpr (Or.inr ⟨q.1, q.2.1⟩)
  · rcases (e1 y v).mp q with q | q
    · exact (hS M hM).1 y hy v q
    · rw [q.1]; exact hj M hM v q.2
  · unfold zdn
    constructor
    · rintro ⟨q1, q2⟩
      have n2 : ¬ ((ptF σ x s).2.1 y).testBit v = true := by rw [q2]; decide
      rw [e2] at n2
      have g2 : (σ.2.1 y).testBit v = false := Bool.eq_false_iff.mpr (fun e => n2 (Or.inl e))
      refine ⟨?_, g2⟩
      rcases (e1 y v).mp q1 with q | q
      · exact q
      · cases g : (σ.1 y).testBit v with
        | true => rfl
        | false => exact absurd (Or.inr ⟨q.1, q.2, by rw [← q.1]; exact g⟩) n2
    · rintro ⟨q1, q2⟩
      refine ⟨(e1 y v).mpr (Or.inl q1), Bool.eq_false_iff.mpr (fun e => ?_)⟩
      rcases (e2 y v).mp e with q | q
      · rw [q2] at q; cases q
      · rw [← q.1, q1] at q; exact absurd q.2.2 (by decide)
theorem zCC_pt {E : Nat → Nat → Prop} {σ : Sg} {x s : Nat} (h : zCC E σ) (hB : zBn σ) (hl : zle σ (ptF σ x s)) : zCC E (ptF σ x s) := ⟨fun y hy w q v e => (hl w (z_t8 (hB.2.2 y hy) q)).1 v (h.1 y hy w q v e), fun y hy v e => (hl y hy).1 v (h.2 y hy v e)⟩
theorem lk_ok {E : Nat → Nat → Prop} {σ : Sg} {f t : Nat} (h : zG0 T K X Y σ) (hC : zCC E σ) (hf : f < 8) (ht : t < 8) (hj : ∀ M, zCl T K X Y M → ∀ v, M f v → M t v) : zG0 T K X Y (lkF σ f t) ∧ zle σ (lkF σ f t) ∧ zCC E (lkF σ f t) ∧ ((lkF σ f t).2.2 f).testBit t = true := by
  unfold lkF
  split
  · next q => exact ⟨h, zle_rf σ, hC, q⟩
  · next q =>
    obtain ⟨hB, hF, hS⟩ := h
    have eL : ∀ y w, (va_up σ.2.2 f (σ.2.2 f ||| 2 ^ t) y).testBit w = true ↔ (σ.2.2 y).testBit w = true ∨ (y = f ∧ w = t) := by
      intro y w
      rcases Classical.em (y = f) with e | e
      · subst e
        rw [va_up_self, Nat.testBit_or, Bool.or_eq_true, z_2b, decide_eq_true_iff]
        constructor
        · rintro (g | g)
          · exact Or.inl g
          · exact Or.inr ⟨rfl, g.symm⟩
        · rintro (g | g)
          · exact Or.inl g
          · exact Or.inr g.2.symm
      · rw [va_up_ne _ _ e]
        constructor
        · exact Or.inl
        · rintro (g | g)
          · exact g
          · exact absurd g.1 e
    have g0 : zG0 T K X Y (σ.1, σ.2.1, va_up σ.2.2 f (σ.2.2 f ||| 2 ^ t)) := ⟨⟨hB.1, hB.2.1, zB8_up hB.2.2 (z_or (hB.2.2 f hf) (z_2p ht))⟩, hF, fun M hM => ⟨(hS M hM).1, fun y hy w g v e => by
      rcases (eL y w).mp g with g | g
      · exact (hS M hM).2 y hy w g v e
      · rw [g.2]; rw [g.1] at e; exact hj M hM v e⟩⟩
    obtain ⟨p1, p2, p3⟩ := pt_ok (x := t) (s := σ.1 f) g0 ht (hB.1 f hf) (fun M hM v e => hj M hM v ((hS M hM).1 f hf v e))
    refine ⟨p1, fun y hy => ⟨(p2 y hy).1, fun w g => (p2 y hy).2.1 w ((eL y w).mpr (Or.inl g)), (p2 y hy).2.2⟩, ⟨fun y hy w g v e => ?_, fun y hy v e => (p2 y hy).1 v (hC.2 y hy v e)⟩, (p2 f hf).2.1 t ((eL f t).mpr (Or.inr ⟨rfl, rfl⟩))⟩
    rcases (eL y w).mp g with g | g
    · exact (p2 w (z_t8 (hB.2.2 y hy) g)).1 v (hC.1 y hy w g v e)
    · rw [g.2]
      exact p3 v (by rw [← g.1]; exact hC.2 y hy v e)
/-- what a row of links brings: all kept -/
def zGI (T : Nat → Bool) (K X Y : Nat → Nat) (E : Nat → Nat → Prop) (σ τ : Sg) : Prop := zG0 T K X Y τ ∧ zle σ τ ∧ zCC E τ
theorem GI_lk {E : Nat → Nat → Prop} {σ τ : Sg} {f t : Nat} (h : zGI T K X Y E σ τ) (hf : f < 8) (ht : t < 8) (hj : ∀ M, zCl T K X Y M → ∀ v, M f v → M t v) : zGI T K X Y E σ (lkF τ f t) ∧ zle τ (lkF τ f t) ∧ ((lkF τ f t).2.2 f).testBit t = true := by
  obtain ⟨h1, h2, h3, h4⟩ := lk_ok h.1 h.2.2 hf ht hj
  exact ⟨⟨h1, zle_tr h.2.1 h2, h3⟩, h2, h4⟩
theorem fo_ok {E : Nat → Nat → Prop} {σ τ : Sg} {ld st : Bool} {xk yk news : Nat} (h : zGI T K X Y E σ τ) (hx : xk < 8) (hy : yk < 8) (hl : ld = true → ∀ M, zCl T K X Y M → ∀ z, news.testBit z = true → ∀ v, M z v → M xk v) (hs : st = true → ∀ M, zCl T K X Y M → ∀ z, news.testBit z = true → ∀ v, M yk v → M z v) {z : Nat} (hz : z ≤ 8) :
    zGI T K X Y E σ (foF ld st xk yk news τ z) ∧ zle τ (foF ld st xk yk news τ z) ∧ ∀ i, i < z → news.testBit i = true → (ld = true → ((foF ld st xk yk news τ z).2.2 i).testBit xk = true) ∧ (st = true → ((foF ld st xk yk news τ z).2.2 yk).testBit i = true) := by
  induction z with
  | zero => exact ⟨h, zle_rf τ, fun i hi => by omega⟩
  | succ z ih =>
    obtain ⟨i1, i2, i3⟩ := ih (by omega)
    unfold foF
    cases hn : news.testBit z with
    | false =>
      rw [if_neg (by decide)]
      refine ⟨i1, i2, fun i hi q => i3 i ?_ q⟩
      rcases Nat.lt_or_ge i z with g | g
      · exact g
      · rw [show i = z by omega, hn] at q; cases q
    | true =>
      rw [if_pos rfl]
      have a1 : zGI T K X Y E σ (if ld then lkF (foF ld st xk yk news τ z) z xk else foF ld st xk yk news τ z) ∧ zle (foF ld st xk yk news τ z) (if ld then lkF (foF ld st xk yk news τ z) z xk else foF ld st xk yk news τ z) ∧ (ld = true → ((if ld then lkF (foF ld st xk yk news τ z) z xk else foF ld st xk yk news τ z).2.2 z).testBit xk = true) := by
        cases hd : ld with
        | false =>
          rw [if_neg (by decide)]
          rw [hd] at i1
          exact ⟨i1, zle_rf _, fun q => by cases q⟩
        | true =>
          rw [if_pos rfl]
          rw [hd] at i1
          obtain ⟨b1, b2, b3⟩ := GI_lk (f := z) (t := xk) i1 (by omega) hx (fun M hM => hl hd M hM z hn)
          exact ⟨b1, b2, fun _ => b3⟩
      generalize (if ld then lkF (foF ld st xk yk news τ z) z xk else foF ld st xk yk news τ z) = υ at a1 ⊢
      obtain ⟨a1, a2, a3⟩ := a1
      have c1 : zGI T K X Y E σ (if st then lkF υ yk z else υ) ∧ zle υ (if st then lkF υ yk z else υ) ∧ (st = true → ((if st then lkF υ yk z else υ).2.2 yk).testBit z = true) := by
        cases hd : st with
        | false =>
          rw [if_neg (by decide)]
          exact ⟨a1, zle_rf _, fun q => by cases q⟩
        | true =>
          rw [if_pos rfl]
          obtain ⟨b1, b2, b3⟩ := GI_lk (f := yk) (t := z) a1 hy (by omega) (fun M hM => hs hd M hM z hn)
          exact ⟨b1, b2, fun _ => b3⟩
      generalize (if st then lkF υ yk z else υ) = ω at c1 ⊢
      obtain ⟨c1, c2, c3⟩ := c1
      refine ⟨c1, zle_tr i2 (zle_tr a2 c2), fun i hi q => ?_⟩
      rcases Nat.lt_or_ge i z with g | g
      · obtain ⟨d1, d2⟩ := i3 i g q
        exact ⟨fun r => (c2 i (by omega)).2.1 _ ((a2 i (by omega)).2.1 _ (d1 r)), fun r => (c2 yk hy).2.1 _ ((a2 yk hy).2.1 _ (d2 r))⟩
      · have e : i = z := by omega
        subst e
        exact ⟨fun r => (c2 i (by omega)).2.1 _ (a3 r), c3⟩
theorem p1_ok {E : Nat → Nat → Prop} {σ τ : Sg} {v news : Nat} (hW : zWF K X Y) (h : zGI T K X Y E σ τ) (hn : ∀ M, zCl T K X Y M → ∀ z, news.testBit z = true → M v z) {k : Nat} (hk : k ≤ 13) :
    zGI T K X Y E σ (p1F T K X Y v news τ k) ∧ zle τ (p1F T K X Y v news τ k) ∧ ∀ j, j < k → T j = true → ∀ i, i < 8 → news.testBit i = true → (K j = 2 → Y j = v → ((p1F T K X Y v news τ k).2.2 i).testBit (X j) = true) ∧ (K j = 3 → X j = v → ((p1F T K X Y v news τ k).2.2 (Y j)).testBit i = true) := by
  induction k with
  | zero => exact ⟨h, zle_rf τ, fun i hi => by omega⟩
  | succ k ih =>
    obtain ⟨i1, i2, i3⟩ := ih (by omega)
    have hw := hW k (by omega)
    unfold p1F
    cases hT : T k with
    | false =>
      rw [if_neg (by decide)]
      refine ⟨i1, i2, fun j hj q => i3 j ?_ q⟩
      rcases Nat.lt_or_ge j k with g | g
      · exact g
      · rw [show j = k by omega, hT] at q; cases q
    | true =>
      rw [if_pos rfl]
      obtain ⟨f1, f2, f3⟩ := fo_ok (ld := decide (K k = 2) && decide (Y k = v)) (st := decide (K k = 3) && decide (X k = v)) (news := news) i1 hw.2.1 hw.2.2 (fun q M hM z hz u hu => by
        rw [Bool.and_eq_true] at q
        have q1 := of_decide_eq_true q.1
        have q2 := of_decide_eq_true q.2
        exact (hM k (by omega) hT).2.2.1 q1 z u (by rw [q2]; exact hn M hM z hz) hu) (fun q M hM z hz u hu => by
        rw [Bool.and_eq_true] at q
        have q1 := of_decide_eq_true q.1
        have q2 := of_decide_eq_true q.2
        exact (hM k (by omega) hT).2.2.2 q1 z u (by rw [q2]; exact hn M hM z hz) hu) (Nat.le_refl 8)
      show zGI T K X Y E σ (flF K X Y k v news (p1F T K X Y v news τ k)) ∧ zle τ (flF K X Y k v news (p1F T K X Y v news τ k)) ∧ _
      change zGI T K X Y E σ (flF K X Y k v news (p1F T K X Y v news τ k)) at f1
      change zle (p1F T K X Y v news τ k) (flF K X Y k v news (p1F T K X Y v news τ k)) at f2
      refine ⟨f1, zle_tr i2 f2, fun j hj q i hi hb => ?_⟩
      rcases Nat.lt_or_ge j k with g | g
      · obtain ⟨d1, d2⟩ := i3 j g q i hi hb
        exact ⟨fun r r2 => (f2 i hi).2.1 _ (d1 r r2), fun r r2 => (f2 (Y j) (hW j (by omega)).2.2).2.1 _ (d2 r r2)⟩
      · have e : j = k := by omega
        subst e
        obtain ⟨d1, d2⟩ := f3 i hi hb
        exact ⟨fun r r2 => d1 (by rw [decide_eq_true r, decide_eq_true r2]; rfl), fun r r2 => d2 (by rw [decide_eq_true r, decide_eq_true r2]; rfl)⟩
theorem p2_ok {E : Nat → Nat → Prop} {σ τ : Sg} {v news : Nat} (h : zGI T K X Y E σ τ) (hv : v < 8) (hn2 : news < 256) (hn : ∀ M, zCl T K X Y M → ∀ z, news.testBit z = true → M v z) {w : Nat} (hw : w ≤ 8) :
    zGI T K X Y E σ (p2F v news τ w) ∧ zle τ (p2F v news τ w) ∧ (p2F v news τ w).2.2 = τ.2.2 ∧ ∀ i, i < w → (τ.2.2 v).testBit i = true → ∀ u, news.testBit u = true → ((p2F v news τ w).1 i).testBit u = true := by
  induction w with
  | zero => exact ⟨h, zle_rf τ, rfl, fun i hi => by omega⟩
  | succ w ih =>
    obtain ⟨i1, i2, i3, i4⟩ := ih (by omega)
    unfold p2F
    rw [i3]
    cases hb : (τ.2.2 v).testBit w with
    | false =>
      rw [if_neg (by decide)]
      refine ⟨i1, i2, i3, fun i hi q => i4 i ?_ q⟩
      rcases Nat.lt_or_ge i w with g | g
      · exact g
      · rw [show i = w by omega, hb] at q; cases q
    | true =>
      rw [if_pos rfl]
      obtain ⟨p1, p2, p3⟩ := pt_ok (x := w) (s := news) i1.1 (by omega) hn2 (fun M hM u hu => (i1.1.2.2 M hM).2 v hv w (by rw [i3]; exact hb) u (hn M hM u hu))
      refine ⟨⟨p1, zle_tr i1.2.1 p2, zCC_pt i1.2.2 i1.1.1 p2⟩, zle_tr i2 p2, i3, fun i hi q u hu => ?_⟩
      rcases Nat.lt_or_ge i w with g | g
      · exact (p2 i (by omega)).1 u (i4 i g q u hu)
      · rw [show i = w by omega]
        exact p3 u hu
end ZS
/-- the statements' own: taken, copied (links), and the links that what is done brings -/
def zT0 (T : Nat → Bool) (K X Y : Nat → Nat) (n : Nat) (σ : Sg) : Prop := ∀ k, k < n → T k = true → (K k = 0 → (σ.1 (X k)).testBit (Y k) = true) ∧ (K k = 1 → (σ.2.2 (Y k)).testBit (X k) = true)
def zLL (T : Nat → Bool) (K X Y : Nat → Nat) (E : Nat → Nat → Prop) (σ : Sg) : Prop := ∀ k, k < 13 → T k = true → (K k = 2 → ∀ z, E (Y k) z → (σ.2.2 z).testBit (X k) = true) ∧ (K k = 3 → ∀ z, E (X k) z → (σ.2.2 (Y k)).testBit z = true)
def zInv (T : Nat → Bool) (K X Y : Nat → Nat) (σ : Sg) : Prop := zG0 T K X Y σ ∧ zCC (zdn σ) σ ∧ zLL T K X Y (zdn σ) σ ∧ zT0 T K X Y 13 σ
/-- how much is done -/
def zms (σ : Sg) : Nat := zcnt (fun i => (σ.1 (i / 8)).testBit (i % 8) && !(σ.2.1 (i / 8)).testBit (i % 8)) 64
section ZT
variable {T : Nat → Bool} {K X Y : Nat → Nat}
theorem zT0_le {n : Nat} {σ τ : Sg} (hW : zWF K X Y) (hn : n ≤ 13) (h : zT0 T K X Y n σ) (hl : zle σ τ) : zT0 T K X Y n τ := fun k hk ht => ⟨fun q => (hl _ (hW k (by omega)).2.1).1 _ ((h k hk ht).1 q), fun q => (hl _ (hW k (by omega)).2.2).2.1 _ ((h k hk ht).2 q)⟩
theorem ps_ok {σ : Sg} {v : Nat} (hW : zWF K X Y) (hv : v < 8) (h : zInv T K X Y σ) (hF : σ.2.1 v ≠ 0) : zInv T K X Y (psF T K X Y v σ) ∧ zms σ < zms (psF T K X Y v σ) := by
  obtain ⟨hG, hC, hL, hT⟩ := h
  have hG' := hG
  obtain ⟨hB, hFP, hS⟩ := hG'
  have hn : ∀ M, zCl T K X Y M → ∀ z, (σ.2.1 v).testBit z = true → M v z := fun M hM z hz => (hS M hM).1 v hv z (hFP v hv z hz)
  have hn2 : σ.2.1 v < 256 := hB.2.1 v hv
  have g1 : zG0 T K X Y (σ.1, va_up σ.2.1 v 0, σ.2.2) := ⟨⟨hB.1, zB8_up hB.2.1 (by decide), hB.2.2⟩, fun x hx u q => by
    rcases Classical.em (x = v) with e | e
    · subst e
      have q : (va_up σ.2.1 x 0 x).testBit u = true := q
      rw [va_up_self, Nat.zero_testBit] at q
      cases q
    · have q : (va_up σ.2.1 v 0 x).testBit u = true := q
      rw [va_up_ne _ _ e] at q
      exact hFP x hx u q, hS⟩
  have gi : zGI T K X Y (zdn σ) (σ.1, va_up σ.2.1 v 0, σ.2.2) (σ.1, va_up σ.2.1 v 0, σ.2.2) := ⟨g1, zle_rf _, hC⟩
  obtain ⟨a1, a2, a3⟩ := p1_ok (v := v) (news := σ.2.1 v) hW gi hn (Nat.le_refl 13)
  obtain ⟨b1, b2, b3, b4⟩ := p2_ok (v := v) (news := σ.2.1 v) a1 hv hn2 hn (Nat.le_refl 8)
  change zGI T K X Y (zdn σ) (σ.1, va_up σ.2.1 v 0, σ.2.2) (psF T K X Y v σ) at b1
  change zle (p1F T K X Y v (σ.2.1 v) (σ.1, va_up σ.2.1 v 0, σ.2.2) 13) (psF T K X Y v σ) at b2
  change (psF T K X Y v σ).2.2 = (p1F T K X Y v (σ.2.1 v) (σ.1, va_up σ.2.1 v 0, σ.2.2) 13).2.2 at b3
  change ∀ i, i < 8 → ((p1F T K X Y v (σ.2.1 v) (σ.1, va_up σ.2.1 v 0, σ.2.2) 13).2.2 v).testBit i = true → ∀ u, (σ.2.1 v).testBit u = true → ((psF T K X Y v σ).1 i).testBit u = true at b4
  rw [← b3] at a3 b4
  generalize psF T K X Y v σ = τ at b1 b2 b3 b4 a3 ⊢
  obtain ⟨c1, c2, c3⟩ := b1
  have hd : ∀ x, x < 8 → ∀ u, zdn τ x u → zdn σ x u ∨ (x = v ∧ (σ.2.1 v).testBit u = true) := by
    intro x hx u q
    have q2 := ((c2 x hx).2.2 u).mp q
    obtain ⟨q3, q4⟩ := q2
    have q3 : (σ.1 x).testBit u = true := q3
    have q4 : (va_up σ.2.1 v 0 x).testBit u = false := q4
    rcases Classical.em (x = v) with e | e
    · subst e
      cases g : (σ.2.1 x).testBit u with
      | true => exact Or.inr ⟨rfl, rfl⟩
      | false => exact Or.inl ⟨q3, g⟩
    · rw [va_up_ne _ _ e] at q4
      exact Or.inl ⟨q3, q4⟩
  have hup : ∀ x, x < 8 → ∀ u, zdn σ x u → zdn τ x u := by
    intro x hx u q
    refine ((c2 x hx).2.2 u).mpr ⟨q.1, ?_⟩
    show (va_up σ.2.1 v 0 x).testBit u = false
    rcases Classical.em (x = v) with e | e
    · subst e; rw [va_up_self, Nat.zero_testBit]
    · rw [va_up_ne _ _ e]; exact q.2
  have hnew : ∀ u, (σ.2.1 v).testBit u = true → zdn τ v u := fun u q => ((c2 v hv).2.2 u).mpr ⟨hFP v hv u q, by show (va_up σ.2.1 v 0 v).testBit u = false; rw [va_up_self, Nat.zero_testBit]⟩
  have hle : ∀ x, x < 8 → ∀ u, (σ.2.2 x).testBit u = true → (τ.2.2 x).testBit u = true := fun x hx u q => (c2 x hx).2.1 u q
  refine ⟨⟨c1, ⟨fun x hx w q u e => ?_, fun x hx u e => e.1⟩, fun k hk ht => ⟨fun q z e => ?_, fun q z e => ?_⟩, fun k hk ht => ⟨fun q => (c2 _ (hW k hk).2.1).1 _ ((hT k hk ht).1 q), fun q => hle _ (hW k hk).2.2 _ ((hT k hk ht).2 q)⟩⟩, ?_⟩
  · rcases hd x hx u e with g | g
    · exact c3.1 x hx w q u g
    · obtain ⟨g1, g2⟩ := g
      subst g1
      exact b4 w (z_t8 (c1.1.2.2 x hx) q) q u g2
  · rcases hd (Y k) (hW k hk).2.2 z e with g | g
    · exact hle z (z_t8 (hB.1 _ (hW k hk).2.2) g.1) _ ((hL k hk ht).1 q z g)
    · exact (a3 k hk ht z (z_t8 hn2 g.2) g.2).1 q g.1
  · rcases hd (X k) (hW k hk).2.1 z e with g | g
    · exact hle (Y k) (hW k hk).2.2 _ ((hL k hk ht).2 q z g)
    · exact (a3 k hk ht z (z_t8 hn2 g.2) g.2).2 q g.1
  · obtain ⟨u, hu⟩ := z_ne0 hF
    have hu8 := z_t8 hn2 hu
    refine zcnt_lt (fun i hi q => ?_) ⟨8 * v + u, by omega, ?_, ?_⟩
    · rw [Bool.and_eq_true, Bool.not_eq_true'] at q
      have := hup (i / 8) (by omega) (i % 8) q
      rw [Bool.and_eq_true, Bool.not_eq_true']
      exact this
    · rw [show (8 * v + u) / 8 = v by omega, show (8 * v + u) % 8 = u by omega, hu]
      simp
    · rw [show (8 * v + u) / 8 = v by omega, show (8 * v + u) % 8 = u by omega, Bool.and_eq_true, Bool.not_eq_true']
      exact hnew u hu
/-- nothing fresh left: the least closed one -/
theorem fin_ok {σ : Sg} (hW : zWF K X Y) (h : zInv T K X Y σ) (hF : ∀ x, x < 8 → σ.2.1 x = 0) : zSol T K X Y σ.1 := by
  obtain ⟨hG, hC, hL, hT⟩ := h
  obtain ⟨hB, hFP, hS⟩ := hG
  have hdn : ∀ x, x < 8 → ∀ v, (σ.1 x).testBit v = true → zdn σ x v := fun x hx v q => ⟨q, by rw [hF x hx, Nat.zero_testBit]⟩
  refine ⟨hB.1, fun k hk ht => ?_, fun M hM x hx v q => (hS M hM).1 x hx v q⟩
  obtain ⟨-, hX, hY⟩ := hW k hk
  refine ⟨fun q => (hT k hk ht).1 q, fun q v e => ?_, fun q z v e e2 => ?_, fun q z v e e2 => ?_⟩
  · exact hC.1 (Y k) hY (X k) ((hT k hk ht).2 q) v (hdn _ hY v e)
  · have hz := z_t8 (hB.1 _ hY) e
    exact hC.1 z hz (X k) ((hL k hk ht).1 q z (hdn _ hY z e)) v (hdn _ hz v e2)
  · exact hC.1 (Y k) hY z ((hL k hk ht).2 q z (hdn _ hX z e)) v (hdn _ hY v e2)
theorem in_ok {σ : Sg} (hW : zWF K X Y) (h0 : ∀ x, x < 8 → σ.1 x = 0 ∧ σ.2.1 x = 0 ∧ σ.2.2 x = 0) {k : Nat} (hk : k ≤ 13) : zG0 T K X Y (inF T K X Y σ k) ∧ (∀ x, x < 8 → ∀ v, ¬ zdn (inF T K X Y σ k) x v) ∧ zT0 T K X Y k (inF T K X Y σ k) := by
  induction k with
  | zero =>
    refine ⟨⟨⟨fun x hx => ?_, fun x hx => ?_, fun x hx => ?_⟩, fun x hx v q => ?_, fun M hM => ⟨fun x hx v q => ?_, fun x hx w q => ?_⟩⟩, fun x hx v q => ?_, fun k hk => by omega⟩
    · show σ.1 x < 256
      rw [(h0 x hx).1]; decide
    · show σ.2.1 x < 256
      rw [(h0 x hx).2.1]; decide
    · show σ.2.2 x < 256
      rw [(h0 x hx).2.2]; decide
    · have q : (σ.2.1 x).testBit v = true := q
      rw [(h0 x hx).2.1, Nat.zero_testBit] at q
      cases q
    · have q : (σ.1 x).testBit v = true := q
      rw [(h0 x hx).1, Nat.zero_testBit] at q
      cases q
    · have q : (σ.2.2 x).testBit w = true := q
      rw [(h0 x hx).2.2, Nat.zero_testBit] at q
      cases q
    · have q : (σ.1 x).testBit v = true := q.1
      rw [(h0 x hx).1, Nat.zero_testBit] at q
      cases q
  | succ k ih =>
    obtain ⟨i1, i2, i3⟩ := ih (by omega)
    obtain ⟨-, hX, hY⟩ := hW k (by omega)
    have key : ∀ τ : Sg, zG0 T K X Y τ → zle (inF T K X Y σ k) τ → (T k = true → (K k = 0 → (τ.1 (X k)).testBit (Y k) = true) ∧ (K k = 1 → (τ.2.2 (Y k)).testBit (X k) = true)) → zG0 T K X Y τ ∧ (∀ x, x < 8 → ∀ v, ¬ zdn τ x v) ∧ zT0 T K X Y (k + 1) τ := by
      intro τ g1 g2 g3
      refine ⟨g1, fun x hx v q => i2 x hx v (((g2 x hx).2.2 v).mp q), fun j hj ht => ?_⟩
      rcases Nat.lt_or_ge j k with g | g
      · exact zT0_le hW (by omega) i3 g2 j g ht
      · have e : j = k := by omega
        subst e
        exact g3 ht
    unfold inF
    split
    · next hT =>
      split
      · next hK =>
        obtain ⟨p1, p2, p3⟩ := pt_ok (x := X k) (s := 2 ^ Y k) i1 hX (z_2p hY) (fun M hM v q => by
          rw [z_2b] at q
          rw [← of_decide_eq_true q]
          exact (hM k (by omega) hT).1 hK)
        exact key _ p1 p2 (fun _ => ⟨fun _ => p3 _ (by rw [z_2b]; simp), fun q => by omega⟩)
      · split
        · next hK0 hK =>
          obtain ⟨p1, p2, -, p4⟩ := lk_ok (E := fun _ _ => False) (f := Y k) (t := X k) i1 ⟨fun _ _ _ _ _ e => e.elim, fun _ _ _ e => e.elim⟩ hY hX (fun M hM v q => (hM k (by omega) hT).2.1 hK v q)
          exact key _ p1 p2 (fun _ => ⟨fun q => by omega, fun _ => p4⟩)
        · next hK0 hK => exact key _ i1 (zle_rf _) (fun _ => ⟨fun q => absurd q hK0, fun q => absurd q hK⟩)
    · next hT => exact key _ i1 (zle_rf _) (fun q => absurd q hT)
theorem in_inv {σ : Sg} (hW : zWF K X Y) (h0 : ∀ x, x < 8 → σ.1 x = 0 ∧ σ.2.1 x = 0 ∧ σ.2.2 x = 0) : zInv T K X Y (inF T K X Y σ 13) := by
  obtain ⟨h1, h2, h3⟩ := in_ok (T := T) hW h0 (Nat.le_refl 13)
  refine ⟨h1, ⟨fun x hx w _ v e => absurd e (h2 x hx v), fun x hx v e => absurd e (h2 x hx v)⟩, fun k hk ht => ⟨fun _ z e => absurd e (h2 _ (hW k hk).2.2 z), fun _ z e => absurd e (h2 _ (hW k hk).2.1 z)⟩, h3⟩
theorem zms_le (σ : Sg) : zms σ ≤ 64 := zcnt_le _ 64
end ZT
end
section
/-! the plain law, three: carrying statements out until nothing is new -/
abbrev Rg : Type := (Nat → Nat) × Bool
/-- sets[t] |= w, and whether that was new -/
def orF (q : Rg) (t w : Nat) : Rg := (va_up q.1 t (q.1 t ||| w), q.2 || decide (ndf w (q.1 t) ≠ 0))
def coF (two : Bool) (x y th : Nat) (P : Nat → Nat) : Nat → Rg
  | 0 => (P, false)
  | z + 1 => if th.testBit z then (if two then orF (coF two x y th P z) x ((coF two x y th P z).1 z) else orF (coF two x y th P z) z ((coF two x y th P z).1 y)) else coF two x y th P z
/-- carryOut(k) -/
def crF (K X Y : Nat → Nat) (k : Nat) (P : Nat → Nat) : Rg := if K k = 0 then orF (P, false) (X k) (2 ^ Y k) else if K k = 1 then orF (P, false) (X k) (P (Y k)) else if K k = 2 then coF true (X k) (Y k) (P (Y k)) P 8 else coF false (X k) (Y k) (P (X k)) P 8
/-- since P0: nothing lost; nothing new if not said; something new if said -/
def zrel (P0 : Nat → Nat) (q : Rg) : Prop := (∀ x, x < 8 → ∀ v, (P0 x).testBit v = true → (q.1 x).testBit v = true) ∧ (q.2 = false → ∀ x, x < 8 → q.1 x = P0 x) ∧ (q.2 = true → ∃ x, x < 8 ∧ ∃ v, v < 8 ∧ (P0 x).testBit v = false ∧ (q.1 x).testBit v = true)
theorem zrel_rf (P : Nat → Nat) : zrel P (P, false) := ⟨fun _ _ _ h => h, fun _ _ _ => rfl, fun h => by cases h⟩
theorem zrel_tr {P0 : Nat → Nat} {q r : Rg} (h : zrel P0 q) (h2 : zrel q.1 r) : zrel P0 (r.1, r.2 || q.2) := by
  refine ⟨fun x hx v e => h2.1 x hx v (h.1 x hx v e), fun e x hx => ?_, fun e => ?_⟩
  · have e : (r.2 || q.2) = false := e
    rw [Bool.or_eq_false_iff] at e
    exact (h2.2.1 e.1 x hx).trans (h.2.1 e.2 x hx)
  · have e : (r.2 || q.2) = true := e
    cases g : q.2 with
    | true =>
      obtain ⟨x, hx, v, hv, e1, e2⟩ := h.2.2 g
      exact ⟨x, hx, v, hv, e1, h2.1 x hx v e2⟩
    | false =>
      rw [g, Bool.or_false] at e
      obtain ⟨x, hx, v, hv, e1, e2⟩ := h2.2.2 e
      exact ⟨x, hx, v, hv, by rw [← h.2.1 g x hx]; exact e1, e2⟩
theorem or_bit (q : Rg) (t w y v : Nat) : ((orF q t w).1 y).testBit v = true ↔ (q.1 y).testBit v = true ∨ (y = t ∧ w.testBit v = true) := by
  show (va_up q.1 t (q.1 t ||| w) y).testBit v = true ↔ _
  rcases Classical.em (y = t) with e | e
  · subst e
    rw [va_up_self, Nat.testBit_or, Bool.or_eq_true]
    constructor
    · rintro (g | g)
      · exact Or.inl g
      · exact Or.inr ⟨rfl, g⟩
    · rintro (g | g)
      · exact Or.inl g
      · exact Or.inr g.2
  · rw [va_up_ne _ _ e]
    constructor
    · exact Or.inl
    · rintro (g | g)
      · exact g
      · exact absurd g.1 e
theorem or_sub {w a : Nat} (h : ndf w a = 0) (v : Nat) (hv : w.testBit v = true) : a.testBit v = true := by
  have h1 := ndf_bit w a v
  rw [h, Nat.zero_testBit, hv, Bool.true_and] at h1
  cases g : a.testBit v with
  | true => rfl
  | false => rw [g] at h1; cases h1
theorem or_rel {P0 : Nat → Nat} {q : Rg} {t w : Nat} (h : zrel P0 q) (ht : t < 8) (hw : w < 256) : zrel P0 (orF q t w) := by
  refine ⟨fun x hx v e => (or_bit q t w x v).mpr (Or.inl (h.1 x hx v e)), fun e x hx => ?_, fun e => ?_⟩
  · have e : (q.2 || decide (ndf w (q.1 t) ≠ 0)) = false := e
    rw [Bool.or_eq_false_iff] at e
    have e2 : ndf w (q.1 t) = 0 := Decidable.of_not_not (of_decide_eq_false e.2)
    rw [← h.2.1 e.1 x hx]
    refine z_ext (fun v => ?_)
    rw [or_bit]
    constructor
    · rintro (g | g)
      · exact g
      · rw [g.1]; exact or_sub e2 v g.2
    · exact Or.inl
  · have e : (q.2 || decide (ndf w (q.1 t) ≠ 0)) = true := e
    cases g : q.2 with
    | true =>
      obtain ⟨x, hx, v, hv, e1, e2⟩ := h.2.2 g
      exact ⟨x, hx, v, hv, e1, (or_bit q t w x v).mpr (Or.inl e2)⟩
    | false =>
      rw [g, Bool.false_or] at e
      obtain ⟨v, hv⟩ := z_ne0 (of_decide_eq_true e)
      rw [ndf_bit, Bool.and_eq_true, Bool.not_eq_true'] at hv
      exact ⟨t, ht, v, z_t8 hw hv.1, by rw [← h.2.1 g t ht]; exact hv.2, (or_bit q t w t v).mpr (Or.inr ⟨rfl, hv.1⟩)⟩
theorem or_B8 {q : Rg} {t w : Nat} (h : zB8 q.1) (ht : t < 8) (hw : w < 256) : zB8 (orF q t w).1 := zB8_up h (z_or (h t ht) hw)
theorem or_fin {q : Rg} {t w : Nat} (e : (orF q t w).2 = false) : q.2 = false ∧ ∀ v, w.testBit v = true → (q.1 t).testBit v = true := by
  have e : (q.2 || decide (ndf w (q.1 t) ≠ 0)) = false := e
  rw [Bool.or_eq_false_iff] at e
  exact ⟨e.1, or_sub (Decidable.of_not_not (of_decide_eq_false e.2))⟩
theorem or_snd {T : Nat → Bool} {K X Y : Nat → Nat} {q : Rg} {t w : Nat} (h : zSnd T K X Y q.1) (hj : ∀ M, zCl T K X Y M → ∀ v, w.testBit v = true → M t v) : zSnd T K X Y (orF q t w).1 := by
  intro M hM x hx v e
  rcases (or_bit q t w x v).mp e with g | g
  · exact h M hM x hx v g
  · rw [g.1]; exact hj M hM v g.2
/-- one statement is closed in P -/
def zc1 (K X Y : Nat → Nat) (P : Nat → Nat) (k : Nat) : Prop := (K k = 0 → zbm P (X k) (Y k)) ∧ (K k = 1 → ∀ v, zbm P (Y k) v → zbm P (X k) v) ∧ (K k = 2 → ∀ z v, zbm P (Y k) z → zbm P z v → zbm P (X k) v) ∧ (K k = 3 → ∀ z v, zbm P (X k) z → zbm P (Y k) v → zbm P z v)
theorem co_B8 {two : Bool} {x y th : Nat} {P : Nat → Nat} (hP : zB8 P) (hx : x < 8) (hy : y < 8) {z : Nat} (hz : z ≤ 8) : zB8 (coF two x y th P z).1 := by
  induction z with
  | zero => exact hP
  | succ z ih =>
    have ih := ih (by omega)
    unfold coF
    split
    · split
      · exact or_B8 ih hx (ih z (by omega))
      · exact or_B8 ih (by omega) (ih y hy)
    · exact ih
theorem co_rel {two : Bool} {x y th : Nat} {P : Nat → Nat} (hP : zB8 P) (hx : x < 8) (hy : y < 8) {z : Nat} (hz : z ≤ 8) : zrel P (coF two x y th P z) := by
  induction z with
  | zero => exact zrel_rf P
  | succ z ih =>
    have ih := ih (by omega)
    have hB := co_B8 (two := two) (th := th) hP hx hy (z := z) (by omega)
    unfold coF
    split
    · split
      · exact or_rel ih hx (hB z (by omega))
      · exact or_rel ih (by omega) (hB y hy)
    · exact ih
theorem co_fin {two : Bool} {x y th : Nat} {P : Nat → Nat} (hP : zB8 P) (hx : x < 8) (hy : y < 8) {z : Nat} (hz : z ≤ 8) (e : (coF two x y th P z).2 = false) : ∀ i, i < z → th.testBit i = true → ∀ v, (two = true → (P i).testBit v = true → (P x).testBit v = true) ∧ (two = false → (P y).testBit v = true → (P i).testBit v = true) := by
  induction z with
  | zero => intro i hi; omega
  | succ z ih =>
    have ih := ih (by omega)
    have hr := co_rel (two := two) (th := th) hP hx hy (z := z) (by omega)
    intro i hi hb v
    unfold coF at e
    cases ht : th.testBit z with
    | false =>
      rw [ht, if_neg (by decide)] at e
      rcases Nat.lt_or_ge i z with g | g
      · exact ih e i g hb v
      · rw [show i = z by omega, ht] at hb; cases hb
    | true =>
      rw [ht, if_pos rfl] at e
      cases hq : two with
      | true =>
        rw [hq, if_pos rfl] at e
        rw [hq] at ih hr
        obtain ⟨e1, e2⟩ := or_fin e
        refine ⟨fun _ q => ?_, fun q => (by cases q)⟩
        rcases Nat.lt_or_ge i z with g | g
        · exact (ih e1 i g hb v).1 rfl q
        · have e3 : i = z := by omega
          subst e3
          have h1 := e2 v (by rw [hr.2.1 e1 i (by omega)]; exact q)
          rw [hr.2.1 e1 x hx] at h1
          exact h1
      | false =>
        rw [hq, if_neg (by decide)] at e
        rw [hq] at ih hr
        obtain ⟨e1, e2⟩ := or_fin e
        refine ⟨fun q => (by cases q), fun _ q => ?_⟩
        rcases Nat.lt_or_ge i z with g | g
        · exact (ih e1 i g hb v).2 rfl q
        · have e3 : i = z := by omega
          subst e3
          have h1 := e2 v (by rw [hr.2.1 e1 y hy]; exact q)
          rw [hr.2.1 e1 i (by omega)] at h1
          exact h1
theorem co_snd {T : Nat → Bool} {K X Y : Nat → Nat} {two : Bool} {x y th : Nat} {P : Nat → Nat} (hP : zSnd T K X Y P) (hy : y < 8) (h2 : two = true → ∀ M, zCl T K X Y M → ∀ z v, th.testBit z = true → M z v → M x v) (h3 : two = false → ∀ M, zCl T K X Y M → ∀ z v, th.testBit z = true → M y v → M z v) {z : Nat} (hz : z ≤ 8) : zSnd T K X Y (coF two x y th P z).1 := by
  induction z with
  | zero => exact hP
  | succ z ih =>
    have ih := ih (by omega)
    unfold coF
    split
    · next ht =>
      split
      · next hq => exact or_snd ih (fun M hM v e => h2 hq M hM z v ht (ih M hM z (by omega) v e))
      · next hq => exact or_snd ih (fun M hM v e => h3 (Bool.eq_false_iff.mpr hq) M hM z v ht (ih M hM y hy v e))
    · exact ih
section ZM
variable {T : Nat → Bool} {K X Y P : Nat → Nat} {k : Nat}
theorem cr_B8 (hW : zWF K X Y) (hk : k < 13) (hP : zB8 P) : zB8 (crF K X Y k P).1 := by
  obtain ⟨-, hX, hY⟩ := hW k hk
  unfold crF
  split
  · exact or_B8 (q := (P, false)) hP hX (z_2p hY)
  · split
    · exact or_B8 (q := (P, false)) hP hX (hP _ hY)
    · split
      · exact co_B8 hP hX hY (Nat.le_refl 8)
      · exact co_B8 hP hX hY (Nat.le_refl 8)
theorem cr_rel (hW : zWF K X Y) (hk : k < 13) (hP : zB8 P) : zrel P (crF K X Y k P) := by
  obtain ⟨-, hX, hY⟩ := hW k hk
  unfold crF
  split
  · exact or_rel (zrel_rf P) hX (z_2p hY)
  · split
    · exact or_rel (zrel_rf P) hX (hP _ hY)
    · split
      · exact co_rel hP hX hY (Nat.le_refl 8)
      · exact co_rel hP hX hY (Nat.le_refl 8)
theorem cr_fin (hW : zWF K X Y) (hk : k < 13) (hP : zB8 P) (e : (crF K X Y k P).2 = false) : zc1 K X Y P k := by
  obtain ⟨hK, hX, hY⟩ := hW k hk
  unfold crF at e
  split at e
  · next h0 => exact ⟨fun _ => (or_fin e).2 _ (by rw [z_2b]; simp), fun q => by omega, fun q => by omega, fun q => by omega⟩
  · split at e
    · next h1 => exact ⟨fun q => by omega, fun _ v g => (or_fin e).2 v g, fun q => by omega, fun q => by omega⟩
    · split at e
      · next h2 => exact ⟨fun q => by omega, fun q => by omega, fun _ z v g g2 => (co_fin hP hX hY (Nat.le_refl 8) e z (z_t8 (hP _ hY) g) g v).1 rfl g2, fun q => by omega⟩
      · next h0 h1 h2 => exact ⟨fun q => by omega, fun q => by omega, fun q => by omega, fun _ z v g g2 => (co_fin hP hX hY (Nat.le_refl 8) e z (z_t8 (hP _ hX) g) g v).2 rfl g2⟩
theorem cr_snd (hW : zWF K X Y) (hk : k < 13) (hT : T k = true) (hP : zSnd T K X Y P) : zSnd T K X Y (crF K X Y k P).1 := by
  obtain ⟨hK, hX, hY⟩ := hW k hk
  unfold crF
  split
  · next h0 => exact or_snd (q := (P, false)) hP (fun M hM v e => by
      rw [z_2b] at e
      rw [← of_decide_eq_true e]
      exact (hM k hk hT).1 h0)
  · split
    · next h1 => exact or_snd (q := (P, false)) hP (fun M hM v e => (hM k hk hT).2.1 h1 v (hP M hM _ hY v e))
    · split
      · next h2 => exact co_snd hP hY (fun _ M hM z v e g => (hM k hk hT).2.2.1 h2 z v (hP M hM _ hY z e) g) (fun q => by cases q) (Nat.le_refl 8)
      · next h0 h1 h2 => exact co_snd hP hY (fun q => by cases q) (fun _ M hM z v e g => (hM k hk hT).2.2.2 (by omega) z v (hP M hM _ hX z e) g) (Nat.le_refl 8)
end ZM
/-- all statements of the first n are closed -/
theorem zc1_Cl {T : Nat → Bool} {K X Y P : Nat → Nat} (h : ∀ k, k < 13 → T k = true → zc1 K X Y P k) : zCl T K X Y (zbm P) := fun k hk ht => h k hk ht
theorem zCl_eq {T : Nat → Bool} {K X Y P P2 : Nat → Nat} (hW : zWF K X Y) (hB : zB8 P2) (h : ∀ x, x < 8 → P x = P2 x) (hc : zCl T K X Y (zbm P2)) : zCl T K X Y (zbm P) := by
  intro k hk ht
  obtain ⟨c0, c1, c2, c3⟩ := hc k hk ht
  obtain ⟨-, hX, hY⟩ := hW k hk
  unfold zbm at *
  rw [h _ hX, h _ hY]
  refine ⟨c0, c1, fun q z v e e2 => ?_, fun q z v e e2 => ?_⟩
  · rw [h z (z_t8 (hB _ hY) e)] at e2
    exact c2 q z v e e2
  · rw [h z (z_t8 (hB _ hX) e)]
    exact c3 q z v e e2
end
section
set_option maxRecDepth 100000
set_option maxHeartbeats 4000000 in
set_option maxRecDepth 100000 in
/-- isVariable(x) -/
theorem mX0_isVariable (l : Launch) (D : va_G) (tys : List (ClassId × FieldType)) (ws : va_W) (x : Int32) : Ki l yX0_isVariable cX0_isVariable 1 (some .boolean) 0 0 D tys (ws) [.int x] (fun r (_ : Unit) => r = bI (vr x)) (fun _ => ws) := by
  refine mk_i (by decide) (Nat.le_of_ble_eq_true rfl) ?_
  intro p e s m below meth c A hx hb hml hr hlk hown hts hA hK hP hD hS ls hl
  have hown : s.vm.findClass RX0 = some m.cls := hown
  have hl : lv_has ls 1 [(0, .int (x))] := hl
  refine lv_iload_n hx hb dX0_isVariable_0 rfl (lv_at hl 0 rfl) ?_
  refine lv_if_lt (tgt := 14) hx hb dX0_isVariable_1 (by decide) (fun c1 => ?_) (fun c1 => ?_)
  · refine lv_iconst (v := bI false) hx hb dX0_isVariable_14 (by decide) ?_
    exact rt_z (v := false) hx hb hr hlk () (congrArg bI (vr_lt c1).symm) hK hP hD hS dX0_isVariable_15
  · refine lv_iload_n hx hb dX0_isVariable_4 rfl (lv_at hl 0 rfl) ?_
    refine lv_bipush (v := nI 8) hx hb dX0_isVariable_5 (by decide) ?_
    refine lv_icmp_ge (tgt := 14) hx hb dX0_isVariable_7 (by decide) (fun c2 => ?_) (fun c2 => ?_)
    · refine lv_iconst (v := bI false) hx hb dX0_isVariable_14 (by decide) ?_
      exact rt_z (v := false) hx hb hr hlk () (congrArg bI (vr_ge c2).symm) hK hP hD hS dX0_isVariable_15
    · refine lv_iconst (v := bI true) hx hb dX0_isVariable_10 (by decide) ?_
      refine lv_goto (tgt := 15) hx hb dX0_isVariable_11 (by decide) ?_
      exact rt_z (v := true) hx hb hr hlk () (congrArg bI (vr_in c1 c2).symm) hK hP hD hS dX0_isVariable_15
set_option maxHeartbeats 4000000 in
set_option maxRecDepth 100000 in
/-- in(n, i) -/
theorem mX0_in (l : Launch) (D : va_G) (tys : List (ClassId × FieldType)) (ws : va_W) (n i : Nat) (hn : n < 2 ^ 31) (hi : i < 32) : Ki l yX0_in cX0_in 2 (some .boolean) 0 0 D tys (ws) [.int (nI n), .int (nI i)] (fun r (_ : Unit) => r = bI (Nat.testBit n i)) (fun _ => ws) := by
  refine mk_i (by decide) (Nat.le_of_ble_eq_true rfl) ?_
  intro p e s m below meth c A hx hb hml hr hlk hown hts hA hK hP hD hS ls hl
  have hown : s.vm.findClass RX0 = some m.cls := hown
  have hl : lv_has ls 2 [(0, .int (nI (n))), (1, .int (nI (i)))] := hl
  refine lv_iload_n hx hb dX0_in_0 rfl (lv_at hl 0 rfl) ?_
  refine lv_iload_n hx hb dX0_in_1 rfl (lv_at hl 1 rfl) ?_
  refine nv_bit hx hb dX0_in_2 dX0_in_3 dX0_in_4 (by omega) (by omega) ?_
  refine nv_ifeq (tgt := 12) hx hb dX0_in_5 (by decide) (fun c1 => ?_) (fun c1 => ?_)
  · refine lv_iconst (v := bI false) hx hb dX0_in_12 (by decide) ?_
    exact rt_z (v := false) hx hb hr hlk () (congrArg bI c1.symm) hK hP hD hS dX0_in_13
  · refine lv_iconst (v := bI true) hx hb dX0_in_8 (by decide) ?_
    refine lv_goto (tgt := 13) hx hb dX0_in_9 (by decide) ?_
    exact rt_z (v := true) hx hb hr hlk () (congrArg bI c1.symm) hK hP hD hS dX0_in_13
set_option maxHeartbeats 4000000 in
set_option maxRecDepth 100000 in
/-- has(k) -/
theorem mX0_has (l : Launch) (D : va_G) (a : Nat → Nat) (d : Nat → ClassId) (pr : Nat) (kn : Bool) (K X Y P F L : Nat → Nat) (k : Int32) (hpr : pr < 8192) : Ki l yX0_has cX0_has 2 (some .boolean) 0 0 D (xT d) (xW a d pr kn K X Y P F L) [.ref (a 0), .int k] (fun r (_ : Unit) => r = bI (hsb (Nat.testBit pr) k)) (fun _ => xW a d pr kn K X Y P F L) := by
  refine mk_i (by decide) (Nat.le_of_ble_eq_true rfl) ?_
  intro p e s m below meth c A hx hb hml hr hlk hown hts hA hK hP hD hS ls hl
  have hown : s.vm.findClass RX0 = some m.cls := hown
  have hl : lv_has ls 2 [(0, .ref (a 0)), (1, .int (k))] := hl
  refine lv_iload_n hx hb dX0_has_0 rfl (lv_at hl 1 rfl) ?_
  refine lv_if_lt (tgt := 25) hx hb dX0_has_1 (by decide) (fun c1 => ?_) (fun c1 => ?_)
  · refine lv_iconst (v := bI false) hx hb dX0_has_25 (by decide) ?_
    exact rt_z (v := false) hx hb hr hlk () (congrArg bI (hsb_f (tr_lt c1)).symm) hK hP hD hS dX0_has_26
  · refine lv_iload_n hx hb dX0_has_4 rfl (lv_at hl 1 rfl) ?_
    refine lv_bipush (v := nI 12) hx hb dX0_has_5 (by decide) ?_
    refine lv_icmp_ge (tgt := 25) hx hb dX0_has_7 (by decide) (fun c2 => ?_) (fun c2 => ?_)
    · refine lv_iconst (v := bI false) hx hb dX0_has_25 (by decide) ?_
      exact rt_z (v := false) hx hb hr hlk () (congrArg bI (hsb_f (tr_ge c2)).symm) hK hP hD hS dX0_has_26
    · obtain ⟨j, hj, rfl⟩ := tr_of (tr_in c1 c2)
      refine lv_aload_n hx hb dX0_has_10 rfl (lv_at hl 0 rfl) ?_
      refine va_get (D := D) (ci := 0) (v := .int (nI (pr))) (C := RX0) (T := TX0) (N := 8) hx hb hts in_X0 hown hK hP 0 rfl rfl 0 (by decide) (hts _ q25) (fun _ h9 => h9) rfl dX0_has_11 ?_
      refine lv_iload_n hx hb dX0_has_14 rfl (lv_at hl 1 rfl) ?_
      refine nv_bit hx hb dX0_has_15 dX0_has_16 dX0_has_17 (by omega) (by omega) ?_
      refine nv_ifeq (tgt := 25) hx hb dX0_has_18 (by decide) (fun c3 => ?_) (fun c3 => ?_)
      · refine lv_iconst (v := bI false) hx hb dX0_has_25 (by decide) ?_
        exact rt_z (v := false) hx hb hr hlk () (congrArg bI ((hsb_n hj).trans c3).symm) hK hP hD hS dX0_has_26
      · refine lv_iconst (v := bI true) hx hb dX0_has_21 (by decide) ?_
        refine lv_goto (tgt := 26) hx hb dX0_has_22 (by decide) ?_
        exact rt_z (v := true) hx hb hr hlk () (congrArg bI ((hsb_n hj).trans c3).symm) hK hP hD hS dX0_has_26
set_option maxHeartbeats 4000000 in
set_option maxRecDepth 100000 in
/-- write(k, n1, n2, n3) -/
theorem mX0_write (l : Launch) (D : va_G) (a : Nat → Nat) (d : Nat → ClassId) (pr : Nat) (kn : Bool) (K X Y P F L : Nat → Nat) (k n1 n2 n3 : Nat) (h1 : k < 13) (h2 : n1 < 4) (h3 : n2 < 8) (h4 : n3 < 8) : Kv l yX0_write cX0_write 5 0 0 D (xT d) (xW a d pr kn K X Y P F L) [.ref (a 0), .int (nI k), .int (nI n1), .int (nI n2), .int (nI n3)] (fun _ : Unit => True) (fun _ => xW a d (pr ||| 2 ^ k) false (va_up K k n1) (va_up X k n2) (va_up Y k n3) P F L) := by
  refine mk_v (by decide) (Nat.le_of_ble_eq_true rfl) ?_
  intro p e s m below meth c A hx hb hml hr hlk hown hts hA hK hP hD hS ls hl
  have hown : s.vm.findClass RX0 = some m.cls := hown
  have hl : lv_has ls 5 [(0, .ref (a 0)), (1, .int (nI (k))), (2, .int (nI (n1))), (3, .int (nI (n2))), (4, .int (nI (n3)))] := hl
  refine lv_aload_n hx hb dX0_write_0 rfl (lv_at hl 0 rfl) ?_
  refine va_get (D := D) (ci := 0) (v := .ref (a 1)) (C := RX0) (T := TX0) (N := 8) hx hb hts in_X0 hown hK hP 0 rfl rfl 1 (by decide) (hts _ q26) (fun _ h9 => h9) rfl dX0_write_1 ?_
  refine lv_iload_n hx hb dX0_write_4 rfl (lv_at hl 1 rfl) ?_
  refine lv_iload_n hx hb dX0_write_5 rfl (lv_at hl 2 rfl) ?_
  refine nv_i2b hx hb dX0_write_6 (by omega) ?_
  refine nv_bast hx hb hK hP hD hS 1 0 rfl rfl (by omega) (by omega) dX0_write_7 (fun H locs hP hD hS => ?_)
  have hP : va_P D vwCl (xW a d pr kn (va_up K k n1) X Y P F L) H := hP
  have hD : va_D A (xW a d pr kn (va_up K k n1) X Y P F L) := hD
  refine lv_aload_n hx hb dX0_write_8 rfl (lv_at hl 0 rfl) ?_
  refine va_get (D := D) (ci := 0) (v := .ref (a 2)) (C := RX0) (T := TX0) (N := 8) hx hb hts in_X0 hown hK hP 0 rfl rfl 2 (by decide) (hts _ q27) (fun _ h9 => h9) rfl dX0_write_9 ?_
  refine lv_iload_n hx hb dX0_write_12 rfl (lv_at hl 1 rfl) ?_
  refine lv_iload_n hx hb dX0_write_13 rfl (lv_at hl 3 rfl) ?_
  refine nv_i2b hx hb dX0_write_14 (by omega) ?_
  refine nv_bast hx hb hK hP hD hS 2 1 rfl rfl (by omega) (by omega) dX0_write_15 (fun H locs hP hD hS => ?_)
  have hP : va_P D vwCl (xW a d pr kn (va_up K k n1) (va_up X k n2) Y P F L) H := hP
  have hD : va_D A (xW a d pr kn (va_up K k n1) (va_up X k n2) Y P F L) := hD
  refine lv_aload_n hx hb dX0_write_16 rfl (lv_at hl 0 rfl) ?_
  refine va_get (D := D) (ci := 0) (v := .ref (a 3)) (C := RX0) (T := TX0) (N := 8) hx hb hts in_X0 hown hK hP 0 rfl rfl 3 (by decide) (hts _ q28) (fun _ h9 => h9) rfl dX0_write_17 ?_
  refine lv_iload_n hx hb dX0_write_20 rfl (lv_at hl 1 rfl) ?_
  refine lv_iload hx hb dX0_write_21 (lv_at hl 4 rfl) ?_
  refine nv_i2b hx hb dX0_write_23 (by omega) ?_
  refine nv_bast hx hb hK hP hD hS 3 2 rfl rfl (by omega) (by omega) dX0_write_24 (fun H locs hP hD hS => ?_)
  have hP : va_P D vwCl (xW a d pr kn (va_up K k n1) (va_up X k n2) (va_up Y k n3) P F L) H := hP
  have hD : va_D A (xW a d pr kn (va_up K k n1) (va_up X k n2) (va_up Y k n3) P F L) := hD
  refine lv_aload_n hx hb dX0_write_25 rfl (lv_at hl 0 rfl) ?_
  refine lv_dup hx hb dX0_write_26 rfl ?_
  refine va_get (D := D) (ci := 0) (v := .int (nI (pr))) (C := RX0) (T := TX0) (N := 8) hx hb hts in_X0 hown hK hP 0 rfl rfl 0 (by decide) (hts _ q25) (fun _ h9 => h9) rfl dX0_write_27 ?_
  refine lv_iconst (v := nI 1) hx hb dX0_write_30 (by decide) ?_
  refine lv_iload_n hx hb dX0_write_31 rfl (lv_at hl 1 rfl) ?_
  refine nv_shl hx hb dX0_write_32 (by omega) ?_
  refine nv_ior hx hb dX0_write_33 ?_
  refine va_put (D := D) (ci := 0) (v := .int (nI (pr ||| (2 ^ k)))) (ty := .int) (C := RX0) (T := TX0) (N := 8) hx hb hts in_X0 tyX0 tyX0_ok nmX0 hown hK hP hD hS 0 rfl rfl 0 (by decide) (hts _ q25) (fun _ h9 => h9) rfl (by decide +kernel) rfl rfl (Nat.le_of_ble_eq_true rfl) dX0_write_34 (fun H locs hP hD hS => ?_)
  have hP : va_P D vwCl (xW a d (pr ||| (2 ^ k)) kn (va_up K k n1) (va_up X k n2) (va_up Y k n3) P F L) H := hP
  have hD : va_D A (xW a d (pr ||| (2 ^ k)) kn (va_up K k n1) (va_up X k n2) (va_up Y k n3) P F L) := hD
  refine lv_aload_n hx hb dX0_write_37 rfl (lv_at hl 0 rfl) ?_
  refine lv_iconst (v := bI false) hx hb dX0_write_38 (by decide) ?_
  refine va_put (D := D) (ci := 0) (v := .int (bI (false))) (ty := .boolean) (C := RX0) (T := TX0) (N := 8) hx hb hts in_X0 tyX0 tyX0_ok nmX0 hown hK hP hD hS 0 rfl rfl 4 (by decide) (hts _ q29) (fun _ h9 => h9) rfl (by decide +kernel) (ni_nz _) rfl (Nat.le_of_ble_eq_true rfl) dX0_write_39 (fun H locs hP hD hS => ?_)
  have hP : va_P D vwCl (xW a d (pr ||| (2 ^ k)) false (va_up K k n1) (va_up X k n2) (va_up Y k n3) P F L) H := hP
  have hD : va_D A (xW a d (pr ||| (2 ^ k)) false (va_up K k n1) (va_up X k n2) (va_up Y k n3) P F L) := hD
  exact rt_v hx hb hr hlk () trivial hK hP hD hS dX0_write_42
set_option maxHeartbeats 4000000 in
set_option maxRecDepth 100000 in
/-- statementOk(x, y, z) -/
theorem mX0_statementOk (l : Launch) (D : va_G) (tys : List (ClassId × FieldType)) (ws : va_W) (x y z : Int32) : Ki l yX0_statementOk cX0_statementOk 3 (some .boolean) 1 20 D tys (ws) [.int x, .int y, .int z] (fun r (_ : Unit) => r = bI (sok x y z)) (fun _ => ws) := by
  refine mk_i (by decide) (Nat.le_of_ble_eq_true rfl) ?_
  intro p e s m below meth c A hx hb hml hr hlk hown hts hA hK hP hD hS ls hl
  have hown : s.vm.findClass RX0 = some m.cls := hown
  have hl : lv_has ls 3 [(0, .int (x)), (1, .int (y)), (2, .int (z))] := hl
  refine lv_iload_n hx hb dX0_statementOk_0 rfl (lv_at hl 0 rfl) ?_
  refine lv_if_lt (tgt := 27) hx hb dX0_statementOk_1 (by decide) (fun c1 => ?_) (fun c1 => ?_)
  · refine lv_iconst (v := bI false) hx hb dX0_statementOk_27 (by decide) ?_
    exact rt_z (v := false) hx hb hr hlk () (congrArg bI (sok_1 (kr_lt c1)).symm) hK hP hD hS dX0_statementOk_28
  · refine lv_iload_n hx hb dX0_statementOk_4 rfl (lv_at hl 0 rfl) ?_
    refine lv_iconst (v := nI 3) hx hb dX0_statementOk_5 (by decide) ?_
    refine lv_icmp_gt (tgt := 27) hx hb dX0_statementOk_6 (by decide) (fun c2 => ?_) (fun c2 => ?_)
    · refine lv_iconst (v := bI false) hx hb dX0_statementOk_27 (by decide) ?_
      exact rt_z (v := false) hx hb hr hlk () (congrArg bI (sok_1 (kr_gt c2)).symm) hK hP hD hS dX0_statementOk_28
    · refine lv_iload_n hx hb dX0_statementOk_9 rfl (lv_at hl 1 rfl) ?_
      refine cl_Si (n := 1) (As := [.int (y)]) (rest := []) hx hb hml hown hts (mX0_isVariable l D _ _ y) (lw_S q59 q60 q15 q61) (by decide +kernel) rfl ⟨Nat.le_of_ble_eq_true rfl, Nat.le_of_ble_eq_true rfl⟩ ⟨Nat.le_refl _, Nat.le_refl _⟩ hK hP hD hS hA hl.1 rfl (Nat.le_of_ble_eq_true rfl) dX0_statementOk_10 (fun r _ H locs hp hP hD hS => ?_)
      have hp : r = bI (vr y) := hp
      subst hp
      refine nv_ifeq (tgt := 27) hx hb dX0_statementOk_13 (by decide) (fun c3 => ?_) (fun c3 => ?_)
      · refine lv_iconst (v := bI false) hx hb dX0_statementOk_27 (by decide) ?_
        exact rt_z (v := false) hx hb hr hlk () (congrArg bI (sok_2 c3).symm) hK hP hD hS dX0_statementOk_28
      · refine lv_iload_n hx hb dX0_statementOk_16 rfl (lv_at hl 2 rfl) ?_
        refine cl_Si (n := 1) (As := [.int (z)]) (rest := []) hx hb hml hown hts (mX0_isVariable l D _ _ z) (lw_S q59 q60 q15 q61) (by decide +kernel) rfl ⟨Nat.le_of_ble_eq_true rfl, Nat.le_of_ble_eq_true rfl⟩ ⟨Nat.le_refl _, Nat.le_refl _⟩ hK hP hD hS hA hl.1 rfl (Nat.le_of_ble_eq_true rfl) dX0_statementOk_17 (fun r _ H locs hp hP hD hS => ?_)
        have hp : r = bI (vr z) := hp
        subst hp
        refine nv_ifeq (tgt := 27) hx hb dX0_statementOk_20 (by decide) (fun c4 => ?_) (fun c4 => ?_)
        · refine lv_iconst (v := bI false) hx hb dX0_statementOk_27 (by decide) ?_
          exact rt_z (v := false) hx hb hr hlk () (congrArg bI (sok_3 c4).symm) hK hP hD hS dX0_statementOk_28
        · refine lv_iconst (v := bI true) hx hb dX0_statementOk_23 (by decide) ?_
          refine lv_goto (tgt := 28) hx hb dX0_statementOk_24 (by decide) ?_
          exact rt_z (v := true) hx hb hr hlk () (congrArg bI (sok_t (kr_in c1 c2) c3 c4).symm) hK hP hD hS dX0_statementOk_28
set_option maxHeartbeats 4000000 in
set_option maxRecDepth 100000 in
/-- add(kd, x, y) -/
theorem mX0_add (l : Launch) (D : va_G) (a : Nat → Nat) (d : Nat → ClassId) (pr : Nat) (kn : Bool) (K X Y P F L : Nat → Nat) (kd x y : Int32) (hpr : pr < 8192) : Ki l yX0_add cX0_add 5 (some .int) 2 42 D (xT d) (xW a d pr kn K X Y P F L) [.ref (a 0), .int kd, .int x, .int y] (fun r (u : Option (Nat × Nat × Nat × Nat)) => adR (Nat.testBit pr) kd x y r u) (fun u => xAdd a d pr kn K X Y P F L u) := by
  refine mk_i (by decide) (Nat.le_of_ble_eq_true rfl) ?_
  intro p e s m below meth c A hx hb hml hr hlk hown hts hA hK hP hD hS ls hl
  have hown : s.vm.findClass RX0 = some m.cls := hown
  have hl : lv_has ls 5 [(0, .ref (a 0)), (1, .int (kd)), (2, .int (x)), (3, .int (y))] := hl
  refine lv_iload_n hx hb dX0_add_0 rfl (lv_at hl 1 rfl) ?_
  refine lv_iload_n hx hb dX0_add_1 rfl (lv_at hl 2 rfl) ?_
  refine lv_iload_n hx hb dX0_add_2 rfl (lv_at hl 3 rfl) ?_
  refine cl_Si (n := 3) (As := [.int (kd), .int (x), .int (y)]) (rest := []) hx hb hml hown hts (mX0_statementOk l D _ _ kd x y) (lw_S q56 q57 q15 q58) (by decide +kernel) rfl ⟨Nat.le_of_ble_eq_true rfl, Nat.le_of_ble_eq_true rfl⟩ ⟨Nat.le_refl _, Nat.le_refl _⟩ hK hP hD hS hA hl.1 rfl (Nat.le_of_ble_eq_true rfl) dX0_add_3 (fun r _ H locs hp hP hD hS => ?_)
  have hp : r = bI (sok kd x y) := hp
  subst hp
  refine nv_ifne (tgt := 11) hx hb dX0_add_6 (by decide) (fun c1 => ?_) (fun c1 => ?_)
  · obtain ⟨⟨n1, w1, rfl⟩, ⟨n2, w2, rfl⟩, ⟨n3, w3, rfl⟩⟩ := sok_of c1
    refine lv_iconst (v := nI 0) hx hb dX0_add_11 (by decide) ?_
    refine lv_istore (lv' := [(4, .int (nI (0))), (0, .ref (a 0)), (1, .int (nI (n1))), (2, .int (nI (n2))), (3, .int (nI (n3)))]) hx hb dX0_add_12 hl (by decide) rfl (fun ls hl => ?_)
    refine wl_up (pc := 14) 12 (fun k H locs ls => (∀ j, j < k → Nat.testBit pr j = true) ∧ va_P D vwCl (xW a d pr kn K X Y P F L) H ∧ va_D A (xW a d pr kn K X Y P F L) ∧ va_S A s.heap H locs ∧ lv_has ls 5 [(0, .ref (a 0)), (1, .int (nI (n1))), (2, .int (nI (n2))), (3, .int (nI (n3))), (4, .int (nI (k)))]) ?_ ?_ 0 (by omega) _ _ _ ⟨(fun j h => absurd h (Nat.not_lt_zero j)), hP, hD, hS, lv_sub hl [1, 2, 3, 4, 0] rfl⟩
    · intro k hk H locs ls hI ih
      obtain ⟨hj, hP, hD, hS, hl⟩ := hI
      refine lv_iload hx hb dX0_add_14 (lv_at hl 4 rfl) ?_
      refine lv_bipush (v := nI 12) hx hb dX0_add_16 (by decide) ?_
      refine nv_icmp_ge (tgt := 48) hx hb dX0_add_18 (by decide) (fun c2 => ?_) (fun c2 => ?_)
      · exfalso; omega
      · refine lv_aload_n hx hb dX0_add_21 rfl (lv_at hl 0 rfl) ?_
        refine lv_iload hx hb dX0_add_22 (lv_at hl 4 rfl) ?_
        refine cl_Vi (n := 1) (As := [.int (nI (k))]) (rest := []) (ci := 0) (q0 := 0) hx hb hml hown hts (mX0_has l D a d pr kn K X Y P F L (nI k) hpr) (lw_V q62 q64 qs0 q15 q65) (by decide +kernel) rfl ⟨Nat.le_of_ble_eq_true rfl, Nat.le_of_ble_eq_true rfl⟩ ⟨Nat.le_refl _, Nat.le_refl _⟩ hK hP hD hS hA rfl rfl hl.1 rfl (Nat.le_of_ble_eq_true rfl) dX0_add_24 (fun r _ H locs hp hP hD hS => ?_)
        have hp : r = bI (Nat.testBit pr k) := hp.trans (congrArg bI (hsb_n (by omega)))
        subst hp
        refine nv_ifne (tgt := 42) hx hb dX0_add_27 (by decide) (fun c3 => ?_) (fun c3 => ?_)
        · refine lv_iinc (v := nI (k + 1)) (lv' := [(4, .int (nI (k + 1))), (0, .ref (a 0)), (1, .int (nI (n1))), (2, .int (nI (n2))), (3, .int (nI (n3)))]) hx hb dX0_add_42 hl (k := 4) rfl (by exact nI_1 _) (by decide) rfl (fun ls hl => ?_)
          refine lv_goto (tgt := 14) hx hb dX0_add_45 (by decide) ?_
          exact ih _ _ _ ⟨(lt_s hj c3), hP, hD, hS, lv_sub hl [1, 2, 3, 4, 0] rfl⟩
        · refine lv_aload_n hx hb dX0_add_30 rfl (lv_at hl 0 rfl) ?_
          refine lv_iload hx hb dX0_add_31 (lv_at hl 4 rfl) ?_
          refine lv_iload_n hx hb dX0_add_33 rfl (lv_at hl 1 rfl) ?_
          refine lv_iload_n hx hb dX0_add_34 rfl (lv_at hl 2 rfl) ?_
          refine lv_iload_n hx hb dX0_add_35 rfl (lv_at hl 3 rfl) ?_
          refine cl_Vv (n := 4) (As := [.int (nI (k)), .int (nI (n1)), .int (nI (n2)), .int (nI (n3))]) (rest := []) (ci := 0) (q0 := 0) hx hb hml hown hts (mX0_write l D a d pr kn K X Y P F L k n1 n2 n3 (by omega) w1 w2 w3) (lw_V q66 q68 qs1 q15 q69) (by decide +kernel) rfl ⟨Nat.le_of_ble_eq_true rfl, Nat.le_of_ble_eq_true rfl⟩ ⟨Nat.le_refl _, Nat.le_refl _⟩ hK hP hD hS hA rfl rfl hl.1 rfl (Nat.le_of_ble_eq_true rfl) dX0_add_36 (fun _ H locs hp hP hD hS => ?_)
          have hP : va_P D vwCl (xW a d (pr ||| 2 ^ k) false (va_up K k n1) (va_up X k n2) (va_up Y k n3) P F L) H := hP
          have hD : va_D A (xW a d (pr ||| 2 ^ k) false (va_up K k n1) (va_up X k n2) (va_up Y k n3) P F L) := hD
          refine lv_iload hx hb dX0_add_39 (lv_at hl 4 rfl) ?_
          exact rt_i (v := nI (k)) hx hb hr hlk (some (k, n1, n2, n3)) (Or.inr (Or.inr ⟨k, n1, n2, n3, hk, w1, w2, w3, rfl, rfl, rfl, c1, c3, hj, rfl, rfl⟩)) hK hP hD hS dX0_add_41
    · intro H locs ls hI
      obtain ⟨hj, hP, hD, hS, hl⟩ := hI
      refine lv_iload hx hb dX0_add_14 (lv_at hl 4 rfl) ?_
      refine lv_bipush (v := nI 12) hx hb dX0_add_16 (by decide) ?_
      refine nv_icmp_ge (tgt := 48) hx hb dX0_add_18 (by decide) (fun c2 => ?_) (fun c2 => ?_)
      · refine lv_bipush (v := -2) hx hb dX0_add_48 (by decide) ?_
        exact rt_i (v := -2) hx hb hr hlk none (Or.inr (Or.inl ⟨c1, hj, rfl, rfl⟩)) hK hP hD hS dX0_add_50
      · exfalso; omega
  · refine lv_iconst (v := -1) hx hb dX0_add_9 (by decide) ?_
    exact rt_i (v := -1) hx hb hr hlk none (Or.inl ⟨c1, rfl, rfl⟩) hK hP hD hS dX0_add_10
set_option maxHeartbeats 4000000 in
set_option maxRecDepth 100000 in
/-- remove(k) -/
theorem mX0_remove (l : Launch) (D : va_G) (a : Nat → Nat) (d : Nat → ClassId) (pr : Nat) (kn : Bool) (K X Y P F L : Nat → Nat) (k : Int32) (hpr : pr < 8192) : Ki l yX0_remove cX0_remove 2 (some .boolean) 1 21 D (xT d) (xW a d pr kn K X Y P F L) [.ref (a 0), .int k] (fun r (u : Option Nat) => rmR (Nat.testBit pr) k r u) (fun u => xRem a d pr kn K X Y P F L u) := by
  refine mk_i (by decide) (Nat.le_of_ble_eq_true rfl) ?_
  intro p e s m below meth c A hx hb hml hr hlk hown hts hA hK hP hD hS ls hl
  have hown : s.vm.findClass RX0 = some m.cls := hown
  have hl : lv_has ls 2 [(0, .ref (a 0)), (1, .int (k))] := hl
  refine lv_aload_n hx hb dX0_remove_0 rfl (lv_at hl 0 rfl) ?_
  refine lv_iload_n hx hb dX0_remove_1 rfl (lv_at hl 1 rfl) ?_
  refine cl_Vi (n := 1) (As := [.int (k)]) (rest := []) (ci := 0) (q0 := 0) hx hb hml hown hts (mX0_has l D a d pr kn K X Y P F L k hpr) (lw_V q62 q64 qs0 q15 q65) (by decide +kernel) rfl ⟨Nat.le_of_ble_eq_true rfl, Nat.le_of_ble_eq_true rfl⟩ ⟨Nat.le_refl _, Nat.le_refl _⟩ hK hP hD hS hA rfl rfl hl.1 rfl (Nat.le_of_ble_eq_true rfl) dX0_remove_2 (fun r _ H locs hp hP hD hS => ?_)
  have hp : r = bI (hsb (Nat.testBit pr) k) := hp
  subst hp
  refine nv_ifne (tgt := 10) hx hb dX0_remove_5 (by decide) (fun c1 => ?_) (fun c1 => ?_)
  · obtain ⟨j, hj, rfl, hb1⟩ := hsb_of c1
    refine lv_aload_n hx hb dX0_remove_10 rfl (lv_at hl 0 rfl) ?_
    refine lv_dup hx hb dX0_remove_11 rfl ?_
    refine va_get (D := D) (ci := 0) (v := .int (nI (pr))) (C := RX0) (T := TX0) (N := 8) hx hb hts in_X0 hown hK hP 0 rfl rfl 0 (by decide) (hts _ q25) (fun _ h9 => h9) rfl dX0_remove_12 ?_
    refine lv_iconst (v := nI 1) hx hb dX0_remove_15 (by decide) ?_
    refine lv_iload_n hx hb dX0_remove_16 rfl (lv_at hl 1 rfl) ?_
    refine nv_shl hx hb dX0_remove_17 (by omega) ?_
    refine nv_ndf hx hb dX0_remove_18 dX0_remove_19 dX0_remove_20 ?_
    refine va_put (D := D) (ci := 0) (v := .int (nI (ndf pr (2 ^ j)))) (ty := .int) (C := RX0) (T := TX0) (N := 8) hx hb hts in_X0 tyX0 tyX0_ok nmX0 hown hK hP hD hS 0 rfl rfl 0 (by decide) (hts _ q25) (fun _ h9 => h9) rfl (by decide +kernel) rfl rfl (Nat.le_of_ble_eq_true rfl) dX0_remove_21 (fun H locs hP hD hS => ?_)
    have hP : va_P D vwCl (xW a d (ndf pr (2 ^ j)) kn K X Y P F L) H := hP
    have hD : va_D A (xW a d (ndf pr (2 ^ j)) kn K X Y P F L) := hD
    refine lv_aload_n hx hb dX0_remove_24 rfl (lv_at hl 0 rfl) ?_
    refine lv_iconst (v := bI false) hx hb dX0_remove_25 (by decide) ?_
    refine va_put (D := D) (ci := 0) (v := .int (bI (false))) (ty := .boolean) (C := RX0) (T := TX0) (N := 8) hx hb hts in_X0 tyX0 tyX0_ok nmX0 hown hK hP hD hS 0 rfl rfl 4 (by decide) (hts _ q29) (fun _ h9 => h9) rfl (by decide +kernel) (ni_nz _) rfl (Nat.le_of_ble_eq_true rfl) dX0_remove_26 (fun H locs hP hD hS => ?_)
    have hP : va_P D vwCl (xW a d (ndf pr (2 ^ j)) false K X Y P F L) H := hP
    have hD : va_D A (xW a d (ndf pr (2 ^ j)) false K X Y P F L) := hD
    refine lv_iconst (v := bI true) hx hb dX0_remove_29 (by decide) ?_
    exact rt_z (v := true) hx hb hr hlk (some j) (Or.inr ⟨j, hj, rfl, hb1, rfl, rfl⟩) hK hP hD hS dX0_remove_30
  · refine lv_iconst (v := bI false) hx hb dX0_remove_8 (by decide) ?_
    exact rt_z (v := false) hx hb hr hlk none (Or.inl ⟨c1, rfl, rfl⟩) hK hP hD hS dX0_remove_9
set_option maxHeartbeats 4000000 in
set_option maxRecDepth 100000 in
/-- statements() -/
theorem mX0_statements (l : Launch) (D : va_G) (a : Nat → Nat) (d : Nat → ClassId) (pr : Nat) (kn : Bool) (K X Y P F L : Nat → Nat) : Ki l yX0_statements cX0_statements 1 (some .int) 0 0 D (xT d) (xW a d pr kn K X Y P F L) [.ref (a 0)] (fun r (_ : Unit) => r = nI pr) (fun _ => xW a d pr kn K X Y P F L) := by
  refine mk_i (by decide) (Nat.le_of_ble_eq_true rfl) ?_
  intro p e s m below meth c A hx hb hml hr hlk hown hts hA hK hP hD hS ls hl
  have hown : s.vm.findClass RX0 = some m.cls := hown
  have hl : lv_has ls 1 [(0, .ref (a 0))] := hl
  refine lv_aload_n hx hb dX0_statements_0 rfl (lv_at hl 0 rfl) ?_
  refine va_get (D := D) (ci := 0) (v := .int (nI (pr))) (C := RX0) (T := TX0) (N := 8) hx hb hts in_X0 hown hK hP 0 rfl rfl 0 (by decide) (hts _ q25) (fun _ h9 => h9) rfl dX0_statements_1 ?_
  exact rt_i (v := nI (pr)) hx hb hr hlk () rfl hK hP hD hS dX0_statements_4
end
section
set_option maxRecDepth 100000
set_option maxHeartbeats 4000000 in
set_option maxRecDepth 100000 in
/-- point(x, n) -/
theorem mX0_point (l : Launch) (D : va_G) (a : Nat → Nat) (d : Nat → ClassId) (pr : Nat) (kn : Bool) (K X Y : Nat → Nat) (σ : Sg) (x n : Nat) (h1 : x < 8) (h2 : n < 256) (hB : zBn σ) : Kv l yX0_point cX0_point 4 0 0 D (xT d) (xW a d pr kn K X Y σ.1 σ.2.1 σ.2.2) [.ref (a 0), .int (nI x), .int (nI n)] (fun _ : Unit => True) (fun _ => xW a d pr kn K X Y (ptF σ x n).1 (ptF σ x n).2.1 (ptF σ x n).2.2) := by
  refine mk_v (by decide) (Nat.le_of_ble_eq_true rfl) ?_
  intro p e s m below meth c A hx hb hml hr hlk hown hts hA hK hP hD hS ls hl
  have hown : s.vm.findClass RX0 = some m.cls := hown
  have hl : lv_has ls 4 [(0, .ref (a 0)), (1, .int (nI (x))), (2, .int (nI (n)))] := hl
  refine lv_iload_n hx hb dX0_point_0 rfl (lv_at hl 2 rfl) ?_
  refine lv_aload_n hx hb dX0_point_1 rfl (lv_at hl 0 rfl) ?_
  refine va_get (D := D) (ci := 0) (v := .ref (a 4)) (C := RX0) (T := TX0) (N := 8) hx hb hts in_X0 hown hK hP 0 rfl rfl 5 (by decide) (hts _ q30) (fun _ h9 => h9) rfl dX0_point_2 ?_
  refine lv_iload_n hx hb dX0_point_5 rfl (lv_at hl 1 rfl) ?_
  refine nv_sald hx hb hK hP 4 3 rfl rfl (by omega) dX0_point_6 ?_
  refine nv_ndf hx hb dX0_point_7 dX0_point_8 dX0_point_9 ?_
  refine lv_istore_n (lv' := [(3, .int (nI (ndf n (σ.1 x)))), (0, .ref (a 0)), (1, .int (nI (x))), (2, .int (nI (n)))]) hx hb dX0_point_10 rfl hl (by decide) rfl (fun ls hl => ?_)
  refine lv_aload_n hx hb dX0_point_11 rfl (lv_at hl 1 rfl) ?_
  refine va_get (D := D) (ci := 0) (v := .ref (a 4)) (C := RX0) (T := TX0) (N := 8) hx hb hts in_X0 hown hK hP 0 rfl rfl 5 (by decide) (hts _ q30) (fun _ h9 => h9) rfl dX0_point_12 ?_
  refine lv_iload_n hx hb dX0_point_15 rfl (lv_at hl 2 rfl) ?_
  refine lv_aload_n hx hb dX0_point_16 rfl (lv_at hl 1 rfl) ?_
  refine va_get (D := D) (ci := 0) (v := .ref (a 4)) (C := RX0) (T := TX0) (N := 8) hx hb hts in_X0 hown hK hP 0 rfl rfl 5 (by decide) (hts _ q30) (fun _ h9 => h9) rfl dX0_point_17 ?_
  refine lv_iload_n hx hb dX0_point_20 rfl (lv_at hl 2 rfl) ?_
  refine nv_sald hx hb hK hP 4 3 rfl rfl (by omega) dX0_point_21 ?_
  refine lv_iload_n hx hb dX0_point_22 rfl (lv_at hl 0 rfl) ?_
  refine nv_ior hx hb dX0_point_23 ?_
  refine nv_i2s hx hb dX0_point_24 (z_or (hB.1 x h1) (z_ndf h2)) ?_
  refine nv_sast hx hb hK hP hD hS 4 3 rfl rfl (by omega) (z_or (hB.1 x h1) (z_ndf h2)) dX0_point_25 (fun H locs hP hD hS => ?_)
  have hP : va_P D vwCl (xW a d pr kn K X Y (va_up σ.1 x ((σ.1 x) ||| (ndf n (σ.1 x)))) σ.2.1 σ.2.2) H := hP
  have hD : va_D A (xW a d pr kn K X Y (va_up σ.1 x ((σ.1 x) ||| (ndf n (σ.1 x)))) σ.2.1 σ.2.2) := hD
  refine lv_aload_n hx hb dX0_point_26 rfl (lv_at hl 1 rfl) ?_
  refine va_get (D := D) (ci := 0) (v := .ref (a 5)) (C := RX0) (T := TX0) (N := 8) hx hb hts in_X0 hown hK hP 0 rfl rfl 6 (by decide) (hts _ q31) (fun _ h9 => h9) rfl dX0_point_27 ?_
  refine lv_iload_n hx hb dX0_point_30 rfl (lv_at hl 2 rfl) ?_
  refine lv_aload_n hx hb dX0_point_31 rfl (lv_at hl 1 rfl) ?_
  refine va_get (D := D) (ci := 0) (v := .ref (a 5)) (C := RX0) (T := TX0) (N := 8) hx hb hts in_X0 hown hK hP 0 rfl rfl 6 (by decide) (hts _ q31) (fun _ h9 => h9) rfl dX0_point_32 ?_
  refine lv_iload_n hx hb dX0_point_35 rfl (lv_at hl 2 rfl) ?_
  refine nv_sald hx hb hK hP 5 4 rfl rfl (by omega) dX0_point_36 ?_
  refine lv_iload_n hx hb dX0_point_37 rfl (lv_at hl 0 rfl) ?_
  refine nv_ior hx hb dX0_point_38 ?_
  refine nv_i2s hx hb dX0_point_39 (z_or (hB.2.1 x h1) (z_ndf h2)) ?_
  refine nv_sast hx hb hK hP hD hS 5 4 rfl rfl (by omega) (z_or (hB.2.1 x h1) (z_ndf h2)) dX0_point_40 (fun H locs hP hD hS => ?_)
  have hP : va_P D vwCl (xW a d pr kn K X Y (va_up σ.1 x ((σ.1 x) ||| (ndf n (σ.1 x)))) (va_up σ.2.1 x ((σ.2.1 x) ||| (ndf n (σ.1 x)))) σ.2.2) H := hP
  have hD : va_D A (xW a d pr kn K X Y (va_up σ.1 x ((σ.1 x) ||| (ndf n (σ.1 x)))) (va_up σ.2.1 x ((σ.2.1 x) ||| (ndf n (σ.1 x)))) σ.2.2) := hD
  exact rt_v hx hb hr hlk () trivial hK hP hD hS dX0_point_41
set_option maxHeartbeats 4000000 in
set_option maxRecDepth 100000 in
/-- link(f, t) -/
theorem mX0_link (l : Launch) (D : va_G) (a : Nat → Nat) (d : Nat → ClassId) (pr : Nat) (kn : Bool) (K X Y : Nat → Nat) (σ : Sg) (f t : Nat) (h1 : f < 8) (h2 : t < 8) (hB : zBn σ) : Kv l yX0_link cX0_link 3 1 23 D (xT d) (xW a d pr kn K X Y σ.1 σ.2.1 σ.2.2) [.ref (a 0), .int (nI f), .int (nI t)] (fun _ : Unit => True) (fun _ => xW a d pr kn K X Y (lkF σ f t).1 (lkF σ f t).2.1 (lkF σ f t).2.2) := by
  refine mk_v (by decide) (Nat.le_of_ble_eq_true rfl) ?_
  intro p e s m below meth c A hx hb hml hr hlk hown hts hA hK hP hD hS ls hl
  have hown : s.vm.findClass RX0 = some m.cls := hown
  have hl : lv_has ls 3 [(0, .ref (a 0)), (1, .int (nI (f))), (2, .int (nI (t)))] := hl
  refine lv_aload_n hx hb dX0_link_0 rfl (lv_at hl 0 rfl) ?_
  refine va_get (D := D) (ci := 0) (v := .ref (a 6)) (C := RX0) (T := TX0) (N := 8) hx hb hts in_X0 hown hK hP 0 rfl rfl 7 (by decide) (hts _ q32) (fun _ h9 => h9) rfl dX0_link_1 ?_
  refine lv_iload_n hx hb dX0_link_4 rfl (lv_at hl 1 rfl) ?_
  refine nv_sald hx hb hK hP 6 5 rfl rfl (by omega) dX0_link_5 ?_
  refine lv_iload_n hx hb dX0_link_6 rfl (lv_at hl 2 rfl) ?_
  refine cl_Si (n := 2) (As := [.int (nI (σ.2.2 f)), .int (nI (t))]) (rest := []) hx hb hml hown hts (mX0_in l D _ _ (σ.2.2 f) (t) (by have := hB.2.2 f h1; omega) (by omega)) (lw_S q94 q95 q15 q96) (by decide +kernel) rfl ⟨Nat.le_of_ble_eq_true rfl, Nat.le_of_ble_eq_true rfl⟩ ⟨Nat.le_refl _, Nat.le_refl _⟩ hK hP hD hS hA hl.1 rfl (Nat.le_of_ble_eq_true rfl) dX0_link_7 (fun r _ H locs hp hP hD hS => ?_)
  have hp : r = bI (Nat.testBit (σ.2.2 f) t) := hp
  subst hp
  refine nv_ifne (tgt := 41) hx hb dX0_link_10 (by decide) (fun c1 => ?_) (fun c1 => ?_)
  · have e1 : lkF σ f t = σ := by rw [lkF, if_pos c1]
    rw [e1]
    exact rt_v hx hb hr hlk () trivial hK hP hD hS dX0_link_41
  · have e1 : lkF σ f t = ptF (σ.1, σ.2.1, va_up σ.2.2 f (σ.2.2 f ||| 2 ^ t)) t (σ.1 f) := by rw [lkF, if_neg (by rw [c1]; decide)]
    rw [e1]
    refine lv_aload_n hx hb dX0_link_13 rfl (lv_at hl 0 rfl) ?_
    refine va_get (D := D) (ci := 0) (v := .ref (a 6)) (C := RX0) (T := TX0) (N := 8) hx hb hts in_X0 hown hK hP 0 rfl rfl 7 (by decide) (hts _ q32) (fun _ h9 => h9) rfl dX0_link_14 ?_
    refine lv_iload_n hx hb dX0_link_17 rfl (lv_at hl 1 rfl) ?_
    refine lv_aload_n hx hb dX0_link_18 rfl (lv_at hl 0 rfl) ?_
    refine va_get (D := D) (ci := 0) (v := .ref (a 6)) (C := RX0) (T := TX0) (N := 8) hx hb hts in_X0 hown hK hP 0 rfl rfl 7 (by decide) (hts _ q32) (fun _ h9 => h9) rfl dX0_link_19 ?_
    refine lv_iload_n hx hb dX0_link_22 rfl (lv_at hl 1 rfl) ?_
    refine nv_sald hx hb hK hP 6 5 rfl rfl (by omega) dX0_link_23 ?_
    refine lv_iconst (v := nI 1) hx hb dX0_link_24 (by decide) ?_
    refine lv_iload_n hx hb dX0_link_25 rfl (lv_at hl 2 rfl) ?_
    refine nv_shl hx hb dX0_link_26 (by omega) ?_
    refine nv_ior hx hb dX0_link_27 ?_
    refine nv_i2s hx hb dX0_link_28 (z_or (hB.2.2 f h1) (z_2p h2)) ?_
    refine nv_sast hx hb hK hP hD hS 6 5 rfl rfl (by omega) (z_or (hB.2.2 f h1) (z_2p h2)) dX0_link_29 (fun H locs hP hD hS => ?_)
    have hP : va_P D vwCl (xW a d pr kn K X Y σ.1 σ.2.1 (va_up σ.2.2 f ((σ.2.2 f) ||| (2 ^ t)))) H := hP
    have hD : va_D A (xW a d pr kn K X Y σ.1 σ.2.1 (va_up σ.2.2 f ((σ.2.2 f) ||| (2 ^ t)))) := hD
    refine lv_aload_n hx hb dX0_link_30 rfl (lv_at hl 0 rfl) ?_
    refine lv_iload_n hx hb dX0_link_31 rfl (lv_at hl 2 rfl) ?_
    refine lv_aload_n hx hb dX0_link_32 rfl (lv_at hl 0 rfl) ?_
    refine va_get (D := D) (ci := 0) (v := .ref (a 4)) (C := RX0) (T := TX0) (N := 8) hx hb hts in_X0 hown hK hP 0 rfl rfl 5 (by decide) (hts _ q30) (fun _ h9 => h9) rfl dX0_link_33 ?_
    refine lv_iload_n hx hb dX0_link_36 rfl (lv_at hl 1 rfl) ?_
    refine nv_sald hx hb hK hP 4 3 rfl rfl (by omega) dX0_link_37 ?_
    refine cl_Vv (n := 2) (As := [.int (nI (t)), .int (nI (σ.1 f))]) (rest := []) (ci := 0) (q0 := 0) hx hb hml hown hts (mX0_point l D a d pr kn K X Y (σ.1, σ.2.1, va_up σ.2.2 f (σ.2.2 f ||| 2 ^ t)) t (σ.1 f) h2 (hB.1 f h1) ⟨hB.1, hB.2.1, zB8_up hB.2.2 (z_or (hB.2.2 f h1) (z_2p h2))⟩) (lw_V q86 q88 qs3 q15 q89) (by decide +kernel) rfl ⟨Nat.le_of_ble_eq_true rfl, Nat.le_of_ble_eq_true rfl⟩ ⟨Nat.le_refl _, Nat.le_refl _⟩ hK hP hD hS hA rfl rfl hl.1 rfl (Nat.le_of_ble_eq_true rfl) dX0_link_38 (fun _ H locs hp hP hD hS => ?_)
    exact rt_v hx hb hr hlk () trivial hK hP hD hS dX0_link_41
section FO
variable {xk yk n z : Nat} {σ : Sg}
theorem fo_0 {ld st : Bool} (c : n.testBit z = false) : foF ld st xk yk n σ (z + 1) = foF ld st xk yk n σ z := by rw [foF, if_neg (by rw [c]; decide)]
theorem fo_00 (c : n.testBit z = true) : foF false false xk yk n σ (z + 1) = foF false false xk yk n σ z := by rw [foF, if_pos c, if_neg (by decide), if_neg (by decide)]
theorem fo_10 (c : n.testBit z = true) : foF true false xk yk n σ (z + 1) = lkF (foF true false xk yk n σ z) z xk := by rw [foF, if_pos c, if_neg (by decide), if_pos rfl]
theorem fo_01 (c : n.testBit z = true) : foF false true xk yk n σ (z + 1) = lkF (foF false true xk yk n σ z) yk z := by rw [foF, if_pos c, if_pos rfl, if_neg (by decide)]
theorem fo_11 (c : n.testBit z = true) : foF true true xk yk n σ (z + 1) = lkF (lkF (foF true true xk yk n σ z) z xk) yk z := by rw [foF, if_pos c, if_pos rfl, if_pos rfl]
end FO
set_option maxHeartbeats 4000000 in
set_option maxRecDepth 100000 in
/-- follow(k, v, n) -/
theorem mX0_follow (l : Launch) (D : va_G) (a : Nat → Nat) (d : Nat → ClassId) (pr : Nat) (kn : Bool) (K X Y : Nat → Nat) (σ : Sg) (k v n : Nat) (h1 : k < 13) (h2 : v < 8) (h3 : n < 256) (hW : zWF K X Y) (hB : zBn σ) : Kv l yX0_follow cX0_follow 7 2 45 D (xT d) (xW a d pr kn K X Y σ.1 σ.2.1 σ.2.2) [.ref (a 0), .int (nI k), .int (nI v), .int (nI n)] (fun _ : Unit => True) (fun _ => xW a d pr kn K X Y (flF K X Y k v n σ).1 (flF K X Y k v n σ).2.1 (flF K X Y k v n σ).2.2) := by
  refine mk_v (by decide) (Nat.le_of_ble_eq_true rfl) ?_
  intro p e s m below meth c A hx hb hml hr hlk hown hts hA hK hP hD hS ls hl
  have hown : s.vm.findClass RX0 = some m.cls := hown
  have hl : lv_has ls 7 [(0, .ref (a 0)), (1, .int (nI (k))), (2, .int (nI (v))), (3, .int (nI (n)))] := hl
  obtain ⟨w1, w2, w3⟩ := hW k h1
  obtain ⟨ld, hld⟩ : ∃ q : Bool, q = (decide (K k = 2) && decide (Y k = v)) := ⟨_, rfl⟩
  obtain ⟨sd, hsd⟩ : ∃ q : Bool, q = (decide (K k = 3) && decide (X k = v)) := ⟨_, rfl⟩
  refine w_mg (pc2 := 25) (ls := ls) [.int (bI (ld))] ?_ (fun hm => ?_)
  · refine lv_istore (lv' := [(4, .int (bI (ld))), (0, .ref (a 0)), (1, .int (nI (k))), (2, .int (nI (v))), (3, .int (nI (n)))]) hx hb dX0_follow_25 hl (by decide) rfl (fun ls hl => ?_)
    refine w_mg (pc2 := 52) (ls := ls) [.int (bI (sd))] ?_ (fun hm => ?_)
    · refine lv_istore (lv' := [(5, .int (bI (sd))), (4, .int (bI (ld))), (0, .ref (a 0)), (1, .int (nI (k))), (2, .int (nI (v))), (3, .int (nI (n)))]) hx hb dX0_follow_52 hl (by decide) rfl (fun ls hl => ?_)
      refine lv_iconst (v := nI 0) hx hb dX0_follow_54 (by decide) ?_
      refine lv_istore (lv' := [(6, .int (nI (0))), (5, .int (bI (sd))), (4, .int (bI (ld))), (0, .ref (a 0)), (1, .int (nI (k))), (2, .int (nI (v))), (3, .int (nI (n)))]) hx hb dX0_follow_55 hl (by decide) rfl (fun ls hl => ?_)
      refine wl_up (pc := 57) 8 (fun z H locs ls => ∃ (τ : Sg), (τ = foF ld sd (X k) (Y k) n σ z) ∧ va_P D vwCl (xW a d pr kn K X Y τ.1 τ.2.1 τ.2.2) H ∧ va_D A (xW a d pr kn K X Y τ.1 τ.2.1 τ.2.2) ∧ va_S A s.heap H locs ∧ lv_has ls 7 [(0, .ref (a 0)), (1, .int (nI (k))), (2, .int (nI (v))), (3, .int (nI (n))), (4, .int (bI (ld))), (5, .int (bI (sd))), (6, .int (nI (z)))]) ?_ ?_ 0 (by omega) _ _ _ ⟨σ, rfl, hP, hD, hS, lv_sub hl [3, 4, 5, 6, 2, 1, 0] rfl⟩
      · intro z hk H locs ls hI ih
        obtain ⟨τ, e1, hP, hD, hS, hl⟩ := hI
        have hBt : zBn τ := by rw [e1]; exact Bn_fo hB w2 w3 (by omega)
        refine lv_iload hx hb dX0_follow_57 (lv_at hl 6 rfl) ?_
        refine lv_bipush (v := nI 8) hx hb dX0_follow_59 (by decide) ?_
        refine nv_icmp_ge (tgt := 122) hx hb dX0_follow_61 (by decide) (fun c0 => ?_) (fun c0 => ?_)
        · exfalso; omega
        · refine lv_iload_n hx hb dX0_follow_64 rfl (lv_at hl 3 rfl) ?_
          refine lv_iload hx hb dX0_follow_65 (lv_at hl 6 rfl) ?_
          refine cl_Si (n := 2) (As := [.int (nI (n)), .int (nI (z))]) (rest := []) hx hb hml hown hts (mX0_in l D _ _ (n) (z) (by omega) (by omega)) (lw_S q94 q95 q15 q96) (by decide +kernel) rfl ⟨Nat.le_of_ble_eq_true rfl, Nat.le_of_ble_eq_true rfl⟩ ⟨Nat.le_refl _, Nat.le_refl _⟩ hK hP hD hS hA hl.1 rfl (Nat.le_of_ble_eq_true rfl) dX0_follow_67 (fun r _ H locs hp hP hD hS => ?_)
          have hp : r = bI (Nat.testBit n z) := hp
          subst hp
          refine nv_ifeq (tgt := 90) hx hb dX0_follow_70 (by decide) (fun c1 => ?_) (fun c1 => ?_)
          · refine lv_iload_n hx hb dX0_follow_90 rfl (lv_at hl 3 rfl) ?_
            refine lv_iload hx hb dX0_follow_91 (lv_at hl 6 rfl) ?_
            refine cl_Si (n := 2) (As := [.int (nI (n)), .int (nI (z))]) (rest := []) hx hb hml hown hts (mX0_in l D _ _ (n) (z) (by omega) (by omega)) (lw_S q94 q95 q15 q96) (by decide +kernel) rfl ⟨Nat.le_of_ble_eq_true rfl, Nat.le_of_ble_eq_true rfl⟩ ⟨Nat.le_refl _, Nat.le_refl _⟩ hK hP hD hS hA hl.1 rfl (Nat.le_of_ble_eq_true rfl) dX0_follow_93 (fun r _ H locs hp hP hD hS => ?_)
            have hp : r = bI (Nat.testBit n z) := hp
            subst hp
            refine nv_ifeq (tgt := 116) hx hb dX0_follow_96 (by decide) (fun c2 => ?_) (fun c2 => ?_)
            · refine lv_iinc (v := nI (z + 1)) (lv' := [(6, .int (nI (z + 1))), (0, .ref (a 0)), (1, .int (nI (k))), (2, .int (nI (v))), (3, .int (nI (n))), (4, .int (bI (ld))), (5, .int (bI (sd)))]) hx hb dX0_follow_116 hl (k := 6) rfl (by exact nI_1 _) (by decide) rfl (fun ls hl => ?_)
              refine lv_goto (tgt := 57) hx hb dX0_follow_119 (by decide) ?_
              exact ih _ _ _ ⟨τ, (by rw [fo_0 c1]; exact e1), hP, hD, hS, lv_sub hl [1, 2, 3, 4, 5, 6, 0] rfl⟩
            · exact absurd c2 (by rw [c1]; decide)
          · refine lv_iload hx hb dX0_follow_73 (lv_at hl 4 rfl) ?_
            refine nv_ifeq (tgt := 90) hx hb dX0_follow_75 (by decide) (fun c3 => ?_) (fun c3 => ?_)
            · refine lv_iload_n hx hb dX0_follow_90 rfl (lv_at hl 3 rfl) ?_
              refine lv_iload hx hb dX0_follow_91 (lv_at hl 6 rfl) ?_
              refine cl_Si (n := 2) (As := [.int (nI (n)), .int (nI (z))]) (rest := []) hx hb hml hown hts (mX0_in l D _ _ (n) (z) (by omega) (by omega)) (lw_S q94 q95 q15 q96) (by decide +kernel) rfl ⟨Nat.le_of_ble_eq_true rfl, Nat.le_of_ble_eq_true rfl⟩ ⟨Nat.le_refl _, Nat.le_refl _⟩ hK hP hD hS hA hl.1 rfl (Nat.le_of_ble_eq_true rfl) dX0_follow_93 (fun r _ H locs hp hP hD hS => ?_)
              have hp : r = bI (Nat.testBit n z) := hp
              subst hp
              refine nv_ifeq (tgt := 116) hx hb dX0_follow_96 (by decide) (fun c2 => ?_) (fun c2 => ?_)
              · exact absurd c2 (by rw [c1]; decide)
              · refine lv_iload hx hb dX0_follow_99 (lv_at hl 5 rfl) ?_
                refine nv_ifeq (tgt := 116) hx hb dX0_follow_101 (by decide) (fun c4 => ?_) (fun c4 => ?_)
                · refine lv_iinc (v := nI (z + 1)) (lv' := [(6, .int (nI (z + 1))), (0, .ref (a 0)), (1, .int (nI (k))), (2, .int (nI (v))), (3, .int (nI (n))), (4, .int (bI (ld))), (5, .int (bI (sd)))]) hx hb dX0_follow_116 hl (k := 6) rfl (by exact nI_1 _) (by decide) rfl (fun ls hl => ?_)
                  refine lv_goto (tgt := 57) hx hb dX0_follow_119 (by decide) ?_
                  subst c3
                  subst c4
                  exact ih _ _ _ ⟨τ, (by rw [fo_00 c1, e1]), hP, hD, hS, lv_sub hl [1, 2, 3, 4, 5, 6, 0] rfl⟩
                · refine lv_aload_n hx hb dX0_follow_104 rfl (lv_at hl 0 rfl) ?_
                  refine lv_aload_n hx hb dX0_follow_105 rfl (lv_at hl 0 rfl) ?_
                  refine va_get (D := D) (ci := 0) (v := .ref (a 3)) (C := RX0) (T := TX0) (N := 8) hx hb hts in_X0 hown hK hP 0 rfl rfl 3 (by decide) (hts _ q28) (fun _ h9 => h9) rfl dX0_follow_106 ?_
                  refine lv_iload_n hx hb dX0_follow_109 rfl (lv_at hl 1 rfl) ?_
                  refine nv_bald hx hb hK hP 3 2 rfl rfl (by omega) dX0_follow_110 ?_
                  refine lv_iload hx hb dX0_follow_111 (lv_at hl 6 rfl) ?_
                  refine cl_Vv (n := 2) (As := [.int (nI (Y k)), .int (nI (z))]) (rest := []) (ci := 0) (q0 := 0) hx hb hml hown hts (mX0_link l D a d pr kn K X Y τ (Y k) z w3 (by omega) hBt) (lw_V q90 q92 qs4 q15 q93) (by decide +kernel) rfl ⟨Nat.le_of_ble_eq_true rfl, Nat.le_of_ble_eq_true rfl⟩ ⟨Nat.le_refl _, Nat.le_refl _⟩ hK hP hD hS hA rfl rfl hl.1 rfl (Nat.le_of_ble_eq_true rfl) dX0_follow_113 (fun _ H locs hp hP hD hS => ?_)
                  have hP : va_P D vwCl (xW a d pr kn K X Y ((lkF τ (Y k) z).1) ((lkF τ (Y k) z).2.1) ((lkF τ (Y k) z).2.2)) H := hP
                  have hD : va_D A (xW a d pr kn K X Y ((lkF τ (Y k) z).1) ((lkF τ (Y k) z).2.1) ((lkF τ (Y k) z).2.2)) := hD
                  refine lv_iinc (v := nI (z + 1)) (lv' := [(6, .int (nI (z + 1))), (0, .ref (a 0)), (1, .int (nI (k))), (2, .int (nI (v))), (3, .int (nI (n))), (4, .int (bI (ld))), (5, .int (bI (sd)))]) hx hb dX0_follow_116 hl (k := 6) rfl (by exact nI_1 _) (by decide) rfl (fun ls hl => ?_)
                  refine lv_goto (tgt := 57) hx hb dX0_follow_119 (by decide) ?_
                  subst c3
                  subst c4
                  exact ih _ _ _ ⟨(lkF τ (Y k) z), (by rw [fo_01 c1, e1]), hP, hD, hS, lv_sub hl [1, 2, 3, 4, 5, 6, 0] rfl⟩
            · refine lv_aload_n hx hb dX0_follow_78 rfl (lv_at hl 0 rfl) ?_
              refine lv_iload hx hb dX0_follow_79 (lv_at hl 6 rfl) ?_
              refine lv_aload_n hx hb dX0_follow_81 rfl (lv_at hl 0 rfl) ?_
              refine va_get (D := D) (ci := 0) (v := .ref (a 2)) (C := RX0) (T := TX0) (N := 8) hx hb hts in_X0 hown hK hP 0 rfl rfl 2 (by decide) (hts _ q27) (fun _ h9 => h9) rfl dX0_follow_82 ?_
              refine lv_iload_n hx hb dX0_follow_85 rfl (lv_at hl 1 rfl) ?_
              refine nv_bald hx hb hK hP 2 1 rfl rfl (by omega) dX0_follow_86 ?_
              refine cl_Vv (n := 2) (As := [.int (nI (z)), .int (nI (X k))]) (rest := []) (ci := 0) (q0 := 0) hx hb hml hown hts (mX0_link l D a d pr kn K X Y τ z (X k) (by omega) w2 hBt) (lw_V q90 q92 qs4 q15 q93) (by decide +kernel) rfl ⟨Nat.le_of_ble_eq_true rfl, Nat.le_of_ble_eq_true rfl⟩ ⟨Nat.le_refl _, Nat.le_refl _⟩ hK hP hD hS hA rfl rfl hl.1 rfl (Nat.le_of_ble_eq_true rfl) dX0_follow_87 (fun _ H locs hp hP hD hS => ?_)
              have hP : va_P D vwCl (xW a d pr kn K X Y ((lkF τ z (X k)).1) ((lkF τ z (X k)).2.1) ((lkF τ z (X k)).2.2)) H := hP
              have hD : va_D A (xW a d pr kn K X Y ((lkF τ z (X k)).1) ((lkF τ z (X k)).2.1) ((lkF τ z (X k)).2.2)) := hD
              refine lv_iload_n hx hb dX0_follow_90 rfl (lv_at hl 3 rfl) ?_
              refine lv_iload hx hb dX0_follow_91 (lv_at hl 6 rfl) ?_
              refine cl_Si (n := 2) (As := [.int (nI (n)), .int (nI (z))]) (rest := []) hx hb hml hown hts (mX0_in l D _ _ (n) (z) (by omega) (by omega)) (lw_S q94 q95 q15 q96) (by decide +kernel) rfl ⟨Nat.le_of_ble_eq_true rfl, Nat.le_of_ble_eq_true rfl⟩ ⟨Nat.le_refl _, Nat.le_refl _⟩ hK hP hD hS hA hl.1 rfl (Nat.le_of_ble_eq_true rfl) dX0_follow_93 (fun r _ H locs hp hP hD hS => ?_)
              have hp : r = bI (Nat.testBit n z) := hp
              subst hp
              refine nv_ifeq (tgt := 116) hx hb dX0_follow_96 (by decide) (fun c2 => ?_) (fun c2 => ?_)
              · exact absurd c2 (by rw [c1]; decide)
              · refine lv_iload hx hb dX0_follow_99 (lv_at hl 5 rfl) ?_
                refine nv_ifeq (tgt := 116) hx hb dX0_follow_101 (by decide) (fun c4 => ?_) (fun c4 => ?_)
                · refine lv_iinc (v := nI (z + 1)) (lv' := [(6, .int (nI (z + 1))), (0, .ref (a 0)), (1, .int (nI (k))), (2, .int (nI (v))), (3, .int (nI (n))), (4, .int (bI (ld))), (5, .int (bI (sd)))]) hx hb dX0_follow_116 hl (k := 6) rfl (by exact nI_1 _) (by decide) rfl (fun ls hl => ?_)
                  refine lv_goto (tgt := 57) hx hb dX0_follow_119 (by decide) ?_
                  subst c3
                  subst c4
                  exact ih _ _ _ ⟨(lkF τ z (X k)), (by rw [fo_10 c1, e1]), hP, hD, hS, lv_sub hl [1, 2, 3, 4, 5, 6, 0] rfl⟩
                · refine lv_aload_n hx hb dX0_follow_104 rfl (lv_at hl 0 rfl) ?_
                  refine lv_aload_n hx hb dX0_follow_105 rfl (lv_at hl 0 rfl) ?_
                  refine va_get (D := D) (ci := 0) (v := .ref (a 3)) (C := RX0) (T := TX0) (N := 8) hx hb hts in_X0 hown hK hP 0 rfl rfl 3 (by decide) (hts _ q28) (fun _ h9 => h9) rfl dX0_follow_106 ?_
                  refine lv_iload_n hx hb dX0_follow_109 rfl (lv_at hl 1 rfl) ?_
                  refine nv_bald hx hb hK hP 3 2 rfl rfl (by omega) dX0_follow_110 ?_
                  refine lv_iload hx hb dX0_follow_111 (lv_at hl 6 rfl) ?_
                  refine cl_Vv (n := 2) (As := [.int (nI (Y k)), .int (nI (z))]) (rest := []) (ci := 0) (q0 := 0) hx hb hml hown hts (mX0_link l D a d pr kn K X Y (lkF τ z (X k)) (Y k) z w3 (by omega) (Bn_lk hBt (by omega) w2)) (lw_V q90 q92 qs4 q15 q93) (by decide +kernel) rfl ⟨Nat.le_of_ble_eq_true rfl, Nat.le_of_ble_eq_true rfl⟩ ⟨Nat.le_refl _, Nat.le_refl _⟩ hK hP hD hS hA rfl rfl hl.1 rfl (Nat.le_of_ble_eq_true rfl) dX0_follow_113 (fun _ H locs hp hP hD hS => ?_)
                  have hP : va_P D vwCl (xW a d pr kn K X Y ((lkF (lkF τ z (X k)) (Y k) z).1) ((lkF (lkF τ z (X k)) (Y k) z).2.1) ((lkF (lkF τ z (X k)) (Y k) z).2.2)) H := hP
                  have hD : va_D A (xW a d pr kn K X Y ((lkF (lkF τ z (X k)) (Y k) z).1) ((lkF (lkF τ z (X k)) (Y k) z).2.1) ((lkF (lkF τ z (X k)) (Y k) z).2.2)) := hD
                  refine lv_iinc (v := nI (z + 1)) (lv' := [(6, .int (nI (z + 1))), (0, .ref (a 0)), (1, .int (nI (k))), (2, .int (nI (v))), (3, .int (nI (n))), (4, .int (bI (ld))), (5, .int (bI (sd)))]) hx hb dX0_follow_116 hl (k := 6) rfl (by exact nI_1 _) (by decide) rfl (fun ls hl => ?_)
                  refine lv_goto (tgt := 57) hx hb dX0_follow_119 (by decide) ?_
                  subst c3
                  subst c4
                  exact ih _ _ _ ⟨(lkF (lkF τ z (X k)) (Y k) z), (by rw [fo_11 c1, e1]), hP, hD, hS, lv_sub hl [1, 2, 3, 4, 5, 6, 0] rfl⟩
      · intro H locs ls hI
        obtain ⟨τ, e1, hP, hD, hS, hl⟩ := hI
        refine lv_iload hx hb dX0_follow_57 (lv_at hl 6 rfl) ?_
        refine lv_bipush (v := nI 8) hx hb dX0_follow_59 (by decide) ?_
        refine nv_icmp_ge (tgt := 122) hx hb dX0_follow_61 (by decide) (fun c0 => ?_) (fun c0 => ?_)
        · have e2 : flF K X Y k v n σ = τ := by rw [flF, e1, hld, hsd]
          rw [e2]
          exact rt_v hx hb hr hlk () trivial hK hP hD hS dX0_follow_122
        · exfalso; omega
    · refine lv_aload_n hx hb dX0_follow_27 rfl (lv_at hl 1 rfl) ?_
      refine va_get (D := D) (ci := 0) (v := .ref (a 1)) (C := RX0) (T := TX0) (N := 8) hx hb hts in_X0 hown hK hP 0 rfl rfl 1 (by decide) (hts _ q26) (fun _ h9 => h9) rfl dX0_follow_28 ?_
      refine lv_iload_n hx hb dX0_follow_31 rfl (lv_at hl 2 rfl) ?_
      refine nv_bald hx hb hK hP 1 0 rfl rfl (by omega) dX0_follow_32 ?_
      refine lv_iconst (v := nI 3) hx hb dX0_follow_33 (by decide) ?_
      refine nv_icmp_ne (tgt := 51) hx hb dX0_follow_34 (by decide) (fun c1 => ?_) (fun c1 => ?_)
      · refine lv_iconst (v := bI false) hx hb dX0_follow_51 (by decide) ?_
        have q9 : sd = false := by rw [hsd, decide_eq_false c1, Bool.false_and]
        rw [q9] at hm
        exact hm
      · refine lv_aload_n hx hb dX0_follow_37 rfl (lv_at hl 1 rfl) ?_
        refine va_get (D := D) (ci := 0) (v := .ref (a 2)) (C := RX0) (T := TX0) (N := 8) hx hb hts in_X0 hown hK hP 0 rfl rfl 2 (by decide) (hts _ q27) (fun _ h9 => h9) rfl dX0_follow_38 ?_
        refine lv_iload_n hx hb dX0_follow_41 rfl (lv_at hl 2 rfl) ?_
        refine nv_bald hx hb hK hP 2 1 rfl rfl (by omega) dX0_follow_42 ?_
        refine lv_iload_n hx hb dX0_follow_43 rfl (lv_at hl 3 rfl) ?_
        refine nv_icmp_ne (tgt := 51) hx hb dX0_follow_44 (by decide) (fun c2 => ?_) (fun c2 => ?_)
        · refine lv_iconst (v := bI false) hx hb dX0_follow_51 (by decide) ?_
          have q9 : sd = false := by rw [hsd, decide_eq_false c2, Bool.and_false]
          rw [q9] at hm
          exact hm
        · refine lv_iconst (v := bI true) hx hb dX0_follow_47 (by decide) ?_
          refine lv_goto (tgt := 52) hx hb dX0_follow_48 (by decide) ?_
          have q9 : sd = true := by rw [hsd, decide_eq_true c1, decide_eq_true c2]; rfl
          rw [q9] at hm
          exact hm
  · refine lv_aload_n hx hb dX0_follow_0 rfl (lv_at hl 0 rfl) ?_
    refine va_get (D := D) (ci := 0) (v := .ref (a 1)) (C := RX0) (T := TX0) (N := 8) hx hb hts in_X0 hown hK hP 0 rfl rfl 1 (by decide) (hts _ q26) (fun _ h9 => h9) rfl dX0_follow_1 ?_
    refine lv_iload_n hx hb dX0_follow_4 rfl (lv_at hl 1 rfl) ?_
    refine nv_bald hx hb hK hP 1 0 rfl rfl (by omega) dX0_follow_5 ?_
    refine lv_iconst (v := nI 2) hx hb dX0_follow_6 (by decide) ?_
    refine nv_icmp_ne (tgt := 24) hx hb dX0_follow_7 (by decide) (fun c1 => ?_) (fun c1 => ?_)
    · refine lv_iconst (v := bI false) hx hb dX0_follow_24 (by decide) ?_
      have q9 : ld = false := by rw [hld, decide_eq_false c1, Bool.false_and]
      rw [q9] at hm
      exact hm
    · refine lv_aload_n hx hb dX0_follow_10 rfl (lv_at hl 0 rfl) ?_
      refine va_get (D := D) (ci := 0) (v := .ref (a 3)) (C := RX0) (T := TX0) (N := 8) hx hb hts in_X0 hown hK hP 0 rfl rfl 3 (by decide) (hts _ q28) (fun _ h9 => h9) rfl dX0_follow_11 ?_
      refine lv_iload_n hx hb dX0_follow_14 rfl (lv_at hl 1 rfl) ?_
      refine nv_bald hx hb hK hP 3 2 rfl rfl (by omega) dX0_follow_15 ?_
      refine lv_iload_n hx hb dX0_follow_16 rfl (lv_at hl 2 rfl) ?_
      refine nv_icmp_ne (tgt := 24) hx hb dX0_follow_17 (by decide) (fun c2 => ?_) (fun c2 => ?_)
      · refine lv_iconst (v := bI false) hx hb dX0_follow_24 (by decide) ?_
        have q9 : ld = false := by rw [hld, decide_eq_false c2, Bool.and_false]
        rw [q9] at hm
        exact hm
      · refine lv_iconst (v := bI true) hx hb dX0_follow_20 (by decide) ?_
        refine lv_goto (tgt := 25) hx hb dX0_follow_21 (by decide) ?_
        have q9 : ld = true := by rw [hld, decide_eq_true c1, decide_eq_true c2]; rfl
        rw [q9] at hm
        exact hm
set_option maxHeartbeats 4000000 in
set_option maxRecDepth 100000 in
/-- waiting() -/
theorem mX0_waiting (l : Launch) (D : va_G) (a : Nat → Nat) (d : Nat → ClassId) (pr : Nat) (kn : Bool) (K X Y P F L : Nat → Nat) (hB : zB8 F) : Ki l yX0_waiting cX0_waiting 2 (some .int) 0 0 D (xT d) (xW a d pr kn K X Y P F L) [.ref (a 0)] (fun r (_ : Unit) => (r = -1 ∧ ∀ x, x < 8 → F x = 0) ∨ ∃ x, x < 8 ∧ r = nI x ∧ F x ≠ 0) (fun _ => xW a d pr kn K X Y P F L) := by
  refine mk_i (by decide) (Nat.le_of_ble_eq_true rfl) ?_
  intro p e s m below meth c A hx hb hml hr hlk hown hts hA hK hP hD hS ls hl
  have hown : s.vm.findClass RX0 = some m.cls := hown
  have hl : lv_has ls 2 [(0, .ref (a 0))] := hl
  refine lv_iconst (v := nI 0) hx hb dX0_waiting_0 (by decide) ?_
  refine lv_istore_n (lv' := [(1, .int (nI (0))), (0, .ref (a 0))]) hx hb dX0_waiting_1 rfl hl (by decide) rfl (fun ls hl => ?_)
  refine wl_up (pc := 2) 8 (fun x H locs ls => (∀ j, j < x → F j = 0) ∧ va_P D vwCl (xW a d pr kn K X Y P F L) H ∧ va_D A (xW a d pr kn K X Y P F L) ∧ va_S A s.heap H locs ∧ lv_has ls 2 [(0, .ref (a 0)), (1, .int (nI (x)))]) ?_ ?_ 0 (by omega) _ _ _ ⟨(fun j h => absurd h (Nat.not_lt_zero j)), hP, hD, hS, lv_sub hl [1, 0] rfl⟩
  · intro x hk H locs ls hI ih
    obtain ⟨hj, hP, hD, hS, hl⟩ := hI
    refine lv_iload_n hx hb dX0_waiting_2 rfl (lv_at hl 1 rfl) ?_
    refine lv_bipush (v := nI 8) hx hb dX0_waiting_3 (by decide) ?_
    refine nv_icmp_ge (tgt := 25) hx hb dX0_waiting_5 (by decide) (fun c0 => ?_) (fun c0 => ?_)
    · exfalso; omega
    · refine lv_aload_n hx hb dX0_waiting_8 rfl (lv_at hl 0 rfl) ?_
      refine va_get (D := D) (ci := 0) (v := .ref (a 5)) (C := RX0) (T := TX0) (N := 8) hx hb hts in_X0 hown hK hP 0 rfl rfl 6 (by decide) (hts _ q31) (fun _ h9 => h9) rfl dX0_waiting_9 ?_
      refine lv_iload_n hx hb dX0_waiting_12 rfl (lv_at hl 1 rfl) ?_
      refine nv_sald hx hb hK hP 5 4 rfl rfl (by omega) dX0_waiting_13 ?_
      refine nv_ifeqn (tgt := 19) hx hb dX0_waiting_14 (by decide) (fun c1 => ?_) (fun c1 => ?_) (by have := hB x (by omega); omega)
      · refine lv_iinc (v := nI (x + 1)) (lv' := [(1, .int (nI (x + 1))), (0, .ref (a 0))]) hx hb dX0_waiting_19 hl (k := 1) rfl (by exact nI_1 _) (by decide) rfl (fun ls hl => ?_)
        refine lv_goto (tgt := 2) hx hb dX0_waiting_22 (by decide) ?_
        exact ih _ _ _ ⟨(lt_s hj c1), hP, hD, hS, lv_sub hl [1, 0] rfl⟩
      · refine lv_iload_n hx hb dX0_waiting_17 rfl (lv_at hl 1 rfl) ?_
        exact rt_i (v := nI (x)) hx hb hr hlk () (Or.inr ⟨x, hk, rfl, c1⟩) hK hP hD hS dX0_waiting_18
  · intro H locs ls hI
    obtain ⟨hj, hP, hD, hS, hl⟩ := hI
    refine lv_iload_n hx hb dX0_waiting_2 rfl (lv_at hl 1 rfl) ?_
    refine lv_bipush (v := nI 8) hx hb dX0_waiting_3 (by decide) ?_
    refine nv_icmp_ge (tgt := 25) hx hb dX0_waiting_5 (by decide) (fun c0 => ?_) (fun c0 => ?_)
    · refine lv_iconst (v := -1) hx hb dX0_waiting_25 (by decide) ?_
      exact rt_i (v := -1) hx hb hr hlk () (Or.inl ⟨rfl, hj⟩) hK hP hD hS dX0_waiting_26
    · exfalso; omega
section PN
variable {T : Nat → Bool} {K X Y : Nat → Nat} {v n k : Nat} {σ : Sg}
theorem p1_f (c : T k = false) : p1F T K X Y v n σ (k + 1) = p1F T K X Y v n σ k := by rw [p1F, if_neg (by rw [c]; decide)]
theorem p1_t (c : T k = true) : p1F T K X Y v n σ (k + 1) = flF K X Y k v n (p1F T K X Y v n σ k) := by rw [p1F, if_pos c]
theorem p2_f {τ : Sg} (e : τ = p2F v n σ k) (c : (τ.2.2 v).testBit k = false) : τ = p2F v n σ (k + 1) := by rw [p2F, ← e, if_neg (by rw [c]; decide)]
theorem p2_t {τ : Sg} (e : τ = p2F v n σ k) (c : (τ.2.2 v).testBit k = true) : ptF τ k n = p2F v n σ (k + 1) := by rw [p2F, ← e, if_pos c]
theorem in_f (c : T k = false) : inF T K X Y σ (k + 1) = inF T K X Y σ k := by rw [inF, if_neg (by rw [c]; decide)]
theorem in_0 (c : T k = true) (c2 : K k = 0) : inF T K X Y σ (k + 1) = ptF (inF T K X Y σ k) (X k) (2 ^ Y k) := by rw [inF, if_pos c, if_pos c2]
theorem in_1 (c : T k = true) (c2 : K k ≠ 0) (c3 : K k = 1) : inF T K X Y σ (k + 1) = lkF (inF T K X Y σ k) (Y k) (X k) := by rw [inF, if_pos c, if_neg c2, if_pos c3]
theorem in_2 (c : T k = true) (c2 : K k ≠ 0) (c3 : K k ≠ 1) : inF T K X Y σ (k + 1) = inF T K X Y σ k := by rw [inF, if_pos c, if_neg c2, if_neg c3]
theorem z0_up {x : Nat} (h : ∀ j, j < x → σ.1 j = 0 ∧ σ.2.1 j = 0 ∧ σ.2.2 j = 0) : ∀ j, j < x + 1 → va_up σ.1 x 0 j = 0 ∧ va_up σ.2.1 x 0 j = 0 ∧ va_up σ.2.2 x 0 j = 0 := by
  intro j hj
  rcases Classical.em (j = x) with e | e
  · subst e
    rw [va_up_self, va_up_self, va_up_self]
    exact ⟨rfl, rfl, rfl⟩
  · rw [va_up_ne _ _ e, va_up_ne _ _ e, va_up_ne _ _ e]
    exact h j (by omega)
theorem z0_Bn (h : ∀ j, j < 8 → σ.1 j = 0 ∧ σ.2.1 j = 0 ∧ σ.2.2 j = 0) : zBn σ := ⟨fun x hx => by rw [(h x hx).1]; decide, fun x hx => by rw [(h x hx).2.1]; decide, fun x hx => by rw [(h x hx).2.2]; decide⟩
end PN
set_option maxHeartbeats 4000000 in
set_option maxRecDepth 100000 in
/-- passOn(v) -/
theorem mX0_passOn (l : Launch) (D : va_G) (a : Nat → Nat) (d : Nat → ClassId) (pr : Nat) (kn : Bool) (K X Y : Nat → Nat) (σ : Sg) (v : Nat) (h1 : v < 8) (hpr : pr < 8192) (hW : zWF K X Y) (hB : zBn σ) : Kv l yX0_passOn cX0_passOn 4 3 71 D (xT d) (xW a d pr kn K X Y σ.1 σ.2.1 σ.2.2) [.ref (a 0), .int (nI v)] (fun _ : Unit => True) (fun _ => xW a d pr kn K X Y (psF (Nat.testBit pr) K X Y v σ).1 (psF (Nat.testBit pr) K X Y v σ).2.1 (psF (Nat.testBit pr) K X Y v σ).2.2) := by
  refine mk_v (by decide) (Nat.le_of_ble_eq_true rfl) ?_
  intro p e s m below meth c A hx hb hml hr hlk hown hts hA hK hP hD hS ls hl
  have hown : s.vm.findClass RX0 = some m.cls := hown
  have hl : lv_has ls 4 [(0, .ref (a 0)), (1, .int (nI (v)))] := hl
  refine lv_aload_n hx hb dX0_passOn_0 rfl (lv_at hl 0 rfl) ?_
  refine va_get (D := D) (ci := 0) (v := .ref (a 5)) (C := RX0) (T := TX0) (N := 8) hx hb hts in_X0 hown hK hP 0 rfl rfl 6 (by decide) (hts _ q31) (fun _ h9 => h9) rfl dX0_passOn_1 ?_
  refine lv_iload_n hx hb dX0_passOn_4 rfl (lv_at hl 1 rfl) ?_
  refine nv_sald hx hb hK hP 5 4 rfl rfl (by omega) dX0_passOn_5 ?_
  refine lv_istore_n (lv' := [(2, .int (nI (σ.2.1 v))), (0, .ref (a 0)), (1, .int (nI (v)))]) hx hb dX0_passOn_6 rfl hl (by decide) rfl (fun ls hl => ?_)
  refine lv_aload_n hx hb dX0_passOn_7 rfl (lv_at hl 1 rfl) ?_
  refine va_get (D := D) (ci := 0) (v := .ref (a 5)) (C := RX0) (T := TX0) (N := 8) hx hb hts in_X0 hown hK hP 0 rfl rfl 6 (by decide) (hts _ q31) (fun _ h9 => h9) rfl dX0_passOn_8 ?_
  refine lv_iload_n hx hb dX0_passOn_11 rfl (lv_at hl 2 rfl) ?_
  refine lv_iconst (v := nI 0) hx hb dX0_passOn_12 (by decide) ?_
  refine nv_sast hx hb hK hP hD hS 5 4 rfl rfl (by omega) (by omega) dX0_passOn_13 (fun H locs hP hD hS => ?_)
  have hP : va_P D vwCl (xW a d pr kn K X Y σ.1 (va_up σ.2.1 v 0) σ.2.2) H := hP
  have hD : va_D A (xW a d pr kn K X Y σ.1 (va_up σ.2.1 v 0) σ.2.2) := hD
  refine lv_iconst (v := nI 0) hx hb dX0_passOn_14 (by decide) ?_
  refine lv_istore_n (lv' := [(3, .int (nI (0))), (2, .int (nI (σ.2.1 v))), (0, .ref (a 0)), (1, .int (nI (v)))]) hx hb dX0_passOn_15 rfl hl (by decide) rfl (fun ls hl => ?_)
  refine wl_up (pc := 16) 13 (fun k H locs ls => ∃ (τ : Sg), (τ = p1F (Nat.testBit pr) K X Y v (σ.2.1 v) (σ.1, va_up σ.2.1 v 0, σ.2.2) k) ∧ va_P D vwCl (xW a d pr kn K X Y τ.1 τ.2.1 τ.2.2) H ∧ va_D A (xW a d pr kn K X Y τ.1 τ.2.1 τ.2.2) ∧ va_S A s.heap H locs ∧ lv_has ls 4 [(0, .ref (a 0)), (1, .int (nI (v))), (2, .int (nI (σ.2.1 v))), (3, .int (nI (k)))]) ?_ ?_ 0 (by omega) _ _ _ ⟨(σ.1, va_up σ.2.1 v 0, σ.2.2), rfl, hP, hD, hS, lv_sub hl [2, 3, 1, 0] rfl⟩
  · intro k hk H locs ls hI ih
    obtain ⟨τ, e1, hP, hD, hS, hl⟩ := hI
    have hBt : zBn τ := by rw [e1]; exact Bn_p1 (σ := (σ.1, va_up σ.2.1 v 0, σ.2.2)) hW ⟨hB.1, zB8_up hB.2.1 (by decide), hB.2.2⟩ (by omega)
    refine lv_iload_n hx hb dX0_passOn_16 rfl (lv_at hl 3 rfl) ?_
    refine lv_bipush (v := nI 12) hx hb dX0_passOn_17 (by decide) ?_
    refine nv_icmp_gt (tgt := 46) hx hb dX0_passOn_19 (by decide) (fun c0 => ?_) (fun c0 => ?_)
    · exfalso; omega
    · refine lv_aload_n hx hb dX0_passOn_22 rfl (lv_at hl 0 rfl) ?_
      refine va_get (D := D) (ci := 0) (v := .int (nI (pr))) (C := RX0) (T := TX0) (N := 8) hx hb hts in_X0 hown hK hP 0 rfl rfl 0 (by decide) (hts _ q25) (fun _ h9 => h9) rfl dX0_passOn_23 ?_
      refine lv_iload_n hx hb dX0_passOn_26 rfl (lv_at hl 3 rfl) ?_
      refine nv_bit hx hb dX0_passOn_27 dX0_passOn_28 dX0_passOn_29 (by omega) (by omega) ?_
      refine nv_ifeq (tgt := 40) hx hb dX0_passOn_30 (by decide) (fun c1 => ?_) (fun c1 => ?_)
      · refine lv_iinc (v := nI (k + 1)) (lv' := [(3, .int (nI (k + 1))), (0, .ref (a 0)), (1, .int (nI (v))), (2, .int (nI (σ.2.1 v)))]) hx hb dX0_passOn_40 hl (k := 3) rfl (by exact nI_1 _) (by decide) rfl (fun ls hl => ?_)
        refine lv_goto (tgt := 16) hx hb dX0_passOn_43 (by decide) ?_
        exact ih _ _ _ ⟨τ, (by rw [p1_f c1]; exact e1), hP, hD, hS, lv_sub hl [1, 2, 3, 0] rfl⟩
      · refine lv_aload_n hx hb dX0_passOn_33 rfl (lv_at hl 0 rfl) ?_
        refine lv_iload_n hx hb dX0_passOn_34 rfl (lv_at hl 3 rfl) ?_
        refine lv_iload_n hx hb dX0_passOn_35 rfl (lv_at hl 1 rfl) ?_
        refine lv_iload_n hx hb dX0_passOn_36 rfl (lv_at hl 2 rfl) ?_
        refine cl_Vv (n := 3) (As := [.int (nI (k)), .int (nI (v)), .int (nI (σ.2.1 v))]) (rest := []) (ci := 0) (q0 := 0) hx hb hml hown hts (mX0_follow l D a d pr kn K X Y τ k v (σ.2.1 v) (by omega) h1 (hB.2.1 v h1) hW hBt) (lw_V q105 q107 qs7 q15 q108) (by decide +kernel) rfl ⟨Nat.le_of_ble_eq_true rfl, Nat.le_of_ble_eq_true rfl⟩ ⟨Nat.le_refl _, Nat.le_refl _⟩ hK hP hD hS hA rfl rfl hl.1 rfl (Nat.le_of_ble_eq_true rfl) dX0_passOn_37 (fun _ H locs hp hP hD hS => ?_)
        have hP : va_P D vwCl (xW a d pr kn K X Y ((flF K X Y k v (σ.2.1 v) τ).1) ((flF K X Y k v (σ.2.1 v) τ).2.1) ((flF K X Y k v (σ.2.1 v) τ).2.2)) H := hP
        have hD : va_D A (xW a d pr kn K X Y ((flF K X Y k v (σ.2.1 v) τ).1) ((flF K X Y k v (σ.2.1 v) τ).2.1) ((flF K X Y k v (σ.2.1 v) τ).2.2)) := hD
        refine lv_iinc (v := nI (k + 1)) (lv' := [(3, .int (nI (k + 1))), (0, .ref (a 0)), (1, .int (nI (v))), (2, .int (nI (σ.2.1 v)))]) hx hb dX0_passOn_40 hl (k := 3) rfl (by exact nI_1 _) (by decide) rfl (fun ls hl => ?_)
        refine lv_goto (tgt := 16) hx hb dX0_passOn_43 (by decide) ?_
        exact ih _ _ _ ⟨(flF K X Y k v (σ.2.1 v) τ), (by rw [p1_t c1, e1]), hP, hD, hS, lv_sub hl [1, 2, 3, 0] rfl⟩
  · intro H locs ls hI
    obtain ⟨τ, e1, hP, hD, hS, hl⟩ := hI
    refine lv_iload_n hx hb dX0_passOn_16 rfl (lv_at hl 3 rfl) ?_
    refine lv_bipush (v := nI 12) hx hb dX0_passOn_17 (by decide) ?_
    refine nv_icmp_gt (tgt := 46) hx hb dX0_passOn_19 (by decide) (fun c0 => ?_) (fun c0 => ?_)
    · have hBt : zBn τ := by rw [e1]; exact Bn_p1 (σ := (σ.1, va_up σ.2.1 v 0, σ.2.2)) hW ⟨hB.1, zB8_up hB.2.1 (by decide), hB.2.2⟩ (by omega)
      refine lv_iconst (v := nI 0) hx hb dX0_passOn_46 (by decide) ?_
      refine lv_istore_n (lv' := [(3, .int (nI (0))), (0, .ref (a 0)), (1, .int (nI (v))), (2, .int (nI (σ.2.1 v)))]) hx hb dX0_passOn_47 rfl hl (by decide) rfl (fun ls hl => ?_)
      refine wl_up (pc := 48) 8 (fun w H locs ls => ∃ (υ : Sg), (υ = p2F v (σ.2.1 v) τ w) ∧ va_P D vwCl (xW a d pr kn K X Y υ.1 υ.2.1 υ.2.2) H ∧ va_D A (xW a d pr kn K X Y υ.1 υ.2.1 υ.2.2) ∧ va_S A s.heap H locs ∧ lv_has ls 4 [(0, .ref (a 0)), (1, .int (nI (v))), (2, .int (nI (σ.2.1 v))), (3, .int (nI (w)))]) ?_ ?_ 0 (by omega) _ _ _ ⟨τ, rfl, hP, hD, hS, lv_sub hl [1, 2, 3, 0] rfl⟩
      · intro w hk H locs ls hI ih
        obtain ⟨υ, e2, hP, hD, hS, hl⟩ := hI
        have hBu : zBn υ := by rw [e2]; exact Bn_p2 (hB.2.1 v h1) hBt (by omega)
        refine lv_iload_n hx hb dX0_passOn_48 rfl (lv_at hl 3 rfl) ?_
        refine lv_bipush (v := nI 8) hx hb dX0_passOn_49 (by decide) ?_
        refine nv_icmp_ge (tgt := 79) hx hb dX0_passOn_51 (by decide) (fun c0 => ?_) (fun c0 => ?_)
        · exfalso; omega
        · refine lv_aload_n hx hb dX0_passOn_54 rfl (lv_at hl 0 rfl) ?_
          refine va_get (D := D) (ci := 0) (v := .ref (a 6)) (C := RX0) (T := TX0) (N := 8) hx hb hts in_X0 hown hK hP 0 rfl rfl 7 (by decide) (hts _ q32) (fun _ h9 => h9) rfl dX0_passOn_55 ?_
          refine lv_iload_n hx hb dX0_passOn_58 rfl (lv_at hl 1 rfl) ?_
          refine nv_sald hx hb hK hP 6 5 rfl rfl (by omega) dX0_passOn_59 ?_
          refine lv_iload_n hx hb dX0_passOn_60 rfl (lv_at hl 3 rfl) ?_
          refine cl_Si (n := 2) (As := [.int (nI (υ.2.2 v)), .int (nI (w))]) (rest := []) hx hb hml hown hts (mX0_in l D _ _ (υ.2.2 v) (w) (by have := hBu.2.2 v h1; omega) (by omega)) (lw_S q94 q95 q15 q96) (by decide +kernel) rfl ⟨Nat.le_of_ble_eq_true rfl, Nat.le_of_ble_eq_true rfl⟩ ⟨Nat.le_refl _, Nat.le_refl _⟩ hK hP hD hS hA hl.1 rfl (Nat.le_of_ble_eq_true rfl) dX0_passOn_61 (fun r _ H locs hp hP hD hS => ?_)
          have hp : r = bI (Nat.testBit (υ.2.2 v) w) := hp
          subst hp
          refine nv_ifeq (tgt := 73) hx hb dX0_passOn_64 (by decide) (fun c1 => ?_) (fun c1 => ?_)
          · refine lv_iinc (v := nI (w + 1)) (lv' := [(3, .int (nI (w + 1))), (0, .ref (a 0)), (1, .int (nI (v))), (2, .int (nI (σ.2.1 v)))]) hx hb dX0_passOn_73 hl (k := 3) rfl (by exact nI_1 _) (by decide) rfl (fun ls hl => ?_)
            refine lv_goto (tgt := 48) hx hb dX0_passOn_76 (by decide) ?_
            exact ih _ _ _ ⟨υ, (p2_f e2 c1), hP, hD, hS, lv_sub hl [1, 2, 3, 0] rfl⟩
          · refine lv_aload_n hx hb dX0_passOn_67 rfl (lv_at hl 0 rfl) ?_
            refine lv_iload_n hx hb dX0_passOn_68 rfl (lv_at hl 3 rfl) ?_
            refine lv_iload_n hx hb dX0_passOn_69 rfl (lv_at hl 2 rfl) ?_
            refine cl_Vv (n := 2) (As := [.int (nI (w)), .int (nI (σ.2.1 v))]) (rest := []) (ci := 0) (q0 := 0) hx hb hml hown hts (mX0_point l D a d pr kn K X Y υ w (σ.2.1 v) (by omega) (hB.2.1 v h1) hBu) (lw_V q86 q88 qs3 q15 q89) (by decide +kernel) rfl ⟨Nat.le_of_ble_eq_true rfl, Nat.le_of_ble_eq_true rfl⟩ ⟨Nat.le_refl _, Nat.le_refl _⟩ hK hP hD hS hA rfl rfl hl.1 rfl (Nat.le_of_ble_eq_true rfl) dX0_passOn_70 (fun _ H locs hp hP hD hS => ?_)
            have hP : va_P D vwCl (xW a d pr kn K X Y ((ptF υ w (σ.2.1 v)).1) ((ptF υ w (σ.2.1 v)).2.1) ((ptF υ w (σ.2.1 v)).2.2)) H := hP
            have hD : va_D A (xW a d pr kn K X Y ((ptF υ w (σ.2.1 v)).1) ((ptF υ w (σ.2.1 v)).2.1) ((ptF υ w (σ.2.1 v)).2.2)) := hD
            refine lv_iinc (v := nI (w + 1)) (lv' := [(3, .int (nI (w + 1))), (0, .ref (a 0)), (1, .int (nI (v))), (2, .int (nI (σ.2.1 v)))]) hx hb dX0_passOn_73 hl (k := 3) rfl (by exact nI_1 _) (by decide) rfl (fun ls hl => ?_)
            refine lv_goto (tgt := 48) hx hb dX0_passOn_76 (by decide) ?_
            exact ih _ _ _ ⟨(ptF υ w (σ.2.1 v)), (p2_t e2 c1), hP, hD, hS, lv_sub hl [1, 2, 3, 0] rfl⟩
      · intro H locs ls hI
        obtain ⟨υ, e2, hP, hD, hS, hl⟩ := hI
        refine lv_iload_n hx hb dX0_passOn_48 rfl (lv_at hl 3 rfl) ?_
        refine lv_bipush (v := nI 8) hx hb dX0_passOn_49 (by decide) ?_
        refine nv_icmp_ge (tgt := 79) hx hb dX0_passOn_51 (by decide) (fun c0 => ?_) (fun c0 => ?_)
        · have e3 : psF (Nat.testBit pr) K X Y v σ = υ := by rw [psF, e2, e1]
          rw [e3]
          exact rt_v hx hb hr hlk () trivial hK hP hD hS dX0_passOn_79
        · exfalso; omega
    · exfalso; omega
set_option maxHeartbeats 4000000 in
set_option maxRecDepth 100000 in
/-- solve() -/
theorem mX0_solve (l : Launch) (D : va_G) (a : Nat → Nat) (d : Nat → ClassId) (pr : Nat) (kn : Bool) (K X Y : Nat → Nat) (σ : Sg) (hpr : pr < 8192) (hW : zWF K X Y) (hB : zBn σ) (hkn : kn = true → zSol (Nat.testBit pr) K X Y σ.1) : Kv l yX0_solve cX0_solve 3 4 94 D (xT d) (xW a d pr kn K X Y σ.1 σ.2.1 σ.2.2) [.ref (a 0)] (fun u : Sg => zBn u ∧ zSol (Nat.testBit pr) K X Y u.1) (fun u => xW a d pr true K X Y u.1 u.2.1 u.2.2) := by
  refine mk_v (by decide) (Nat.le_of_ble_eq_true rfl) ?_
  intro p e s m below meth c A hx hb hml hr hlk hown hts hA hK hP hD hS ls hl
  have hown : s.vm.findClass RX0 = some m.cls := hown
  have hl : lv_has ls 3 [(0, .ref (a 0))] := hl
  refine lv_aload_n hx hb dX0_solve_0 rfl (lv_at hl 0 rfl) ?_
  refine va_get (D := D) (ci := 0) (v := .int (bI (kn))) (C := RX0) (T := TX0) (N := 8) hx hb hts in_X0 hown hK hP 0 rfl rfl 4 (by decide) (hts _ q29) (fun _ h9 => h9) rfl dX0_solve_1 ?_
  refine nv_ifeq (tgt := 8) hx hb dX0_solve_4 (by decide) (fun c1 => ?_) (fun c1 => ?_)
  · refine lv_aload_n hx hb dX0_solve_8 rfl (lv_at hl 0 rfl) ?_
    refine lv_iconst (v := bI true) hx hb dX0_solve_9 (by decide) ?_
    refine va_put (D := D) (ci := 0) (v := .int (bI (true))) (ty := .boolean) (C := RX0) (T := TX0) (N := 8) hx hb hts in_X0 tyX0 tyX0_ok nmX0 hown hK hP hD hS 0 rfl rfl 4 (by decide) (hts _ q29) (fun _ h9 => h9) rfl (by decide +kernel) (ni_nz _) rfl (Nat.le_of_ble_eq_true rfl) dX0_solve_10 (fun H locs hP hD hS => ?_)
    have hP : va_P D vwCl (xW a d pr true K X Y σ.1 σ.2.1 σ.2.2) H := hP
    have hD : va_D A (xW a d pr true K X Y σ.1 σ.2.1 σ.2.2) := hD
    refine lv_iconst (v := nI 0) hx hb dX0_solve_13 (by decide) ?_
    refine lv_istore_n (lv' := [(1, .int (nI (0))), (0, .ref (a 0))]) hx hb dX0_solve_14 rfl hl (by decide) rfl (fun ls hl => ?_)
    refine wl_up (pc := 15) 8 (fun x H locs ls => ∃ (τ : Sg), (∀ j, j < x → τ.1 j = 0 ∧ τ.2.1 j = 0 ∧ τ.2.2 j = 0) ∧ va_P D vwCl (xW a d pr true K X Y τ.1 τ.2.1 τ.2.2) H ∧ va_D A (xW a d pr true K X Y τ.1 τ.2.1 τ.2.2) ∧ va_S A s.heap H locs ∧ lv_has ls 3 [(0, .ref (a 0)), (1, .int (nI (x)))]) ?_ ?_ 0 (by omega) _ _ _ ⟨σ, (fun j h => absurd h (Nat.not_lt_zero j)), hP, hD, hS, lv_sub hl [1, 0] rfl⟩
    · intro x hk H locs ls hI ih
      obtain ⟨τ, e1, hP, hD, hS, hl⟩ := hI
      refine lv_iload_n hx hb dX0_solve_15 rfl (lv_at hl 1 rfl) ?_
      refine lv_bipush (v := nI 8) hx hb dX0_solve_16 (by decide) ?_
      refine nv_icmp_ge (tgt := 48) hx hb dX0_solve_18 (by decide) (fun c0 => ?_) (fun c0 => ?_)
      · exfalso; omega
      · refine lv_aload_n hx hb dX0_solve_21 rfl (lv_at hl 0 rfl) ?_
        refine va_get (D := D) (ci := 0) (v := .ref (a 4)) (C := RX0) (T := TX0) (N := 8) hx hb hts in_X0 hown hK hP 0 rfl rfl 5 (by decide) (hts _ q30) (fun _ h9 => h9) rfl dX0_solve_22 ?_
        refine lv_iload_n hx hb dX0_solve_25 rfl (lv_at hl 1 rfl) ?_
        refine lv_iconst (v := nI 0) hx hb dX0_solve_26 (by decide) ?_
        refine nv_sast hx hb hK hP hD hS 4 3 rfl rfl (by omega) (by omega) dX0_solve_27 (fun H locs hP hD hS => ?_)
        have hP : va_P D vwCl (xW a d pr true K X Y (va_up τ.1 x 0) τ.2.1 τ.2.2) H := hP
        have hD : va_D A (xW a d pr true K X Y (va_up τ.1 x 0) τ.2.1 τ.2.2) := hD
        refine lv_aload_n hx hb dX0_solve_28 rfl (lv_at hl 0 rfl) ?_
        refine va_get (D := D) (ci := 0) (v := .ref (a 5)) (C := RX0) (T := TX0) (N := 8) hx hb hts in_X0 hown hK hP 0 rfl rfl 6 (by decide) (hts _ q31) (fun _ h9 => h9) rfl dX0_solve_29 ?_
        refine lv_iload_n hx hb dX0_solve_32 rfl (lv_at hl 1 rfl) ?_
        refine lv_iconst (v := nI 0) hx hb dX0_solve_33 (by decide) ?_
        refine nv_sast hx hb hK hP hD hS 5 4 rfl rfl (by omega) (by omega) dX0_solve_34 (fun H locs hP hD hS => ?_)
        have hP : va_P D vwCl (xW a d pr true K X Y (va_up τ.1 x 0) (va_up τ.2.1 x 0) τ.2.2) H := hP
        have hD : va_D A (xW a d pr true K X Y (va_up τ.1 x 0) (va_up τ.2.1 x 0) τ.2.2) := hD
        refine lv_aload_n hx hb dX0_solve_35 rfl (lv_at hl 0 rfl) ?_
        refine va_get (D := D) (ci := 0) (v := .ref (a 6)) (C := RX0) (T := TX0) (N := 8) hx hb hts in_X0 hown hK hP 0 rfl rfl 7 (by decide) (hts _ q32) (fun _ h9 => h9) rfl dX0_solve_36 ?_
        refine lv_iload_n hx hb dX0_solve_39 rfl (lv_at hl 1 rfl) ?_
        refine lv_iconst (v := nI 0) hx hb dX0_solve_40 (by decide) ?_
        refine nv_sast hx hb hK hP hD hS 6 5 rfl rfl (by omega) (by omega) dX0_solve_41 (fun H locs hP hD hS => ?_)
        have hP : va_P D vwCl (xW a d pr true K X Y (va_up τ.1 x 0) (va_up τ.2.1 x 0) (va_up τ.2.2 x 0)) H := hP
        have hD : va_D A (xW a d pr true K X Y (va_up τ.1 x 0) (va_up τ.2.1 x 0) (va_up τ.2.2 x 0)) := hD
        refine lv_iinc (v := nI (x + 1)) (lv' := [(1, .int (nI (x + 1))), (0, .ref (a 0))]) hx hb dX0_solve_42 hl (k := 1) rfl (by exact nI_1 _) (by decide) rfl (fun ls hl => ?_)
        refine lv_goto (tgt := 15) hx hb dX0_solve_45 (by decide) ?_
        exact ih _ _ _ ⟨(va_up τ.1 x 0, va_up τ.2.1 x 0, va_up τ.2.2 x 0), (z0_up e1), hP, hD, hS, lv_sub hl [1, 0] rfl⟩
    · intro H locs ls hI
      obtain ⟨τ, e1, hP, hD, hS, hl⟩ := hI
      refine lv_iload_n hx hb dX0_solve_15 rfl (lv_at hl 1 rfl) ?_
      refine lv_bipush (v := nI 8) hx hb dX0_solve_16 (by decide) ?_
      refine nv_icmp_ge (tgt := 48) hx hb dX0_solve_18 (by decide) (fun c0 => ?_) (fun c0 => ?_)
      · refine lv_iconst (v := nI 0) hx hb dX0_solve_48 (by decide) ?_
        refine lv_istore_n (lv' := [(1, .int (nI (0))), (0, .ref (a 0))]) hx hb dX0_solve_49 rfl hl (by decide) rfl (fun ls hl => ?_)
        refine wl_up (pc := 50) 13 (fun k H locs ls => ∃ (υ : Sg), (υ = inF (Nat.testBit pr) K X Y τ k) ∧ va_P D vwCl (xW a d pr true K X Y υ.1 υ.2.1 υ.2.2) H ∧ va_D A (xW a d pr true K X Y υ.1 υ.2.1 υ.2.2) ∧ va_S A s.heap H locs ∧ lv_has ls 3 [(0, .ref (a 0)), (1, .int (nI (k)))]) ?_ ?_ 0 (by omega) _ _ _ ⟨τ, rfl, hP, hD, hS, lv_sub hl [1, 0] rfl⟩
        · intro k hk H locs ls hI ih
          obtain ⟨υ, e2, hP, hD, hS, hl⟩ := hI
          have hBu : zBn υ := by rw [e2]; exact Bn_in hW (z0_Bn e1) (by omega)
          refine lv_iload_n hx hb dX0_solve_50 rfl (lv_at hl 1 rfl) ?_
          refine lv_bipush (v := nI 12) hx hb dX0_solve_51 (by decide) ?_
          refine nv_icmp_gt (tgt := 140) hx hb dX0_solve_53 (by decide) (fun c0 => ?_) (fun c0 => ?_)
          · exfalso; omega
          · obtain ⟨w1, w2, w3⟩ := hW k (by omega)
            refine lv_aload_n hx hb dX0_solve_56 rfl (lv_at hl 0 rfl) ?_
            refine va_get (D := D) (ci := 0) (v := .int (nI (pr))) (C := RX0) (T := TX0) (N := 8) hx hb hts in_X0 hown hK hP 0 rfl rfl 0 (by decide) (hts _ q25) (fun _ h9 => h9) rfl dX0_solve_57 ?_
            refine lv_iload_n hx hb dX0_solve_60 rfl (lv_at hl 1 rfl) ?_
            refine nv_bit hx hb dX0_solve_61 dX0_solve_62 dX0_solve_63 (by omega) (by omega) ?_
            refine nv_ifeq (tgt := 97) hx hb dX0_solve_64 (by decide) (fun c1 => ?_) (fun c1 => ?_)
            · refine lv_aload_n hx hb dX0_solve_97 rfl (lv_at hl 0 rfl) ?_
              refine va_get (D := D) (ci := 0) (v := .int (nI (pr))) (C := RX0) (T := TX0) (N := 8) hx hb hts in_X0 hown hK hP 0 rfl rfl 0 (by decide) (hts _ q25) (fun _ h9 => h9) rfl dX0_solve_98 ?_
              refine lv_iload_n hx hb dX0_solve_101 rfl (lv_at hl 1 rfl) ?_
              refine nv_bit hx hb dX0_solve_102 dX0_solve_103 dX0_solve_104 (by omega) (by omega) ?_
              refine nv_ifeq (tgt := 134) hx hb dX0_solve_105 (by decide) (fun c2 => ?_) (fun c2 => ?_)
              · refine lv_iinc (v := nI (k + 1)) (lv' := [(1, .int (nI (k + 1))), (0, .ref (a 0))]) hx hb dX0_solve_134 hl (k := 1) rfl (by exact nI_1 _) (by decide) rfl (fun ls hl => ?_)
                refine lv_goto (tgt := 50) hx hb dX0_solve_137 (by decide) ?_
                exact ih _ _ _ ⟨υ, (by rw [in_f c1]; exact e2), hP, hD, hS, lv_sub hl [1, 0] rfl⟩
              · exact absurd c2 (by rw [c1]; decide)
            · refine lv_aload_n hx hb dX0_solve_67 rfl (lv_at hl 0 rfl) ?_
              refine va_get (D := D) (ci := 0) (v := .ref (a 1)) (C := RX0) (T := TX0) (N := 8) hx hb hts in_X0 hown hK hP 0 rfl rfl 1 (by decide) (hts _ q26) (fun _ h9 => h9) rfl dX0_solve_68 ?_
              refine lv_iload_n hx hb dX0_solve_71 rfl (lv_at hl 1 rfl) ?_
              refine nv_bald hx hb hK hP 1 0 rfl rfl (by omega) dX0_solve_72 ?_
              refine nv_ifnen (tgt := 97) hx hb dX0_solve_73 (by decide) (fun c3 => ?_) (fun c3 => ?_)
              · refine lv_aload_n hx hb dX0_solve_97 rfl (lv_at hl 0 rfl) ?_
                refine va_get (D := D) (ci := 0) (v := .int (nI (pr))) (C := RX0) (T := TX0) (N := 8) hx hb hts in_X0 hown hK hP 0 rfl rfl 0 (by decide) (hts _ q25) (fun _ h9 => h9) rfl dX0_solve_98 ?_
                refine lv_iload_n hx hb dX0_solve_101 rfl (lv_at hl 1 rfl) ?_
                refine nv_bit hx hb dX0_solve_102 dX0_solve_103 dX0_solve_104 (by omega) (by omega) ?_
                refine nv_ifeq (tgt := 134) hx hb dX0_solve_105 (by decide) (fun c2 => ?_) (fun c2 => ?_)
                · exact absurd c2 (by rw [c1]; decide)
                · refine lv_aload_n hx hb dX0_solve_108 rfl (lv_at hl 0 rfl) ?_
                  refine va_get (D := D) (ci := 0) (v := .ref (a 1)) (C := RX0) (T := TX0) (N := 8) hx hb hts in_X0 hown hK hP 0 rfl rfl 1 (by decide) (hts _ q26) (fun _ h9 => h9) rfl dX0_solve_109 ?_
                  refine lv_iload_n hx hb dX0_solve_112 rfl (lv_at hl 1 rfl) ?_
                  refine nv_bald hx hb hK hP 1 0 rfl rfl (by omega) dX0_solve_113 ?_
                  refine lv_iconst (v := nI 1) hx hb dX0_solve_114 (by decide) ?_
                  refine nv_icmp_ne (tgt := 134) hx hb dX0_solve_115 (by decide) (fun c4 => ?_) (fun c4 => ?_)
                  · refine lv_iinc (v := nI (k + 1)) (lv' := [(1, .int (nI (k + 1))), (0, .ref (a 0))]) hx hb dX0_solve_134 hl (k := 1) rfl (by exact nI_1 _) (by decide) rfl (fun ls hl => ?_)
                    refine lv_goto (tgt := 50) hx hb dX0_solve_137 (by decide) ?_
                    exact ih _ _ _ ⟨υ, (by rw [in_2 c1 c3 c4]; exact e2), hP, hD, hS, lv_sub hl [1, 0] rfl⟩
                  · refine lv_aload_n hx hb dX0_solve_118 rfl (lv_at hl 0 rfl) ?_
                    refine lv_aload_n hx hb dX0_solve_119 rfl (lv_at hl 0 rfl) ?_
                    refine va_get (D := D) (ci := 0) (v := .ref (a 3)) (C := RX0) (T := TX0) (N := 8) hx hb hts in_X0 hown hK hP 0 rfl rfl 3 (by decide) (hts _ q28) (fun _ h9 => h9) rfl dX0_solve_120 ?_
                    refine lv_iload_n hx hb dX0_solve_123 rfl (lv_at hl 1 rfl) ?_
                    refine nv_bald hx hb hK hP 3 2 rfl rfl (by omega) dX0_solve_124 ?_
                    refine lv_aload_n hx hb dX0_solve_125 rfl (lv_at hl 0 rfl) ?_
                    refine va_get (D := D) (ci := 0) (v := .ref (a 2)) (C := RX0) (T := TX0) (N := 8) hx hb hts in_X0 hown hK hP 0 rfl rfl 2 (by decide) (hts _ q27) (fun _ h9 => h9) rfl dX0_solve_126 ?_
                    refine lv_iload_n hx hb dX0_solve_129 rfl (lv_at hl 1 rfl) ?_
                    refine nv_bald hx hb hK hP 2 1 rfl rfl (by omega) dX0_solve_130 ?_
                    refine cl_Vv (n := 2) (As := [.int (nI (Y k)), .int (nI (X k))]) (rest := []) (ci := 0) (q0 := 0) hx hb hml hown hts (mX0_link l D a d pr true K X Y υ (Y k) (X k) w3 w2 hBu) (lw_V q90 q92 qs4 q15 q93) (by decide +kernel) rfl ⟨Nat.le_of_ble_eq_true rfl, Nat.le_of_ble_eq_true rfl⟩ ⟨Nat.le_refl _, Nat.le_refl _⟩ hK hP hD hS hA rfl rfl hl.1 rfl (Nat.le_of_ble_eq_true rfl) dX0_solve_131 (fun _ H locs hp hP hD hS => ?_)
                    have hP : va_P D vwCl (xW a d pr true K X Y ((lkF υ (Y k) (X k)).1) ((lkF υ (Y k) (X k)).2.1) ((lkF υ (Y k) (X k)).2.2)) H := hP
                    have hD : va_D A (xW a d pr true K X Y ((lkF υ (Y k) (X k)).1) ((lkF υ (Y k) (X k)).2.1) ((lkF υ (Y k) (X k)).2.2)) := hD
                    refine lv_iinc (v := nI (k + 1)) (lv' := [(1, .int (nI (k + 1))), (0, .ref (a 0))]) hx hb dX0_solve_134 hl (k := 1) rfl (by exact nI_1 _) (by decide) rfl (fun ls hl => ?_)
                    refine lv_goto (tgt := 50) hx hb dX0_solve_137 (by decide) ?_
                    exact ih _ _ _ ⟨(lkF υ (Y k) (X k)), (by rw [in_1 c1 c3 c4, e2]), hP, hD, hS, lv_sub hl [1, 0] rfl⟩
              · refine lv_aload_n hx hb dX0_solve_76 rfl (lv_at hl 0 rfl) ?_
                refine lv_aload_n hx hb dX0_solve_77 rfl (lv_at hl 0 rfl) ?_
                refine va_get (D := D) (ci := 0) (v := .ref (a 2)) (C := RX0) (T := TX0) (N := 8) hx hb hts in_X0 hown hK hP 0 rfl rfl 2 (by decide) (hts _ q27) (fun _ h9 => h9) rfl dX0_solve_78 ?_
                refine lv_iload_n hx hb dX0_solve_81 rfl (lv_at hl 1 rfl) ?_
                refine nv_bald hx hb hK hP 2 1 rfl rfl (by omega) dX0_solve_82 ?_
                refine lv_iconst (v := nI 1) hx hb dX0_solve_83 (by decide) ?_
                refine lv_aload_n hx hb dX0_solve_84 rfl (lv_at hl 0 rfl) ?_
                refine va_get (D := D) (ci := 0) (v := .ref (a 3)) (C := RX0) (T := TX0) (N := 8) hx hb hts in_X0 hown hK hP 0 rfl rfl 3 (by decide) (hts _ q28) (fun _ h9 => h9) rfl dX0_solve_85 ?_
                refine lv_iload_n hx hb dX0_solve_88 rfl (lv_at hl 1 rfl) ?_
                refine nv_bald hx hb hK hP 3 2 rfl rfl (by omega) dX0_solve_89 ?_
                refine nv_shl hx hb dX0_solve_90 (by omega) ?_
                refine cl_Vv (n := 2) (As := [.int (nI (X k)), .int (nI (2 ^ (Y k)))]) (rest := []) (ci := 0) (q0 := 0) hx hb hml hown hts (mX0_point l D a d pr true K X Y υ (X k) (2 ^ Y k) w2 (z_2p w3) hBu) (lw_V q86 q88 qs3 q15 q89) (by decide +kernel) rfl ⟨Nat.le_of_ble_eq_true rfl, Nat.le_of_ble_eq_true rfl⟩ ⟨Nat.le_refl _, Nat.le_refl _⟩ hK hP hD hS hA rfl rfl hl.1 rfl (Nat.le_of_ble_eq_true rfl) dX0_solve_91 (fun _ H locs hp hP hD hS => ?_)
                have hP : va_P D vwCl (xW a d pr true K X Y ((ptF υ (X k) (2 ^ Y k)).1) ((ptF υ (X k) (2 ^ Y k)).2.1) ((ptF υ (X k) (2 ^ Y k)).2.2)) H := hP
                have hD : va_D A (xW a d pr true K X Y ((ptF υ (X k) (2 ^ Y k)).1) ((ptF υ (X k) (2 ^ Y k)).2.1) ((ptF υ (X k) (2 ^ Y k)).2.2)) := hD
                refine lv_goto (tgt := 134) hx hb dX0_solve_94 (by decide) ?_
                refine lv_iinc (v := nI (k + 1)) (lv' := [(1, .int (nI (k + 1))), (0, .ref (a 0))]) hx hb dX0_solve_134 hl (k := 1) rfl (by exact nI_1 _) (by decide) rfl (fun ls hl => ?_)
                refine lv_goto (tgt := 50) hx hb dX0_solve_137 (by decide) ?_
                exact ih _ _ _ ⟨(ptF υ (X k) (2 ^ Y k)), (by rw [in_0 c1 c3, e2]), hP, hD, hS, lv_sub hl [1, 0] rfl⟩
        · intro H locs ls hI
          obtain ⟨υ, e2, hP, hD, hS, hl⟩ := hI
          refine lv_iload_n hx hb dX0_solve_50 rfl (lv_at hl 1 rfl) ?_
          refine lv_bipush (v := nI 12) hx hb dX0_solve_51 (by decide) ?_
          refine nv_icmp_gt (tgt := 140) hx hb dX0_solve_53 (by decide) (fun c0 => ?_) (fun c0 => ?_)
          · have hI : zInv (Nat.testBit pr) K X Y υ := by rw [e2]; exact in_inv hW e1
            refine lv_iconst (v := nI 0) hx hb dX0_solve_140 (by decide) ?_
            refine lv_istore_n (lv' := [(1, .int (nI (0))), (0, .ref (a 0))]) hx hb dX0_solve_141 rfl hl (by decide) rfl (fun ls hl => ?_)
            refine wl_up (pc := 142) 65 (fun q H locs ls => ∃ (ω : Sg), (zInv (Nat.testBit pr) K X Y ω) ∧ (q ≤ zms ω) ∧ va_P D vwCl (xW a d pr true K X Y ω.1 ω.2.1 ω.2.2) H ∧ va_D A (xW a d pr true K X Y ω.1 ω.2.1 ω.2.2) ∧ va_S A s.heap H locs ∧ lv_has ls 3 [(0, .ref (a 0)), (1, .int (nI (q)))]) ?_ ?_ 0 (by omega) _ _ _ ⟨υ, hI, (Nat.zero_le _), hP, hD, hS, lv_sub hl [1, 0] rfl⟩
            · intro q hq9 H locs ls hI9 ih
              obtain ⟨ω, hI, hq, hP, hD, hS, hl⟩ := hI9
              refine lv_iload_n hx hb dX0_solve_142 rfl (lv_at hl 1 rfl) ?_
              refine lv_bipush (v := nI 65) hx hb dX0_solve_143 (by decide) ?_
              refine nv_icmp_ge (tgt := 169) hx hb dX0_solve_145 (by decide) (fun c0 => ?_) (fun c0 => ?_)
              · exfalso; omega
              · refine lv_aload_n hx hb dX0_solve_148 rfl (lv_at hl 0 rfl) ?_
                refine cl_Vi (n := 0) (As := []) (rest := []) (ci := 0) (q0 := 0) hx hb hml hown hts (mX0_waiting l D a d pr true K X Y ω.1 ω.2.1 ω.2.2 hI.1.1.2.1) (lw_V q97 q99 qs5 q15 q100) (by decide +kernel) rfl ⟨Nat.le_of_ble_eq_true rfl, Nat.le_of_ble_eq_true rfl⟩ ⟨Nat.le_refl _, Nat.le_refl _⟩ hK hP hD hS hA rfl rfl hl.1 rfl (Nat.le_of_ble_eq_true rfl) dX0_solve_149 (fun r _ H locs hp hP hD hS => ?_)
                have hp : (r = -1 ∧ ∀ x, x < 8 → ω.2.1 x = 0) ∨ ∃ x, x < 8 ∧ r = nI x ∧ ω.2.1 x ≠ 0 := hp
                rcases hp with ⟨rfl, h0⟩ | ⟨x, hx8, rfl, hne⟩
                · refine lv_istore_n (lv' := [(2, .int (-1)), (0, .ref (a 0)), (1, .int (nI (q)))]) hx hb dX0_solve_152 rfl hl (by decide) rfl (fun ls hl => ?_)
                  refine lv_iload_n hx hb dX0_solve_153 rfl (lv_at hl 0 rfl) ?_
                  refine lv_if_ge (tgt := 158) hx hb dX0_solve_154 (by decide) (fun c1 => ?_) (fun c1 => ?_)
                  · exact absurd c1 (by decide)
                  · exact rt_v hx hb hr hlk ω ⟨hI.1.1, fin_ok hW hI h0⟩ hK hP hD hS dX0_solve_157
                · refine lv_istore_n (lv' := [(2, .int (nI (x))), (0, .ref (a 0)), (1, .int (nI (q)))]) hx hb dX0_solve_152 rfl hl (by decide) rfl (fun ls hl => ?_)
                  refine lv_iload_n hx hb dX0_solve_153 rfl (lv_at hl 0 rfl) ?_
                  refine lv_if_ge (tgt := 158) hx hb dX0_solve_154 (by decide) (fun c1 => ?_) (fun c1 => ?_)
                  · refine lv_aload_n hx hb dX0_solve_158 rfl (lv_at hl 1 rfl) ?_
                    refine lv_iload_n hx hb dX0_solve_159 rfl (lv_at hl 0 rfl) ?_
                    refine cl_Vv (n := 1) (As := [.int (nI (x))]) (rest := []) (ci := 0) (q0 := 0) hx hb hml hown hts (mX0_passOn l D a d pr true K X Y ω x hx8 hpr hW hI.1.1) (lw_V q101 q103 qs6 q15 q104) (by decide +kernel) rfl ⟨Nat.le_of_ble_eq_true rfl, Nat.le_of_ble_eq_true rfl⟩ ⟨Nat.le_refl _, Nat.le_refl _⟩ hK hP hD hS hA rfl rfl hl.1 rfl (Nat.le_of_ble_eq_true rfl) dX0_solve_160 (fun _ H locs hp hP hD hS => ?_)
                    have hP : va_P D vwCl (xW a d pr true K X Y ((psF (Nat.testBit pr) K X Y x ω).1) ((psF (Nat.testBit pr) K X Y x ω).2.1) ((psF (Nat.testBit pr) K X Y x ω).2.2)) H := hP
                    have hD : va_D A (xW a d pr true K X Y ((psF (Nat.testBit pr) K X Y x ω).1) ((psF (Nat.testBit pr) K X Y x ω).2.1) ((psF (Nat.testBit pr) K X Y x ω).2.2)) := hD
                    refine lv_iinc (v := nI (q + 1)) (lv' := [(1, .int (nI (q + 1))), (2, .int (nI (x))), (0, .ref (a 0))]) hx hb dX0_solve_163 hl (k := 2) rfl (by exact nI_1 _) (by decide) rfl (fun ls hl => ?_)
                    refine lv_goto (tgt := 142) hx hb dX0_solve_166 (by decide) ?_
                    exact ih _ _ _ ⟨(psF (Nat.testBit pr) K X Y x ω), (ps_ok hW hx8 hI hne).1, (by have := (ps_ok hW hx8 hI hne).2; omega), hP, hD, hS, lv_sub hl [2, 0] rfl⟩
                  · exact absurd (nI_pos' (by omega)) c1
            · intro H locs ls hI9
              obtain ⟨ω, hI, hq, hP, hD, hS, hl⟩ := hI9
              exact absurd (zms_le ω) (by omega)
          · exfalso; omega
      · exfalso; omega
  · subst c1
    exact rt_v hx hb hr hlk σ ⟨hB, hkn rfl⟩ hK hP hD hS dX0_solve_7
end
section
/-! what the questions' answers are, as relations that both sides meet; each has one answer -/
section SP
variable {T : Nat → Bool} {K X Y : Nat → Nat}
def rPt (T : Nat → Bool) (K X Y : Nat → Nat) (x r : Int32) : Prop := (vr x = false ∧ r = nI 0) ∨ ∃ P j, zSol T K X Y P ∧ j < 8 ∧ x = nI j ∧ r = nI (P j)
def rPb (T : Nat → Bool) (K X Y : Nat → Nat) (x r : Int32) : Prop := (vr x = false ∧ r = nI 0) ∨ ∃ P j, zSol T K X Y P ∧ j < 8 ∧ x = nI j ∧ r = nI (zcol (fun q => Nat.testBit (P q) j) 8)
def rAl (T : Nat → Bool) (K X Y : Nat → Nat) (x y r : Int32) : Prop := ((vr x = false ∨ vr y = false ∨ x = y) ∧ r = bI false) ∨ ∃ P i j, zSol T K X Y P ∧ i < 8 ∧ j < 8 ∧ x = nI i ∧ y = nI j ∧ i ≠ j ∧ r = bI (decide (P i &&& P j ≠ 0))
def rRc (T : Nat → Bool) (K X Y : Nat → Nat) (x r : Int32) : Prop := (vr x = false ∧ r = nI 0) ∨ ∃ P j, zSol T K X Y P ∧ j < 8 ∧ x = nI j ∧ r = nI (zrch P (P j) 64)
def zon (T : Nat → Bool) (K : Nat → Nat) (k : Nat) : Bool := T k && decide (K k = 1)
def rFl (T : Nat → Bool) (K X Y : Nat → Nat) (x y r : Int32) : Prop := ((vr x = false ∨ vr y = false) ∧ r = bI false) ∨ ∃ i j, i < 8 ∧ j < 8 ∧ x = nI i ∧ y = nI j ∧ r = bI (Nat.testBit (zfl (zon T K) Y X (2 ^ j) 96) i)
def rTt (T : Nat → Bool) (K X Y : Nat → Nat) (r : Int32) : Prop := ∃ P, zSol T K X Y P ∧ r = nI (ztot P)
def rRd (T : Nat → Bool) (K X Y : Nat → Nat) (k r : Int32) : Prop := (hsb T k = false ∧ r = bI false) ∨ ∃ j P P2, j < 12 ∧ k = nI j ∧ T j = true ∧ zSol T K X Y P ∧ zSol (va_up T j false) K X Y P2 ∧ r = bI (decide (ztot P = ztot P2))
def rGn (T : Nat → Bool) (K X Y : Nat → Nat) (a b c r : Int32) (o : Option (Nat × Nat × Nat)) : Prop := (sok a b c = false ∧ r = -1 ∧ o = none) ∨ ∃ n1 n2 n3 P P2, n1 < 4 ∧ n2 < 8 ∧ n3 < 8 ∧ a = nI n1 ∧ b = nI n2 ∧ c = nI n3 ∧ sok a b c = true ∧ zSol T K X Y P ∧ zSol (va_up T 12 true) (va_up K 12 n1) (va_up X 12 n2) (va_up Y 12 n3) P2 ∧ r = nI (ztot P2) - nI (ztot P) ∧ o = some (n1, n2, n3)
def rCy (T : Nat → Bool) (K X Y : Nat → Nat) (r : Int32) : Prop := ∃ P, zSol T K X Y P ∧ r = nI (zcol (fun q => Nat.testBit (zrch P (P q) 64) q) 8)
def rTw (T : Nat → Bool) (K X Y : Nat → Nat) (x r : Int32) : Prop := (vr x = false ∧ r = nI 0) ∨ ∃ P j, zSol T K X Y P ∧ j < 8 ∧ x = nI j ∧ r = nI (zcol (fun q => decide (P q = P j)) 8)
theorem vr_nt {j : Nat} (h : j < 8) : vr (nI j) = true := by rw [vr_n (by omega)]; exact decide_eq_true h
theorem vr_no {x : Int32} {j : Nat} (h : vr x = false) (hj : j < 8) (e : x = nI j) : False := by rw [e, vr_nt hj] at h; cases h
theorem nI_in8 {i j : Nat} (hi : i < 8) (hj : j < 8) {x : Int32} (h : x = nI i) (h2 : x = nI j) : i = j := (nI_eq (by omega) (by omega)).mp (h.symm.trans h2)
theorem u_Pt {x r r2 : Int32} (h : rPt T K X Y x r) (h2 : rPt T K X Y x r2) : r = r2 := by
  rcases h with ⟨a1, a2⟩ | ⟨P, j, a1, a2, a3, a4⟩ <;> rcases h2 with ⟨b1, b2⟩ | ⟨P2, j2, b1, b2, b3, b4⟩
  · rw [a2, b2]
  · exact (vr_no a1 b2 b3).elim
  · exact (vr_no b1 a2 a3).elim
  · obtain rfl := nI_in8 a2 b2 a3 b3
    rw [a4, b4, z_uniq a1 b1 j a2]
theorem u_Pb {x r r2 : Int32} (h : rPb T K X Y x r) (h2 : rPb T K X Y x r2) : r = r2 := by
  rcases h with ⟨a1, a2⟩ | ⟨P, j, a1, a2, a3, a4⟩ <;> rcases h2 with ⟨b1, b2⟩ | ⟨P2, j2, b1, b2, b3, b4⟩
  · rw [a2, b2]
  · exact (vr_no a1 b2 b3).elim
  · exact (vr_no b1 a2 a3).elim
  · obtain rfl := nI_in8 a2 b2 a3 b3
    rw [a4, b4]
    exact congrArg nI (zcol_cong (fun i hi => by rw [z_uniq a1 b1 i hi]))
theorem u_Al {x y r r2 : Int32} (h : rAl T K X Y x y r) (h2 : rAl T K X Y x y r2) : r = r2 := by
  rcases h with ⟨a1, a2⟩ | ⟨P, i, j, a1, a2, a3, a4, a5, a6, a7⟩ <;> rcases h2 with ⟨b1, b2⟩ | ⟨P2, i2, j2, b1, b2, b3, b4, b5, b6, b7⟩
  · rw [a2, b2]
  · rcases a1 with q | q | q
    · exact (vr_no q b2 b4).elim
    · exact (vr_no q b3 b5).elim
    · exact absurd (nI_in8 b2 b3 b4 (q.trans b5)) b6
  · rcases b1 with q | q | q
    · exact (vr_no q a2 a4).elim
    · exact (vr_no q a3 a5).elim
    · exact absurd (nI_in8 a2 a3 a4 (q.trans a5)) a6
  · obtain rfl := nI_in8 a2 b2 a4 b4
    obtain rfl := nI_in8 a3 b3 a5 b5
    rw [a7, b7, z_uniq a1 b1 i a2, z_uniq a1 b1 j a3]
theorem u_Rc {x r r2 : Int32} (h : rRc T K X Y x r) (h2 : rRc T K X Y x r2) : r = r2 := by
  rcases h with ⟨a1, a2⟩ | ⟨P, j, a1, a2, a3, a4⟩ <;> rcases h2 with ⟨b1, b2⟩ | ⟨P2, j2, b1, b2, b3, b4⟩
  · rw [a2, b2]
  · exact (vr_no a1 b2 b3).elim
  · exact (vr_no b1 a2 a3).elim
  · obtain rfl := nI_in8 a2 b2 a3 b3
    rw [a4, b4, z_uniq a1 b1 j a2, zrch_cong (z_uniq a1 b1)]
theorem u_Fl {x y r r2 : Int32} (h : rFl T K X Y x y r) (h2 : rFl T K X Y x y r2) : r = r2 := by
  rcases h with ⟨a1, a2⟩ | ⟨i, j, a2, a3, a4, a5, a7⟩ <;> rcases h2 with ⟨b1, b2⟩ | ⟨i2, j2, b2, b3, b4, b5, b7⟩
  · rw [a2, b2]
  · rcases a1 with q | q
    · exact (vr_no q b2 b4).elim
    · exact (vr_no q b3 b5).elim
  · rcases b1 with q | q
    · exact (vr_no q a2 a4).elim
    · exact (vr_no q a3 a5).elim
  · obtain rfl := nI_in8 a2 b2 a4 b4
    obtain rfl := nI_in8 a3 b3 a5 b5
    rw [a7, b7]
theorem u_Tt {r r2 : Int32} (h : rTt T K X Y r) (h2 : rTt T K X Y r2) : r = r2 := by
  obtain ⟨P, a1, a2⟩ := h
  obtain ⟨P2, b1, b2⟩ := h2
  rw [a2, b2, ztot_cong (z_uniq a1 b1)]
theorem hsb_no {k : Int32} {j : Nat} (h : hsb T k = false) (hj : j < 12) (e : k = nI j) (ht : T j = true) : False := by rw [e, hsb_n hj, ht] at h; cases h
theorem u_Rd {k r r2 : Int32} (h : rRd T K X Y k r) (h2 : rRd T K X Y k r2) : r = r2 := by
  rcases h with ⟨a1, a2⟩ | ⟨j, P, Q, a1, a2, a3, a4, a5, a6⟩ <;> rcases h2 with ⟨b1, b2⟩ | ⟨j2, P2, Q2, b1, b2, b3, b4, b5, b6⟩
  · rw [a2, b2]
  · exact (hsb_no a1 b1 b2 b3).elim
  · exact (hsb_no b1 a1 a2 a3).elim
  · have e : j = j2 := (nI_eq (by omega) (by omega)).mp (a2.symm.trans b2)
    subst e
    rw [a6, b6, ztot_cong (z_uniq a4 b4), ztot_cong (z_uniq a5 b5)]
theorem u_Gn {a b c r r2 : Int32} {o o2 : Option (Nat × Nat × Nat)} (h : rGn T K X Y a b c r o) (h2 : rGn T K X Y a b c r2 o2) : r = r2 ∧ o = o2 := by
  rcases h with ⟨a1, a2, a3⟩ | ⟨n1, n2, n3, P, Q, a1, a2, a3, a4, a5, a6, a7, a8, a9, a10, a11⟩ <;> rcases h2 with ⟨b1, b2, b3⟩ | ⟨m1, m2, m3, P2, Q2, b1, b2, b3, b4, b5, b6, b7, b8, b9, b10, b11⟩
  · exact ⟨a2.trans b2.symm, a3.trans b3.symm⟩
  · rw [a1] at b7; cases b7
  · rw [b1] at a7; cases a7
  · have e1 : n1 = m1 := (nI_eq (by omega) (by omega)).mp (a4.symm.trans b4)
    have e2 : n2 = m2 := (nI_eq (by omega) (by omega)).mp (a5.symm.trans b5)
    have e3 : n3 = m3 := (nI_eq (by omega) (by omega)).mp (a6.symm.trans b6)
    subst e1
    subst e2
    subst e3
    exact ⟨by rw [a10, b10, ztot_cong (z_uniq a8 b8), ztot_cong (z_uniq a9 b9)], a11.trans b11.symm⟩
theorem u_Cy {r r2 : Int32} (h : rCy T K X Y r) (h2 : rCy T K X Y r2) : r = r2 := by
  obtain ⟨P, a1, a2⟩ := h
  obtain ⟨P2, b1, b2⟩ := h2
  rw [a2, b2]
  exact congrArg nI (zcol_cong (fun i hi => by rw [z_uniq a1 b1 i hi, zrch_cong (z_uniq a1 b1)]))
theorem u_Tw {x r r2 : Int32} (h : rTw T K X Y x r) (h2 : rTw T K X Y x r2) : r = r2 := by
  rcases h with ⟨a1, a2⟩ | ⟨P, j, a1, a2, a3, a4⟩ <;> rcases h2 with ⟨b1, b2⟩ | ⟨P2, j2, b1, b2, b3, b4⟩
  · rw [a2, b2]
  · exact (vr_no a1 b2 b3).elim
  · exact (vr_no b1 a2 a3).elim
  · obtain rfl := nI_in8 a2 b2 a3 b3
    rw [a4, b4]
    exact congrArg nI (zcol_cong (fun i hi => by rw [z_uniq a1 b1 i hi, z_uniq a1 b1 j a2]))
theorem u_Ad {a b c r r2 : Int32} {o o2 : Option (Nat × Nat × Nat × Nat)} (h : adR T a b c r o) (h2 : adR T a b c r2 o2) : r = r2 ∧ o = o2 := by
  rcases h with ⟨a1, a2, a3⟩ | ⟨a1, a2, a3, a4⟩ | ⟨k, n1, n2, n3, a1, a2, a3, a4, a5, a6, a7, a8, a9, a10, a11, a12⟩ <;> rcases h2 with ⟨b1, b2, b3⟩ | ⟨b1, b2, b3, b4⟩ | ⟨k2, m1, m2, m3, b1, b2, b3, b4, b5, b6, b7, b8, b9, b10, b11, b12⟩
  · exact ⟨a2.trans b2.symm, a3.trans b3.symm⟩
  · rw [a1] at b1; cases b1
  · rw [a1] at b8; cases b8
  · rw [b1] at a1; cases a1
  · exact ⟨a3.trans b3.symm, a4.trans b4.symm⟩
  · rw [a2 k2 b1] at b9; cases b9
  · rw [b1] at a8; cases a8
  · rw [b2 k a1] at a9; cases a9
  · have e1 : n1 = m1 := (nI_eq (by omega) (by omega)).mp (a5.symm.trans b5)
    have e2 : n2 = m2 := (nI_eq (by omega) (by omega)).mp (a6.symm.trans b6)
    have e3 : n3 = m3 := (nI_eq (by omega) (by omega)).mp (a7.symm.trans b7)
    have e4 : k = k2 := by
      rcases Nat.lt_trichotomy k k2 with q | q | q
      · rw [b10 k q] at a9; cases a9
      · exact q
      · rw [a10 k2 q] at b9; cases b9
    subst e1
    subst e2
    subst e3
    subst e4
    exact ⟨a11.trans b11.symm, a12.trans b12.symm⟩
theorem u_Rm {k r r2 : Int32} {o o2 : Option Nat} (h : rmR T k r o) (h2 : rmR T k r2 o2) : r = r2 ∧ o = o2 := by
  rcases h with ⟨a1, a2, a3⟩ | ⟨j, a1, a2, a3, a4, a5⟩ <;> rcases h2 with ⟨b1, b2, b3⟩ | ⟨j2, b1, b2, b3, b4, b5⟩
  · exact ⟨a2.trans b2.symm, a3.trans b3.symm⟩
  · exact (hsb_no a1 b1 b2 b3).elim
  · exact (hsb_no b1 a1 a2 a3).elim
  · have e : j = j2 := (nI_eq (by omega) (by omega)).mp (a2.symm.trans b2)
    subst e
    exact ⟨a4.trans b4.symm, a5.trans b5.symm⟩
end SP
theorem tb_or (pr k : Nat) : va_up (Nat.testBit pr) k true = Nat.testBit (pr ||| 2 ^ k) := by
  funext i
  rw [Nat.testBit_or, z_2b]
  rcases Classical.em (i = k) with e | e
  · subst e; rw [va_up_self]; simp
  · rw [va_up_ne _ _ e, decide_eq_false (fun q => e q.symm), Bool.or_false]
theorem tb_ndf (pr k : Nat) : va_up (Nat.testBit pr) k false = Nat.testBit (ndf pr (2 ^ k)) := by
  funext i
  rw [ndf_bit, z_2b]
  rcases Classical.em (i = k) with e | e
  · subst e; rw [va_up_self]; simp
  · rw [va_up_ne _ _ e, decide_eq_false (fun q => e q.symm)]; simp
theorem pr_or {pr k n : Nat} (h : pr < 2 ^ n) (hk : k < n) : pr ||| 2 ^ k < 2 ^ n := Nat.or_lt_two_pow h (Nat.pow_lt_pow_right (by decide) hk)
theorem ndf_le (a b : Nat) : ndf a b ≤ a := by
  have h : ndf a b = ndf a b &&& a := Nat.eq_of_testBit_eq (fun i => by
    rw [Nat.testBit_and, ndf_bit]
    cases a.testBit i <;> cases b.testBit i <;> rfl)
  rw [h]
  exact Nat.and_le_right
theorem pr_back {pr k : Nat} (h : Nat.testBit pr k = true) : ndf pr (2 ^ k) ||| 2 ^ k = pr := Nat.eq_of_testBit_eq (fun i => by
  rw [Nat.testBit_or, ndf_bit, z_2b]
  rcases Classical.em (k = i) with e | e
  · subst e; rw [h]; simp
  · rw [decide_eq_false e]; simp)
theorem pr_12 {pr : Nat} (h : pr < 4096) : ndf (pr ||| 2 ^ 12) (2 ^ 12) = pr := Nat.eq_of_testBit_eq (fun i => by
  rw [ndf_bit, Nat.testBit_or, z_2b]
  rcases Classical.em (12 = i) with e | e
  · subst e
    have h1 : Nat.testBit pr 12 = false := Nat.testBit_lt_two_pow (by omega)
    rw [h1]; simp
  · rw [decide_eq_false e]; simp)
theorem zWF_up {K X Y : Nat → Nat} {k n1 n2 n3 : Nat} (h : zWF K X Y) (h1 : n1 < 4) (h2 : n2 < 8) (h3 : n3 < 8) : zWF (va_up K k n1) (va_up X k n2) (va_up Y k n3) := by
  intro j hj
  rcases Classical.em (j = k) with e | e
  · subst e; rw [va_up_self, va_up_self, va_up_self]; exact ⟨h1, h2, h3⟩
  · rw [va_up_ne _ _ e, va_up_ne _ _ e, va_up_ne _ _ e]; exact h j hj
/-- what an object of the first kind keeps -/
def xOK (pr : Nat) (K X Y : Nat → Nat) (kn : Bool) (σ : Sg) : Prop := zBn σ ∧ (kn = true → zSol (Nat.testBit pr) K X Y σ.1)
theorem zcol_t {p : Nat → Bool} {n k : Nat} (e : n = zcol p k) (c : p k = true) : n ||| 2 ^ k = zcol p (k + 1) := by rw [zcol, if_pos c, e]
theorem zcol_f {p : Nat → Bool} {n k : Nat} (e : n = zcol p k) (c : p k = false) : n = zcol p (k + 1) := by rw [zcol, if_neg (by rw [c]; decide), e]
theorem zcol_f0 {p : Nat → Bool} {n k : Nat} (e : n = zcol p k) (c : p k = false) : n ||| 0 = zcol p (k + 1) := by rw [Nat.or_zero]; exact zcol_f e c
theorem zrch_t {P : Nat → Nat} {s n c y : Nat} (e : n = zrch P s c) (hc : c % 8 = y) (h : n.testBit y = true) : n ||| P y = zrch P s (c + 1) := by rw [zrch, ← e, hc, if_pos h]
theorem zrch_f {P : Nat → Nat} {s n c y : Nat} (e : n = zrch P s c) (hc : c % 8 = y) (h : n.testBit y = false) : n = zrch P s (c + 1) := by rw [zrch, ← e, hc, if_neg (by rw [h]; decide)]
theorem zrch_f0 {P : Nat → Nat} {s n c y : Nat} (e : n = zrch P s c) (hc : c % 8 = y) (h : n.testBit y = false) : n ||| 0 = zrch P s (c + 1) := by rw [Nat.or_zero]; exact zrch_f e hc h
theorem zfl_t {on : Nat → Bool} {a b : Nat → Nat} {s n c k : Nat} (e : n = zfl on a b s c) (hc : c % 12 = k) (h1 : on k = true) (h2 : n.testBit (a k) = true) : n ||| 2 ^ b k = zfl on a b s (c + 1) := by rw [zfl, ← e, hc, if_pos (by rw [h1, h2]; rfl)]
theorem zfl_f1 {on : Nat → Bool} {a b : Nat → Nat} {s n c k : Nat} (e : n = zfl on a b s c) (hc : c % 12 = k) (h1 : on k = false) : n = zfl on a b s (c + 1) := by rw [zfl, ← e, hc, if_neg (by rw [h1]; simp)]
theorem zfl_f2 {on : Nat → Bool} {a b : Nat → Nat} {s n c k : Nat} (e : n = zfl on a b s c) (hc : c % 12 = k) (h2 : n.testBit (a k) = false) : n = zfl on a b s (c + 1) := by rw [zfl, ← e, hc, if_neg (by rw [h2]; simp)]
theorem zon_f {T : Nat → Bool} {K : Nat → Nat} {k : Nat} (h : T k = false) : zon T K k = false := by unfold zon; rw [h, Bool.false_and]
theorem zon_f2 {T : Nat → Bool} {K : Nat → Nat} {k : Nat} (h : K k ≠ 1) : zon T K k = false := by unfold zon; rw [decide_eq_false h, Bool.and_false]
theorem zon_t {T : Nat → Bool} {K : Nat → Nat} {k : Nat} (h : T k = true) (h2 : K k = 1) : zon T K k = true := by unfold zon; rw [h, decide_eq_true h2]; rfl
theorem ztot_s {P : Nat → Nat} {x y n : Nat} (hy : y < 8) (e : n = zcnt (zpair P) (8 * x + y)) : n + (Nat.testBit (P x) y).toNat = zcnt (zpair P) (8 * x + y + 1) := by
  rw [zcnt, ← e, zpair, show (8 * x + y) / 8 = x by omega, show (8 * x + y) % 8 = y by omega]
end
section
set_option maxRecDepth 100000
set_option maxHeartbeats 4000000 in
set_option maxRecDepth 100000 in
/-- pointsTo(x) -/
theorem mX0_pointsTo (l : Launch) (D : va_G) (a : Nat → Nat) (d : Nat → ClassId) (pr : Nat) (kn : Bool) (K X Y : Nat → Nat) (σ : Sg) (hpr : pr < 8192) (hW : zWF K X Y) (hO : xOK pr K X Y kn σ) (x : Int32) : Ki l yX0_pointsTo cX0_pointsTo 2 (some .int) 5 116 D (xT d) (xW a d pr kn K X Y σ.1 σ.2.1 σ.2.2) [.ref (a 0), .int x] (fun r (u : Bool × Sg) => xOK pr K X Y u.1 u.2 ∧ rPt (Nat.testBit pr) K X Y x r) (fun u => xW a d pr u.1 K X Y u.2.1 u.2.2.1 u.2.2.2) := by
  refine mk_i (by decide) (Nat.le_of_ble_eq_true rfl) ?_
  intro p e s m below meth c A hx hb hml hr hlk hown hts hA hK hP hD hS ls hl
  have hown : s.vm.findClass RX0 = some m.cls := hown
  have hl : lv_has ls 2 [(0, .ref (a 0)), (1, .int (x))] := hl
  refine lv_iload_n hx hb dX0_pointsTo_0 rfl (lv_at hl 1 rfl) ?_
  refine cl_Si (n := 1) (As := [.int (x)]) (rest := []) hx hb hml hown hts (mX0_isVariable l D _ _ x) (lw_S q59 q60 q15 q61) (by decide +kernel) rfl ⟨Nat.le_of_ble_eq_true rfl, Nat.le_of_ble_eq_true rfl⟩ ⟨Nat.le_refl _, Nat.le_refl _⟩ hK hP hD hS hA hl.1 rfl (Nat.le_of_ble_eq_true rfl) dX0_pointsTo_1 (fun r _ H locs hp hP hD hS => ?_)
  have hp : r = bI (vr x) := hp
  subst hp
  refine nv_ifne (tgt := 9) hx hb dX0_pointsTo_4 (by decide) (fun c1 => ?_) (fun c1 => ?_)
  · obtain ⟨j, hj, rfl⟩ := vr_of c1
    refine lv_aload_n hx hb dX0_pointsTo_9 rfl (lv_at hl 0 rfl) ?_
    refine cl_Vv (n := 0) (As := []) (rest := []) (ci := 0) (q0 := 0) hx hb hml hown hts (mX0_solve l D a d pr kn K X Y σ hpr hW hO.1 hO.2) (lw_V q82 q84 qs2 q15 q85) (by decide +kernel) rfl ⟨Nat.le_of_ble_eq_true rfl, Nat.le_of_ble_eq_true rfl⟩ ⟨Nat.le_refl _, Nat.le_refl _⟩ hK hP hD hS hA rfl rfl hl.1 rfl (Nat.le_of_ble_eq_true rfl) dX0_pointsTo_10 (fun τ H locs hs hP hD hS => ?_)
    have hP : va_P D vwCl (xW a d pr true K X Y τ.1 τ.2.1 τ.2.2) H := hP
    have hD : va_D A (xW a d pr true K X Y τ.1 τ.2.1 τ.2.2) := hD
    have hs : zBn τ ∧ zSol (Nat.testBit pr) K X Y τ.1 := hs
    refine lv_aload_n hx hb dX0_pointsTo_13 rfl (lv_at hl 0 rfl) ?_
    refine va_get (D := D) (ci := 0) (v := .ref (a 4)) (C := RX0) (T := TX0) (N := 8) hx hb hts in_X0 hown hK hP 0 rfl rfl 5 (by decide) (hts _ q30) (fun _ h9 => h9) rfl dX0_pointsTo_14 ?_
    refine lv_iload_n hx hb dX0_pointsTo_17 rfl (lv_at hl 1 rfl) ?_
    refine nv_sald hx hb hK hP 4 3 rfl rfl (by omega) dX0_pointsTo_18 ?_
    exact rt_i (v := nI (τ.1 j)) hx hb hr hlk (true, τ) ⟨⟨hs.1, fun _ => hs.2⟩, Or.inr ⟨τ.1, j, hs.2, hj, rfl, rfl⟩⟩ hK hP hD hS dX0_pointsTo_19
  · refine lv_iconst (v := nI 0) hx hb dX0_pointsTo_7 (by decide) ?_
    exact rt_i (v := nI (0)) hx hb hr hlk (kn, σ) ⟨hO, Or.inl ⟨c1, rfl⟩⟩ hK hP hD hS dX0_pointsTo_8
set_option maxHeartbeats 4000000 in
set_option maxRecDepth 100000 in
/-- pointedBy(x) -/
theorem mX0_pointedBy (l : Launch) (D : va_G) (a : Nat → Nat) (d : Nat → ClassId) (pr : Nat) (kn : Bool) (K X Y : Nat → Nat) (σ : Sg) (hpr : pr < 8192) (hW : zWF K X Y) (hO : xOK pr K X Y kn σ) (x : Int32) : Ki l yX0_pointedBy cX0_pointedBy 4 (some .int) 5 116 D (xT d) (xW a d pr kn K X Y σ.1 σ.2.1 σ.2.2) [.ref (a 0), .int x] (fun r (u : Bool × Sg) => xOK pr K X Y u.1 u.2 ∧ rPb (Nat.testBit pr) K X Y x r) (fun u => xW a d pr u.1 K X Y u.2.1 u.2.2.1 u.2.2.2) := by
  refine mk_i (by decide) (Nat.le_of_ble_eq_true rfl) ?_
  intro p e s m below meth c A hx hb hml hr hlk hown hts hA hK hP hD hS ls hl
  have hown : s.vm.findClass RX0 = some m.cls := hown
  have hl : lv_has ls 4 [(0, .ref (a 0)), (1, .int (x))] := hl
  refine lv_iload_n hx hb dX0_pointedBy_0 rfl (lv_at hl 1 rfl) ?_
  refine cl_Si (n := 1) (As := [.int (x)]) (rest := []) hx hb hml hown hts (mX0_isVariable l D _ _ x) (lw_S q59 q60 q15 q61) (by decide +kernel) rfl ⟨Nat.le_of_ble_eq_true rfl, Nat.le_of_ble_eq_true rfl⟩ ⟨Nat.le_refl _, Nat.le_refl _⟩ hK hP hD hS hA hl.1 rfl (Nat.le_of_ble_eq_true rfl) dX0_pointedBy_1 (fun r _ H locs hp hP hD hS => ?_)
  have hp : r = bI (vr x) := hp
  subst hp
  refine nv_ifne (tgt := 9) hx hb dX0_pointedBy_4 (by decide) (fun c1 => ?_) (fun c1 => ?_)
  · obtain ⟨j, hj, rfl⟩ := vr_of c1
    refine lv_aload_n hx hb dX0_pointedBy_9 rfl (lv_at hl 0 rfl) ?_
    refine cl_Vv (n := 0) (As := []) (rest := []) (ci := 0) (q0 := 0) hx hb hml hown hts (mX0_solve l D a d pr kn K X Y σ hpr hW hO.1 hO.2) (lw_V q82 q84 qs2 q15 q85) (by decide +kernel) rfl ⟨Nat.le_of_ble_eq_true rfl, Nat.le_of_ble_eq_true rfl⟩ ⟨Nat.le_refl _, Nat.le_refl _⟩ hK hP hD hS hA rfl rfl hl.1 rfl (Nat.le_of_ble_eq_true rfl) dX0_pointedBy_10 (fun τ H locs hs hP hD hS => ?_)
    have hP : va_P D vwCl (xW a d pr true K X Y τ.1 τ.2.1 τ.2.2) H := hP
    have hD : va_D A (xW a d pr true K X Y τ.1 τ.2.1 τ.2.2) := hD
    have hs : zBn τ ∧ zSol (Nat.testBit pr) K X Y τ.1 := hs
    refine lv_iconst (v := nI 0) hx hb dX0_pointedBy_13 (by decide) ?_
    refine lv_istore_n (lv' := [(2, .int (nI (0))), (0, .ref (a 0)), (1, .int (nI (j)))]) hx hb dX0_pointedBy_14 rfl hl (by decide) rfl (fun ls hl => ?_)
    refine lv_iconst (v := nI 0) hx hb dX0_pointedBy_15 (by decide) ?_
    refine lv_istore_n (lv' := [(3, .int (nI (0))), (2, .int (nI (0))), (0, .ref (a 0)), (1, .int (nI (j)))]) hx hb dX0_pointedBy_16 rfl hl (by decide) rfl (fun ls hl => ?_)
    refine wl_up (pc := 17) 8 (fun i H locs ls => ∃ (n : Nat), (n = zcol (fun q => Nat.testBit (τ.1 q) j) i) ∧ va_P D vwCl (xW a d pr true K X Y τ.1 τ.2.1 τ.2.2) H ∧ va_D A (xW a d pr true K X Y τ.1 τ.2.1 τ.2.2) ∧ va_S A s.heap H locs ∧ lv_has ls 4 [(0, .ref (a 0)), (1, .int (nI (j))), (2, .int (nI (n))), (3, .int (nI (i)))]) ?_ ?_ 0 (by omega) _ _ _ ⟨0, rfl, hP, hD, hS, lv_sub hl [2, 3, 1, 0] rfl⟩
    · intro i hk H locs ls hI ih
      obtain ⟨n, e1, hP, hD, hS, hl⟩ := hI
      refine lv_iload_n hx hb dX0_pointedBy_17 rfl (lv_at hl 3 rfl) ?_
      refine lv_bipush (v := nI 8) hx hb dX0_pointedBy_18 (by decide) ?_
      refine nv_icmp_ge (tgt := 52) hx hb dX0_pointedBy_20 (by decide) (fun c0 => ?_) (fun c0 => ?_)
      · exfalso; omega
      · refine lv_iload_n hx hb dX0_pointedBy_23 rfl (lv_at hl 2 rfl) ?_
        refine lv_aload_n hx hb dX0_pointedBy_24 rfl (lv_at hl 0 rfl) ?_
        refine va_get (D := D) (ci := 0) (v := .ref (a 4)) (C := RX0) (T := TX0) (N := 8) hx hb hts in_X0 hown hK hP 0 rfl rfl 5 (by decide) (hts _ q30) (fun _ h9 => h9) rfl dX0_pointedBy_25 ?_
        refine lv_iload_n hx hb dX0_pointedBy_28 rfl (lv_at hl 3 rfl) ?_
        refine nv_sald hx hb hK hP 4 3 rfl rfl (by omega) dX0_pointedBy_29 ?_
        refine lv_iload_n hx hb dX0_pointedBy_30 rfl (lv_at hl 1 rfl) ?_
        refine cl_Si (n := 2) (As := [.int (nI (τ.1 i)), .int (nI (j))]) (rest := [.int (nI (n))]) hx hb hml hown hts (mX0_in l D _ _ (τ.1 i) (j) (by have := hs.1.1 i (by omega); omega) (by omega)) (lw_S q94 q95 q15 q96) (by decide +kernel) rfl ⟨Nat.le_of_ble_eq_true rfl, Nat.le_of_ble_eq_true rfl⟩ ⟨Nat.le_refl _, Nat.le_refl _⟩ hK hP hD hS hA hl.1 rfl (Nat.le_of_ble_eq_true rfl) dX0_pointedBy_31 (fun r _ H locs hp hP hD hS => ?_)
        have hp : r = bI (Nat.testBit (τ.1 i) j) := hp
        subst hp
        refine nv_ifeq (tgt := 43) hx hb dX0_pointedBy_34 (by decide) (fun c2 => ?_) (fun c2 => ?_)
        · refine lv_iconst (v := nI 0) hx hb dX0_pointedBy_43 (by decide) ?_
          refine nv_ior hx hb dX0_pointedBy_44 ?_
          refine lv_istore_n (lv' := [(2, .int (nI (n ||| 0))), (0, .ref (a 0)), (1, .int (nI (j))), (3, .int (nI (i)))]) hx hb dX0_pointedBy_45 rfl hl (by decide) rfl (fun ls hl => ?_)
          refine lv_iinc (v := nI (i + 1)) (lv' := [(3, .int (nI (i + 1))), (2, .int (nI (n ||| 0))), (0, .ref (a 0)), (1, .int (nI (j)))]) hx hb dX0_pointedBy_46 hl (k := 3) rfl (by exact nI_1 _) (by decide) rfl (fun ls hl => ?_)
          refine lv_goto (tgt := 17) hx hb dX0_pointedBy_49 (by decide) ?_
          exact ih _ _ _ ⟨(n ||| 0), (zcol_f0 e1 c2), hP, hD, hS, lv_sub hl [2, 3, 1, 0] rfl⟩
        · refine lv_iconst (v := nI 1) hx hb dX0_pointedBy_37 (by decide) ?_
          refine lv_iload_n hx hb dX0_pointedBy_38 rfl (lv_at hl 3 rfl) ?_
          refine nv_shl hx hb dX0_pointedBy_39 (by omega) ?_
          refine lv_goto (tgt := 44) hx hb dX0_pointedBy_40 (by decide) ?_
          refine nv_ior hx hb dX0_pointedBy_44 ?_
          refine lv_istore_n (lv' := [(2, .int (nI (n ||| (2 ^ i)))), (0, .ref (a 0)), (1, .int (nI (j))), (3, .int (nI (i)))]) hx hb dX0_pointedBy_45 rfl hl (by decide) rfl (fun ls hl => ?_)
          refine lv_iinc (v := nI (i + 1)) (lv' := [(3, .int (nI (i + 1))), (2, .int (nI (n ||| (2 ^ i)))), (0, .ref (a 0)), (1, .int (nI (j)))]) hx hb dX0_pointedBy_46 hl (k := 3) rfl (by exact nI_1 _) (by decide) rfl (fun ls hl => ?_)
          refine lv_goto (tgt := 17) hx hb dX0_pointedBy_49 (by decide) ?_
          exact ih _ _ _ ⟨(n ||| 2 ^ i), (zcol_t e1 c2), hP, hD, hS, lv_sub hl [2, 3, 1, 0] rfl⟩
    · intro H locs ls hI
      obtain ⟨n, e1, hP, hD, hS, hl⟩ := hI
      refine lv_iload_n hx hb dX0_pointedBy_17 rfl (lv_at hl 3 rfl) ?_
      refine lv_bipush (v := nI 8) hx hb dX0_pointedBy_18 (by decide) ?_
      refine nv_icmp_ge (tgt := 52) hx hb dX0_pointedBy_20 (by decide) (fun c0 => ?_) (fun c0 => ?_)
      · refine lv_iload_n hx hb dX0_pointedBy_52 rfl (lv_at hl 2 rfl) ?_
        exact rt_i (v := nI (n)) hx hb hr hlk (true, τ) ⟨⟨hs.1, fun _ => hs.2⟩, Or.inr ⟨τ.1, j, hs.2, hj, rfl, congrArg nI e1⟩⟩ hK hP hD hS dX0_pointedBy_53
      · exfalso; omega
  · refine lv_iconst (v := nI 0) hx hb dX0_pointedBy_7 (by decide) ?_
    exact rt_i (v := nI (0)) hx hb hr hlk (kn, σ) ⟨hO, Or.inl ⟨c1, rfl⟩⟩ hK hP hD hS dX0_pointedBy_8
set_option maxHeartbeats 4000000 in
set_option maxRecDepth 100000 in
/-- alias(x, y) -/
theorem mX0_alias (l : Launch) (D : va_G) (a : Nat → Nat) (d : Nat → ClassId) (pr : Nat) (kn : Bool) (K X Y : Nat → Nat) (σ : Sg) (hpr : pr < 8192) (hW : zWF K X Y) (hO : xOK pr K X Y kn σ) (x y : Int32) : Ki l yX0_alias cX0_alias 3 (some .boolean) 5 116 D (xT d) (xW a d pr kn K X Y σ.1 σ.2.1 σ.2.2) [.ref (a 0), .int x, .int y] (fun r (u : Bool × Sg) => xOK pr K X Y u.1 u.2 ∧ rAl (Nat.testBit pr) K X Y x y r) (fun u => xW a d pr u.1 K X Y u.2.1 u.2.2.1 u.2.2.2) := by
  refine mk_i (by decide) (Nat.le_of_ble_eq_true rfl) ?_
  intro p e s m below meth c A hx hb hml hr hlk hown hts hA hK hP hD hS ls hl
  have hown : s.vm.findClass RX0 = some m.cls := hown
  have hl : lv_has ls 3 [(0, .ref (a 0)), (1, .int (x)), (2, .int (y))] := hl
  refine lv_iload_n hx hb dX0_alias_0 rfl (lv_at hl 1 rfl) ?_
  refine cl_Si (n := 1) (As := [.int (x)]) (rest := []) hx hb hml hown hts (mX0_isVariable l D _ _ x) (lw_S q59 q60 q15 q61) (by decide +kernel) rfl ⟨Nat.le_of_ble_eq_true rfl, Nat.le_of_ble_eq_true rfl⟩ ⟨Nat.le_refl _, Nat.le_refl _⟩ hK hP hD hS hA hl.1 rfl (Nat.le_of_ble_eq_true rfl) dX0_alias_1 (fun r _ H locs hp hP hD hS => ?_)
  have hp : r = bI (vr x) := hp
  subst hp
  refine nv_ifeq (tgt := 19) hx hb dX0_alias_4 (by decide) (fun c1 => ?_) (fun c1 => ?_)
  · refine lv_iconst (v := bI false) hx hb dX0_alias_19 (by decide) ?_
    exact rt_z (v := false) hx hb hr hlk (kn, σ) ⟨hO, Or.inl ⟨Or.inl c1, rfl⟩⟩ hK hP hD hS dX0_alias_20
  · refine lv_iload_n hx hb dX0_alias_7 rfl (lv_at hl 2 rfl) ?_
    refine cl_Si (n := 1) (As := [.int (y)]) (rest := []) hx hb hml hown hts (mX0_isVariable l D _ _ y) (lw_S q59 q60 q15 q61) (by decide +kernel) rfl ⟨Nat.le_of_ble_eq_true rfl, Nat.le_of_ble_eq_true rfl⟩ ⟨Nat.le_refl _, Nat.le_refl _⟩ hK hP hD hS hA hl.1 rfl (Nat.le_of_ble_eq_true rfl) dX0_alias_8 (fun r _ H locs hp hP hD hS => ?_)
    have hp : r = bI (vr y) := hp
    subst hp
    refine nv_ifeq (tgt := 19) hx hb dX0_alias_11 (by decide) (fun c2 => ?_) (fun c2 => ?_)
    · refine lv_iconst (v := bI false) hx hb dX0_alias_19 (by decide) ?_
      exact rt_z (v := false) hx hb hr hlk (kn, σ) ⟨hO, Or.inl ⟨Or.inr (Or.inl c2), rfl⟩⟩ hK hP hD hS dX0_alias_20
    · obtain ⟨i, hi, rfl⟩ := vr_of c1
      obtain ⟨j, hj, rfl⟩ := vr_of c2
      refine lv_iload_n hx hb dX0_alias_14 rfl (lv_at hl 1 rfl) ?_
      refine lv_iload_n hx hb dX0_alias_15 rfl (lv_at hl 2 rfl) ?_
      refine nv_icmp_ne (tgt := 21) hx hb dX0_alias_16 (by decide) (fun c3 => ?_) (fun c3 => ?_)
      · refine lv_aload_n hx hb dX0_alias_21 rfl (lv_at hl 0 rfl) ?_
        refine cl_Vv (n := 0) (As := []) (rest := []) (ci := 0) (q0 := 0) hx hb hml hown hts (mX0_solve l D a d pr kn K X Y σ hpr hW hO.1 hO.2) (lw_V q82 q84 qs2 q15 q85) (by decide +kernel) rfl ⟨Nat.le_of_ble_eq_true rfl, Nat.le_of_ble_eq_true rfl⟩ ⟨Nat.le_refl _, Nat.le_refl _⟩ hK hP hD hS hA rfl rfl hl.1 rfl (Nat.le_of_ble_eq_true rfl) dX0_alias_22 (fun τ H locs hs hP hD hS => ?_)
        have hP : va_P D vwCl (xW a d pr true K X Y τ.1 τ.2.1 τ.2.2) H := hP
        have hD : va_D A (xW a d pr true K X Y τ.1 τ.2.1 τ.2.2) := hD
        have hs : zBn τ ∧ zSol (Nat.testBit pr) K X Y τ.1 := hs
        refine lv_aload_n hx hb dX0_alias_25 rfl (lv_at hl 0 rfl) ?_
        refine va_get (D := D) (ci := 0) (v := .ref (a 4)) (C := RX0) (T := TX0) (N := 8) hx hb hts in_X0 hown hK hP 0 rfl rfl 5 (by decide) (hts _ q30) (fun _ h9 => h9) rfl dX0_alias_26 ?_
        refine lv_iload_n hx hb dX0_alias_29 rfl (lv_at hl 1 rfl) ?_
        refine nv_sald hx hb hK hP 4 3 rfl rfl (by omega) dX0_alias_30 ?_
        refine lv_aload_n hx hb dX0_alias_31 rfl (lv_at hl 0 rfl) ?_
        refine va_get (D := D) (ci := 0) (v := .ref (a 4)) (C := RX0) (T := TX0) (N := 8) hx hb hts in_X0 hown hK hP 0 rfl rfl 5 (by decide) (hts _ q30) (fun _ h9 => h9) rfl dX0_alias_32 ?_
        refine lv_iload_n hx hb dX0_alias_35 rfl (lv_at hl 2 rfl) ?_
        refine nv_sald hx hb hK hP 4 3 rfl rfl (by omega) dX0_alias_36 ?_
        refine nv_iand hx hb dX0_alias_37 ?_
        refine nv_ifeqn (tgt := 45) hx hb dX0_alias_38 (by decide) (fun c4 => ?_) (fun c4 => ?_) (by have := z_and (b := τ.1 j) (hs.1.1 i hi); omega)
        · refine lv_iconst (v := bI false) hx hb dX0_alias_45 (by decide) ?_
          exact rt_z (v := false) hx hb hr hlk (true, τ) ⟨⟨hs.1, fun _ => hs.2⟩, Or.inr ⟨τ.1, i, j, hs.2, hi, hj, rfl, rfl, c3, congrArg bI (decide_eq_false (not_not_intro c4)).symm⟩⟩ hK hP hD hS dX0_alias_46
        · refine lv_iconst (v := bI true) hx hb dX0_alias_41 (by decide) ?_
          refine lv_goto (tgt := 46) hx hb dX0_alias_42 (by decide) ?_
          exact rt_z (v := true) hx hb hr hlk (true, τ) ⟨⟨hs.1, fun _ => hs.2⟩, Or.inr ⟨τ.1, i, j, hs.2, hi, hj, rfl, rfl, c3, congrArg bI (decide_eq_true c4).symm⟩⟩ hK hP hD hS dX0_alias_46
      · subst c3
        refine lv_iconst (v := bI false) hx hb dX0_alias_19 (by decide) ?_
        exact rt_z (v := false) hx hb hr hlk (kn, σ) ⟨hO, Or.inl ⟨Or.inr (Or.inr rfl), rfl⟩⟩ hK hP hD hS dX0_alias_20
set_option maxHeartbeats 4000000 in
set_option maxRecDepth 100000 in
/-- reach(x) -/
theorem mX0_reach (l : Launch) (D : va_G) (a : Nat → Nat) (d : Nat → ClassId) (pr : Nat) (kn : Bool) (K X Y : Nat → Nat) (σ : Sg) (hpr : pr < 8192) (hW : zWF K X Y) (hO : xOK pr K X Y kn σ) (x : Int32) : Ki l yX0_reach cX0_reach 5 (some .int) 5 116 D (xT d) (xW a d pr kn K X Y σ.1 σ.2.1 σ.2.2) [.ref (a 0), .int x] (fun r (u : Bool × Sg) => xOK pr K X Y u.1 u.2 ∧ rRc (Nat.testBit pr) K X Y x r) (fun u => xW a d pr u.1 K X Y u.2.1 u.2.2.1 u.2.2.2) := by
  refine mk_i (by decide) (Nat.le_of_ble_eq_true rfl) ?_
  intro p e s m below meth c A hx hb hml hr hlk hown hts hA hK hP hD hS ls hl
  have hown : s.vm.findClass RX0 = some m.cls := hown
  have hl : lv_has ls 5 [(0, .ref (a 0)), (1, .int (x))] := hl
  refine lv_iload_n hx hb dX0_reach_0 rfl (lv_at hl 1 rfl) ?_
  refine cl_Si (n := 1) (As := [.int (x)]) (rest := []) hx hb hml hown hts (mX0_isVariable l D _ _ x) (lw_S q59 q60 q15 q61) (by decide +kernel) rfl ⟨Nat.le_of_ble_eq_true rfl, Nat.le_of_ble_eq_true rfl⟩ ⟨Nat.le_refl _, Nat.le_refl _⟩ hK hP hD hS hA hl.1 rfl (Nat.le_of_ble_eq_true rfl) dX0_reach_1 (fun r _ H locs hp hP hD hS => ?_)
  have hp : r = bI (vr x) := hp
  subst hp
  refine nv_ifne (tgt := 9) hx hb dX0_reach_4 (by decide) (fun c1 => ?_) (fun c1 => ?_)
  · obtain ⟨j, hj, rfl⟩ := vr_of c1
    refine lv_aload_n hx hb dX0_reach_9 rfl (lv_at hl 0 rfl) ?_
    refine cl_Vv (n := 0) (As := []) (rest := []) (ci := 0) (q0 := 0) hx hb hml hown hts (mX0_solve l D a d pr kn K X Y σ hpr hW hO.1 hO.2) (lw_V q82 q84 qs2 q15 q85) (by decide +kernel) rfl ⟨Nat.le_of_ble_eq_true rfl, Nat.le_of_ble_eq_true rfl⟩ ⟨Nat.le_refl _, Nat.le_refl _⟩ hK hP hD hS hA rfl rfl hl.1 rfl (Nat.le_of_ble_eq_true rfl) dX0_reach_10 (fun τ H locs hs hP hD hS => ?_)
    have hP : va_P D vwCl (xW a d pr true K X Y τ.1 τ.2.1 τ.2.2) H := hP
    have hD : va_D A (xW a d pr true K X Y τ.1 τ.2.1 τ.2.2) := hD
    have hs : zBn τ ∧ zSol (Nat.testBit pr) K X Y τ.1 := hs
    refine lv_aload_n hx hb dX0_reach_13 rfl (lv_at hl 0 rfl) ?_
    refine va_get (D := D) (ci := 0) (v := .ref (a 4)) (C := RX0) (T := TX0) (N := 8) hx hb hts in_X0 hown hK hP 0 rfl rfl 5 (by decide) (hts _ q30) (fun _ h9 => h9) rfl dX0_reach_14 ?_
    refine lv_iload_n hx hb dX0_reach_17 rfl (lv_at hl 1 rfl) ?_
    refine nv_sald hx hb hK hP 4 3 rfl rfl (by omega) dX0_reach_18 ?_
    refine lv_istore_n (lv' := [(2, .int (nI (τ.1 j))), (0, .ref (a 0)), (1, .int (nI (j)))]) hx hb dX0_reach_19 rfl hl (by decide) rfl (fun ls hl => ?_)
    refine lv_iconst (v := nI 0) hx hb dX0_reach_20 (by decide) ?_
    refine lv_istore_n (lv' := [(3, .int (nI (0))), (2, .int (nI (τ.1 j))), (0, .ref (a 0)), (1, .int (nI (j)))]) hx hb dX0_reach_21 rfl hl (by decide) rfl (fun ls hl => ?_)
    refine wl_up (pc := 22) 8 (fun q H locs ls => ∃ (n : Nat), (n = zrch τ.1 (τ.1 j) (8 * q)) ∧ va_P D vwCl (xW a d pr true K X Y τ.1 τ.2.1 τ.2.2) H ∧ va_D A (xW a d pr true K X Y τ.1 τ.2.1 τ.2.2) ∧ va_S A s.heap H locs ∧ lv_has ls 5 [(0, .ref (a 0)), (1, .int (nI (j))), (2, .int (nI (n))), (3, .int (nI (q)))]) ?_ ?_ 0 (by omega) _ _ _ ⟨(τ.1 j), rfl, hP, hD, hS, lv_sub hl [2, 3, 1, 0] rfl⟩
    · intro q hk H locs ls hI ih
      obtain ⟨n, e1, hP, hD, hS, hl⟩ := hI
      refine lv_iload_n hx hb dX0_reach_22 rfl (lv_at hl 3 rfl) ?_
      refine lv_bipush (v := nI 8) hx hb dX0_reach_23 (by decide) ?_
      refine nv_icmp_ge (tgt := 73) hx hb dX0_reach_25 (by decide) (fun c0 => ?_) (fun c0 => ?_)
      · exfalso; omega
      · refine lv_iconst (v := nI 0) hx hb dX0_reach_28 (by decide) ?_
        refine lv_istore (lv' := [(4, .int (nI (0))), (0, .ref (a 0)), (1, .int (nI (j))), (2, .int (nI (n))), (3, .int (nI (q)))]) hx hb dX0_reach_29 hl (by decide) rfl (fun ls hl => ?_)
        refine wl_up (pc := 31) 8 (fun y H locs ls => ∃ (n2 : Nat), (n2 = zrch τ.1 (τ.1 j) (8 * q + y)) ∧ va_P D vwCl (xW a d pr true K X Y τ.1 τ.2.1 τ.2.2) H ∧ va_D A (xW a d pr true K X Y τ.1 τ.2.1 τ.2.2) ∧ va_S A s.heap H locs ∧ lv_has ls 5 [(0, .ref (a 0)), (1, .int (nI (j))), (2, .int (nI (n2))), (3, .int (nI (q))), (4, .int (nI (y)))]) ?_ ?_ 0 (by omega) _ _ _ ⟨n, e1, hP, hD, hS, lv_sub hl [1, 2, 3, 4, 0] rfl⟩
        · intro y hk H locs ls hI ih
          obtain ⟨n2, e2, hP, hD, hS, hl⟩ := hI
          refine lv_iload hx hb dX0_reach_31 (lv_at hl 4 rfl) ?_
          refine lv_bipush (v := nI 8) hx hb dX0_reach_33 (by decide) ?_
          refine nv_icmp_ge (tgt := 67) hx hb dX0_reach_35 (by decide) (fun c0 => ?_) (fun c0 => ?_)
          · exfalso; omega
          · refine lv_iload_n hx hb dX0_reach_38 rfl (lv_at hl 2 rfl) ?_
            refine lv_iload_n hx hb dX0_reach_39 rfl (lv_at hl 2 rfl) ?_
            refine lv_iload hx hb dX0_reach_40 (lv_at hl 4 rfl) ?_
            refine cl_Si (n := 2) (As := [.int (nI (n2)), .int (nI (y))]) (rest := [.int (nI (n2))]) hx hb hml hown hts (mX0_in l D _ _ (n2) (y) (by rw [e2]; have := zrch_lt hs.2.1 (hs.2.1 j hj) (8 * q + y); omega) (by omega)) (lw_S q94 q95 q15 q96) (by decide +kernel) rfl ⟨Nat.le_of_ble_eq_true rfl, Nat.le_of_ble_eq_true rfl⟩ ⟨Nat.le_refl _, Nat.le_refl _⟩ hK hP hD hS hA hl.1 rfl (Nat.le_of_ble_eq_true rfl) dX0_reach_42 (fun r _ H locs hp hP hD hS => ?_)
            have hp : r = bI (Nat.testBit n2 y) := hp
            subst hp
            refine nv_ifeq (tgt := 58) hx hb dX0_reach_45 (by decide) (fun c2 => ?_) (fun c2 => ?_)
            · refine lv_iconst (v := nI 0) hx hb dX0_reach_58 (by decide) ?_
              refine nv_ior hx hb dX0_reach_59 ?_
              refine lv_istore_n (lv' := [(2, .int (nI (n2 ||| 0))), (0, .ref (a 0)), (1, .int (nI (j))), (3, .int (nI (q))), (4, .int (nI (y)))]) hx hb dX0_reach_60 rfl hl (by decide) rfl (fun ls hl => ?_)
              refine lv_iinc (v := nI (y + 1)) (lv' := [(4, .int (nI (y + 1))), (2, .int (nI (n2 ||| 0))), (0, .ref (a 0)), (1, .int (nI (j))), (3, .int (nI (q)))]) hx hb dX0_reach_61 hl (k := 4) rfl (by exact nI_1 _) (by decide) rfl (fun ls hl => ?_)
              refine lv_goto (tgt := 31) hx hb dX0_reach_64 (by decide) ?_
              exact ih _ _ _ ⟨(n2 ||| 0), (zrch_f0 (c := 8 * q + y) e2 (by omega) c2), hP, hD, hS, lv_sub hl [2, 3, 1, 4, 0] rfl⟩
            · refine lv_aload_n hx hb dX0_reach_48 rfl (lv_at hl 0 rfl) ?_
              refine va_get (D := D) (ci := 0) (v := .ref (a 4)) (C := RX0) (T := TX0) (N := 8) hx hb hts in_X0 hown hK hP 0 rfl rfl 5 (by decide) (hts _ q30) (fun _ h9 => h9) rfl dX0_reach_49 ?_
              refine lv_iload hx hb dX0_reach_52 (lv_at hl 4 rfl) ?_
              refine nv_sald hx hb hK hP 4 3 rfl rfl (by omega) dX0_reach_54 ?_
              refine lv_goto (tgt := 59) hx hb dX0_reach_55 (by decide) ?_
              refine nv_ior hx hb dX0_reach_59 ?_
              refine lv_istore_n (lv' := [(2, .int (nI (n2 ||| (τ.1 y)))), (0, .ref (a 0)), (1, .int (nI (j))), (3, .int (nI (q))), (4, .int (nI (y)))]) hx hb dX0_reach_60 rfl hl (by decide) rfl (fun ls hl => ?_)
              refine lv_iinc (v := nI (y + 1)) (lv' := [(4, .int (nI (y + 1))), (2, .int (nI (n2 ||| (τ.1 y)))), (0, .ref (a 0)), (1, .int (nI (j))), (3, .int (nI (q)))]) hx hb dX0_reach_61 hl (k := 4) rfl (by exact nI_1 _) (by decide) rfl (fun ls hl => ?_)
              refine lv_goto (tgt := 31) hx hb dX0_reach_64 (by decide) ?_
              exact ih _ _ _ ⟨(n2 ||| τ.1 y), (zrch_t (c := 8 * q + y) e2 (by omega) c2), hP, hD, hS, lv_sub hl [2, 3, 1, 4, 0] rfl⟩
        · intro H locs ls hI
          obtain ⟨n2, e2, hP, hD, hS, hl⟩ := hI
          refine lv_iload hx hb dX0_reach_31 (lv_at hl 4 rfl) ?_
          refine lv_bipush (v := nI 8) hx hb dX0_reach_33 (by decide) ?_
          refine nv_icmp_ge (tgt := 67) hx hb dX0_reach_35 (by decide) (fun c0 => ?_) (fun c0 => ?_)
          · refine lv_iinc (v := nI (q + 1)) (lv' := [(3, .int (nI (q + 1))), (0, .ref (a 0)), (1, .int (nI (j))), (2, .int (nI (n2))), (4, .int (nI (8)))]) hx hb dX0_reach_67 hl (k := 3) rfl (by exact nI_1 _) (by decide) rfl (fun ls hl => ?_)
            refine lv_goto (tgt := 22) hx hb dX0_reach_70 (by decide) ?_
            exact ih _ _ _ ⟨n2, (by rw [e2, show 8 * (q + 1) = 8 * q + 8 by omega]), hP, hD, hS, lv_sub hl [1, 2, 3, 0] rfl⟩
          · exfalso; omega
    · intro H locs ls hI
      obtain ⟨n, e1, hP, hD, hS, hl⟩ := hI
      refine lv_iload_n hx hb dX0_reach_22 rfl (lv_at hl 3 rfl) ?_
      refine lv_bipush (v := nI 8) hx hb dX0_reach_23 (by decide) ?_
      refine nv_icmp_ge (tgt := 73) hx hb dX0_reach_25 (by decide) (fun c0 => ?_) (fun c0 => ?_)
      · refine lv_iload_n hx hb dX0_reach_73 rfl (lv_at hl 2 rfl) ?_
        exact rt_i (v := nI (n)) hx hb hr hlk (true, τ) ⟨⟨hs.1, fun _ => hs.2⟩, Or.inr ⟨τ.1, j, hs.2, hj, rfl, congrArg nI e1⟩⟩ hK hP hD hS dX0_reach_74
      · exfalso; omega
  · refine lv_iconst (v := nI 0) hx hb dX0_reach_7 (by decide) ?_
    exact rt_i (v := nI (0)) hx hb hr hlk (kn, σ) ⟨hO, Or.inl ⟨c1, rfl⟩⟩ hK hP hD hS dX0_reach_8
set_option maxHeartbeats 4000000 in
set_option maxRecDepth 100000 in
/-- flows(x, y) -/
theorem mX0_flows (l : Launch) (D : va_G) (a : Nat → Nat) (d : Nat → ClassId) (pr : Nat) (kn : Bool) (K X Y : Nat → Nat) (σ : Sg) (hpr : pr < 8192) (hW : zWF K X Y) (hO : xOK pr K X Y kn σ) (x y : Int32) : Ki l yX0_flows cX0_flows 7 (some .boolean) 1 21 D (xT d) (xW a d pr kn K X Y σ.1 σ.2.1 σ.2.2) [.ref (a 0), .int x, .int y] (fun r (u : Bool × Sg) => xOK pr K X Y u.1 u.2 ∧ rFl (Nat.testBit pr) K X Y x y r) (fun u => xW a d pr u.1 K X Y u.2.1 u.2.2.1 u.2.2.2) := by
  refine mk_i (by decide) (Nat.le_of_ble_eq_true rfl) ?_
  intro p e s m below meth c A hx hb hml hr hlk hown hts hA hK hP hD hS ls hl
  have hown : s.vm.findClass RX0 = some m.cls := hown
  have hl : lv_has ls 7 [(0, .ref (a 0)), (1, .int (x)), (2, .int (y))] := hl
  refine lv_iload_n hx hb dX0_flows_0 rfl (lv_at hl 1 rfl) ?_
  refine cl_Si (n := 1) (As := [.int (x)]) (rest := []) hx hb hml hown hts (mX0_isVariable l D _ _ x) (lw_S q59 q60 q15 q61) (by decide +kernel) rfl ⟨Nat.le_of_ble_eq_true rfl, Nat.le_of_ble_eq_true rfl⟩ ⟨Nat.le_refl _, Nat.le_refl _⟩ hK hP hD hS hA hl.1 rfl (Nat.le_of_ble_eq_true rfl) dX0_flows_1 (fun r _ H locs hp hP hD hS => ?_)
  have hp : r = bI (vr x) := hp
  subst hp
  refine nv_ifeq (tgt := 14) hx hb dX0_flows_4 (by decide) (fun c1 => ?_) (fun c1 => ?_)
  · refine lv_iconst (v := bI false) hx hb dX0_flows_14 (by decide) ?_
    exact rt_z (v := false) hx hb hr hlk (kn, σ) ⟨hO, Or.inl ⟨Or.inl c1, rfl⟩⟩ hK hP hD hS dX0_flows_15
  · refine lv_iload_n hx hb dX0_flows_7 rfl (lv_at hl 2 rfl) ?_
    refine cl_Si (n := 1) (As := [.int (y)]) (rest := []) hx hb hml hown hts (mX0_isVariable l D _ _ y) (lw_S q59 q60 q15 q61) (by decide +kernel) rfl ⟨Nat.le_of_ble_eq_true rfl, Nat.le_of_ble_eq_true rfl⟩ ⟨Nat.le_refl _, Nat.le_refl _⟩ hK hP hD hS hA hl.1 rfl (Nat.le_of_ble_eq_true rfl) dX0_flows_8 (fun r _ H locs hp hP hD hS => ?_)
    have hp : r = bI (vr y) := hp
    subst hp
    refine nv_ifne (tgt := 16) hx hb dX0_flows_11 (by decide) (fun c2 => ?_) (fun c2 => ?_)
    · obtain ⟨i, hi, rfl⟩ := vr_of c1
      obtain ⟨j, hj, rfl⟩ := vr_of c2
      refine lv_iconst (v := nI 1) hx hb dX0_flows_16 (by decide) ?_
      refine lv_iload_n hx hb dX0_flows_17 rfl (lv_at hl 2 rfl) ?_
      refine nv_shl hx hb dX0_flows_18 (by omega) ?_
      refine lv_istore_n (lv' := [(3, .int (nI (2 ^ j))), (0, .ref (a 0)), (1, .int (nI (i))), (2, .int (nI (j)))]) hx hb dX0_flows_19 rfl hl (by decide) rfl (fun ls hl => ?_)
      refine lv_iconst (v := nI 0) hx hb dX0_flows_20 (by decide) ?_
      refine lv_istore (lv' := [(4, .int (nI (0))), (3, .int (nI (2 ^ j))), (0, .ref (a 0)), (1, .int (nI (i))), (2, .int (nI (j)))]) hx hb dX0_flows_21 hl (by decide) rfl (fun ls hl => ?_)
      have hz : ∀ c, zfl (zon (Nat.testBit pr) K) Y X (2 ^ j) c < 256 := zfl_lt (fun k hk => (hW k (by omega)).2.1) (z_2p hj)
      refine wl_up (pc := 23) 8 (fun q H locs ls => ∃ (n : Nat), (n = zfl (zon (Nat.testBit pr) K) Y X (2 ^ j) (12 * q)) ∧ va_P D vwCl (xW a d pr kn K X Y σ.1 σ.2.1 σ.2.2) H ∧ va_D A (xW a d pr kn K X Y σ.1 σ.2.1 σ.2.2) ∧ va_S A s.heap H locs ∧ lv_has ls 7 [(0, .ref (a 0)), (1, .int (nI (i))), (2, .int (nI (j))), (3, .int (nI (n))), (4, .int (nI (q)))]) ?_ ?_ 0 (by omega) _ _ _ ⟨(2 ^ j), rfl, hP, hD, hS, lv_sub hl [2, 3, 4, 1, 0] rfl⟩
      · intro q hk H locs ls hI ih
        obtain ⟨n, e1, hP, hD, hS, hl⟩ := hI
        refine lv_iload hx hb dX0_flows_23 (lv_at hl 4 rfl) ?_
        refine lv_bipush (v := nI 8) hx hb dX0_flows_25 (by decide) ?_
        refine nv_icmp_ge (tgt := 114) hx hb dX0_flows_27 (by decide) (fun c0 => ?_) (fun c0 => ?_)
        · exfalso; omega
        · refine lv_iconst (v := nI 0) hx hb dX0_flows_30 (by decide) ?_
          refine lv_istore (lv' := [(5, .int (nI (0))), (0, .ref (a 0)), (1, .int (nI (i))), (2, .int (nI (j))), (3, .int (nI (n))), (4, .int (nI (q)))]) hx hb dX0_flows_31 hl (by decide) rfl (fun ls hl => ?_)
          refine wl_up (pc := 33) 12 (fun k H locs ls => ∃ (n2 : Nat), (n2 = zfl (zon (Nat.testBit pr) K) Y X (2 ^ j) (12 * q + k)) ∧ va_P D vwCl (xW a d pr kn K X Y σ.1 σ.2.1 σ.2.2) H ∧ va_D A (xW a d pr kn K X Y σ.1 σ.2.1 σ.2.2) ∧ va_S A s.heap H locs ∧ lv_has ls 7 [(0, .ref (a 0)), (1, .int (nI (i))), (2, .int (nI (j))), (3, .int (nI (n2))), (4, .int (nI (q))), (5, .int (nI (k)))]) ?_ ?_ 0 (by omega) _ _ _ ⟨n, e1, hP, hD, hS, lv_sub hl [1, 2, 3, 4, 5, 0] rfl⟩
          · intro k hk H locs ls hI ih
            obtain ⟨n2, e2, hP, hD, hS, hl⟩ := hI
            refine lv_iload hx hb dX0_flows_33 (lv_at hl 5 rfl) ?_
            refine lv_bipush (v := nI 12) hx hb dX0_flows_35 (by decide) ?_
            refine nv_icmp_ge (tgt := 108) hx hb dX0_flows_37 (by decide) (fun c0 => ?_) (fun c0 => ?_)
            · exfalso; omega
            · obtain ⟨w1, w2, w3⟩ := hW k (by omega)
              have hn2 : n2 < 256 := by rw [e2]; exact hz _
              refine lv_aload_n hx hb dX0_flows_40 rfl (lv_at hl 0 rfl) ?_
              refine lv_iload hx hb dX0_flows_41 (lv_at hl 5 rfl) ?_
              refine cl_Vi (n := 1) (As := [.int (nI (k))]) (rest := []) (ci := 0) (q0 := 0) hx hb hml hown hts (mX0_has l D a d pr kn K X Y σ.1 σ.2.1 σ.2.2 (nI k) hpr) (lw_V q62 q64 qs0 q15 q65) (by decide +kernel) rfl ⟨Nat.le_of_ble_eq_true rfl, Nat.le_of_ble_eq_true rfl⟩ ⟨Nat.le_refl _, Nat.le_refl _⟩ hK hP hD hS hA rfl rfl hl.1 rfl (Nat.le_of_ble_eq_true rfl) dX0_flows_43 (fun r _ H locs hp hP hD hS => ?_)
              have hp : r = bI (Nat.testBit pr k) := hp.trans (congrArg bI (hsb_n (by omega)))
              subst hp
              refine nv_ifeq (tgt := 78) hx hb dX0_flows_46 (by decide) (fun c3 => ?_) (fun c3 => ?_)
              · refine lv_iconst (v := bI false) hx hb dX0_flows_78 (by decide) ?_
                refine lv_istore (lv' := [(6, .int (bI (false))), (0, .ref (a 0)), (1, .int (nI (i))), (2, .int (nI (j))), (3, .int (nI (n2))), (4, .int (nI (q))), (5, .int (nI (k)))]) hx hb dX0_flows_79 hl (by decide) rfl (fun ls hl => ?_)
                refine lv_iload_n hx hb dX0_flows_81 rfl (lv_at hl 4 rfl) ?_
                refine lv_iload hx hb dX0_flows_82 (lv_at hl 0 rfl) ?_
                refine nv_ifeq (tgt := 99) hx hb dX0_flows_84 (by decide) (fun c9 => ?_) (fun c9 => ?_)
                · refine lv_iconst (v := nI 0) hx hb dX0_flows_99 (by decide) ?_
                  refine nv_ior hx hb dX0_flows_100 ?_
                  refine lv_istore_n (lv' := [(3, .int (nI (n2 ||| 0))), (6, .int (bI (false))), (0, .ref (a 0)), (1, .int (nI (i))), (2, .int (nI (j))), (4, .int (nI (q))), (5, .int (nI (k)))]) hx hb dX0_flows_101 rfl hl (by decide) rfl (fun ls hl => ?_)
                  refine lv_iinc (v := nI (k + 1)) (lv' := [(5, .int (nI (k + 1))), (3, .int (nI (n2 ||| 0))), (6, .int (bI (false))), (0, .ref (a 0)), (1, .int (nI (i))), (2, .int (nI (j))), (4, .int (nI (q)))]) hx hb dX0_flows_102 hl (k := 6) rfl (by exact nI_1 _) (by decide) rfl (fun ls hl => ?_)
                  refine lv_goto (tgt := 33) hx hb dX0_flows_105 (by decide) ?_
                  exact ih _ _ _ ⟨(n2 ||| 0), (by rw [Nat.or_zero]; exact zfl_f1 (c := 12 * q + k) e2 (by omega) (zon_f c3)), hP, hD, hS, lv_sub hl [3, 4, 5, 1, 6, 0] rfl⟩
                · cases c9
              · refine lv_aload_n hx hb dX0_flows_49 rfl (lv_at hl 0 rfl) ?_
                refine va_get (D := D) (ci := 0) (v := .ref (a 1)) (C := RX0) (T := TX0) (N := 8) hx hb hts in_X0 hown hK hP 0 rfl rfl 1 (by decide) (hts _ q26) (fun _ h9 => h9) rfl dX0_flows_50 ?_
                refine lv_iload hx hb dX0_flows_53 (lv_at hl 5 rfl) ?_
                refine nv_bald hx hb hK hP 1 0 rfl rfl (by omega) dX0_flows_55 ?_
                refine lv_iconst (v := nI 1) hx hb dX0_flows_56 (by decide) ?_
                refine nv_icmp_ne (tgt := 78) hx hb dX0_flows_57 (by decide) (fun c4 => ?_) (fun c4 => ?_)
                · refine lv_iconst (v := bI false) hx hb dX0_flows_78 (by decide) ?_
                  refine lv_istore (lv' := [(6, .int (bI (false))), (0, .ref (a 0)), (1, .int (nI (i))), (2, .int (nI (j))), (3, .int (nI (n2))), (4, .int (nI (q))), (5, .int (nI (k)))]) hx hb dX0_flows_79 hl (by decide) rfl (fun ls hl => ?_)
                  refine lv_iload_n hx hb dX0_flows_81 rfl (lv_at hl 4 rfl) ?_
                  refine lv_iload hx hb dX0_flows_82 (lv_at hl 0 rfl) ?_
                  refine nv_ifeq (tgt := 99) hx hb dX0_flows_84 (by decide) (fun c9 => ?_) (fun c9 => ?_)
                  · refine lv_iconst (v := nI 0) hx hb dX0_flows_99 (by decide) ?_
                    refine nv_ior hx hb dX0_flows_100 ?_
                    refine lv_istore_n (lv' := [(3, .int (nI (n2 ||| 0))), (6, .int (bI (false))), (0, .ref (a 0)), (1, .int (nI (i))), (2, .int (nI (j))), (4, .int (nI (q))), (5, .int (nI (k)))]) hx hb dX0_flows_101 rfl hl (by decide) rfl (fun ls hl => ?_)
                    refine lv_iinc (v := nI (k + 1)) (lv' := [(5, .int (nI (k + 1))), (3, .int (nI (n2 ||| 0))), (6, .int (bI (false))), (0, .ref (a 0)), (1, .int (nI (i))), (2, .int (nI (j))), (4, .int (nI (q)))]) hx hb dX0_flows_102 hl (k := 6) rfl (by exact nI_1 _) (by decide) rfl (fun ls hl => ?_)
                    refine lv_goto (tgt := 33) hx hb dX0_flows_105 (by decide) ?_
                    exact ih _ _ _ ⟨(n2 ||| 0), (by rw [Nat.or_zero]; exact zfl_f1 (c := 12 * q + k) e2 (by omega) (zon_f2 c4)), hP, hD, hS, lv_sub hl [3, 4, 5, 1, 6, 0] rfl⟩
                  · cases c9
                · refine lv_iload_n hx hb dX0_flows_60 rfl (lv_at hl 3 rfl) ?_
                  refine lv_aload_n hx hb dX0_flows_61 rfl (lv_at hl 0 rfl) ?_
                  refine va_get (D := D) (ci := 0) (v := .ref (a 3)) (C := RX0) (T := TX0) (N := 8) hx hb hts in_X0 hown hK hP 0 rfl rfl 3 (by decide) (hts _ q28) (fun _ h9 => h9) rfl dX0_flows_62 ?_
                  refine lv_iload hx hb dX0_flows_65 (lv_at hl 5 rfl) ?_
                  refine nv_bald hx hb hK hP 3 2 rfl rfl (by omega) dX0_flows_67 ?_
                  refine cl_Si (n := 2) (As := [.int (nI (n2)), .int (nI (Y k))]) (rest := []) hx hb hml hown hts (mX0_in l D _ _ (n2) (Y k) (by omega) (by omega)) (lw_S q94 q95 q15 q96) (by decide +kernel) rfl ⟨Nat.le_of_ble_eq_true rfl, Nat.le_of_ble_eq_true rfl⟩ ⟨Nat.le_refl _, Nat.le_refl _⟩ hK hP hD hS hA hl.1 rfl (Nat.le_of_ble_eq_true rfl) dX0_flows_68 (fun r _ H locs hp hP hD hS => ?_)
                  have hp : r = bI (Nat.testBit n2 (Y k)) := hp
                  subst hp
                  refine nv_ifeq (tgt := 78) hx hb dX0_flows_71 (by decide) (fun c5 => ?_) (fun c5 => ?_)
                  · refine lv_iconst (v := bI false) hx hb dX0_flows_78 (by decide) ?_
                    refine lv_istore (lv' := [(6, .int (bI (false))), (0, .ref (a 0)), (1, .int (nI (i))), (2, .int (nI (j))), (3, .int (nI (n2))), (4, .int (nI (q))), (5, .int (nI (k)))]) hx hb dX0_flows_79 hl (by decide) rfl (fun ls hl => ?_)
                    refine lv_iload_n hx hb dX0_flows_81 rfl (lv_at hl 4 rfl) ?_
                    refine lv_iload hx hb dX0_flows_82 (lv_at hl 0 rfl) ?_
                    refine nv_ifeq (tgt := 99) hx hb dX0_flows_84 (by decide) (fun c9 => ?_) (fun c9 => ?_)
                    · refine lv_iconst (v := nI 0) hx hb dX0_flows_99 (by decide) ?_
                      refine nv_ior hx hb dX0_flows_100 ?_
                      refine lv_istore_n (lv' := [(3, .int (nI (n2 ||| 0))), (6, .int (bI (false))), (0, .ref (a 0)), (1, .int (nI (i))), (2, .int (nI (j))), (4, .int (nI (q))), (5, .int (nI (k)))]) hx hb dX0_flows_101 rfl hl (by decide) rfl (fun ls hl => ?_)
                      refine lv_iinc (v := nI (k + 1)) (lv' := [(5, .int (nI (k + 1))), (3, .int (nI (n2 ||| 0))), (6, .int (bI (false))), (0, .ref (a 0)), (1, .int (nI (i))), (2, .int (nI (j))), (4, .int (nI (q)))]) hx hb dX0_flows_102 hl (k := 6) rfl (by exact nI_1 _) (by decide) rfl (fun ls hl => ?_)
                      refine lv_goto (tgt := 33) hx hb dX0_flows_105 (by decide) ?_
                      exact ih _ _ _ ⟨(n2 ||| 0), (by rw [Nat.or_zero]; exact zfl_f2 (c := 12 * q + k) e2 (by omega) c5), hP, hD, hS, lv_sub hl [3, 4, 5, 1, 6, 0] rfl⟩
                    · cases c9
                  · refine lv_iconst (v := bI true) hx hb dX0_flows_74 (by decide) ?_
                    refine lv_goto (tgt := 79) hx hb dX0_flows_75 (by decide) ?_
                    refine lv_istore (lv' := [(6, .int (bI (true))), (0, .ref (a 0)), (1, .int (nI (i))), (2, .int (nI (j))), (3, .int (nI (n2))), (4, .int (nI (q))), (5, .int (nI (k)))]) hx hb dX0_flows_79 hl (by decide) rfl (fun ls hl => ?_)
                    refine lv_iload_n hx hb dX0_flows_81 rfl (lv_at hl 4 rfl) ?_
                    refine lv_iload hx hb dX0_flows_82 (lv_at hl 0 rfl) ?_
                    refine nv_ifeq (tgt := 99) hx hb dX0_flows_84 (by decide) (fun c9 => ?_) (fun c9 => ?_)
                    · cases c9
                    · refine lv_iconst (v := nI 1) hx hb dX0_flows_87 (by decide) ?_
                      refine lv_aload_n hx hb dX0_flows_88 rfl (lv_at hl 1 rfl) ?_
                      refine va_get (D := D) (ci := 0) (v := .ref (a 2)) (C := RX0) (T := TX0) (N := 8) hx hb hts in_X0 hown hK hP 0 rfl rfl 2 (by decide) (hts _ q27) (fun _ h9 => h9) rfl dX0_flows_89 ?_
                      refine lv_iload hx hb dX0_flows_92 (lv_at hl 6 rfl) ?_
                      refine nv_bald hx hb hK hP 2 1 rfl rfl (by omega) dX0_flows_94 ?_
                      refine nv_shl hx hb dX0_flows_95 (by omega) ?_
                      refine lv_goto (tgt := 100) hx hb dX0_flows_96 (by decide) ?_
                      refine nv_ior hx hb dX0_flows_100 ?_
                      refine lv_istore_n (lv' := [(3, .int (nI (n2 ||| (2 ^ (X k))))), (6, .int (bI (true))), (0, .ref (a 0)), (1, .int (nI (i))), (2, .int (nI (j))), (4, .int (nI (q))), (5, .int (nI (k)))]) hx hb dX0_flows_101 rfl hl (by decide) rfl (fun ls hl => ?_)
                      refine lv_iinc (v := nI (k + 1)) (lv' := [(5, .int (nI (k + 1))), (3, .int (nI (n2 ||| (2 ^ (X k))))), (6, .int (bI (true))), (0, .ref (a 0)), (1, .int (nI (i))), (2, .int (nI (j))), (4, .int (nI (q)))]) hx hb dX0_flows_102 hl (k := 6) rfl (by exact nI_1 _) (by decide) rfl (fun ls hl => ?_)
                      refine lv_goto (tgt := 33) hx hb dX0_flows_105 (by decide) ?_
                      exact ih _ _ _ ⟨(n2 ||| 2 ^ X k), (zfl_t (c := 12 * q + k) e2 (by omega) (zon_t c3 c4) c5), hP, hD, hS, lv_sub hl [3, 4, 5, 1, 6, 0] rfl⟩
          · intro H locs ls hI
            obtain ⟨n2, e2, hP, hD, hS, hl⟩ := hI
            refine lv_iload hx hb dX0_flows_33 (lv_at hl 5 rfl) ?_
            refine lv_bipush (v := nI 12) hx hb dX0_flows_35 (by decide) ?_
            refine nv_icmp_ge (tgt := 108) hx hb dX0_flows_37 (by decide) (fun c0 => ?_) (fun c0 => ?_)
            · refine lv_iinc (v := nI (q + 1)) (lv' := [(4, .int (nI (q + 1))), (0, .ref (a 0)), (1, .int (nI (i))), (2, .int (nI (j))), (3, .int (nI (n2))), (5, .int (nI (12)))]) hx hb dX0_flows_108 hl (k := 4) rfl (by exact nI_1 _) (by decide) rfl (fun ls hl => ?_)
              refine lv_goto (tgt := 23) hx hb dX0_flows_111 (by decide) ?_
              exact ih _ _ _ ⟨n2, (by rw [e2, show 12 * (q + 1) = 12 * q + 12 by omega]), hP, hD, hS, lv_sub hl [1, 2, 3, 4, 0] rfl⟩
            · exfalso; omega
      · intro H locs ls hI
        obtain ⟨n, e1, hP, hD, hS, hl⟩ := hI
        refine lv_iload hx hb dX0_flows_23 (lv_at hl 4 rfl) ?_
        refine lv_bipush (v := nI 8) hx hb dX0_flows_25 (by decide) ?_
        refine nv_icmp_ge (tgt := 114) hx hb dX0_flows_27 (by decide) (fun c0 => ?_) (fun c0 => ?_)
        · refine lv_iload_n hx hb dX0_flows_114 rfl (lv_at hl 3 rfl) ?_
          refine lv_iload_n hx hb dX0_flows_115 rfl (lv_at hl 1 rfl) ?_
          refine cl_Si (n := 2) (As := [.int (nI (n)), .int (nI (i))]) (rest := []) hx hb hml hown hts (mX0_in l D _ _ (n) (i) (by rw [e1]; have := hz (12 * 8); omega) (by omega)) (lw_S q94 q95 q15 q96) (by decide +kernel) rfl ⟨Nat.le_of_ble_eq_true rfl, Nat.le_of_ble_eq_true rfl⟩ ⟨Nat.le_refl _, Nat.le_refl _⟩ hK hP hD hS hA hl.1 rfl (Nat.le_of_ble_eq_true rfl) dX0_flows_116 (fun r _ H locs hp hP hD hS => ?_)
          have hp : r = bI (Nat.testBit n i) := hp
          subst hp
          exact rt_z (v := Nat.testBit n i) hx hb hr hlk (kn, σ) ⟨hO, Or.inr ⟨i, j, hi, hj, rfl, rfl, congrArg (fun z => bI (Nat.testBit z i)) e1⟩⟩ hK hP hD hS dX0_flows_119
        · exfalso; omega
    · refine lv_iconst (v := bI false) hx hb dX0_flows_14 (by decide) ?_
      exact rt_z (v := false) hx hb hr hlk (kn, σ) ⟨hO, Or.inl ⟨Or.inr c2, rfl⟩⟩ hK hP hD hS dX0_flows_15
set_option maxHeartbeats 4000000 in
set_option maxRecDepth 100000 in
/-- total() -/
theorem mX0_total (l : Launch) (D : va_G) (a : Nat → Nat) (d : Nat → ClassId) (pr : Nat) (kn : Bool) (K X Y : Nat → Nat) (σ : Sg) (hpr : pr < 8192) (hW : zWF K X Y) (hO : xOK pr K X Y kn σ) : Ki l yX0_total cX0_total 4 (some .int) 5 116 D (xT d) (xW a d pr kn K X Y σ.1 σ.2.1 σ.2.2) [.ref (a 0)] (fun r (u : Sg) => zBn u ∧ zSol (Nat.testBit pr) K X Y u.1 ∧ r = nI (ztot u.1)) (fun u => xW a d pr true K X Y u.1 u.2.1 u.2.2) := by
  refine mk_i (by decide) (Nat.le_of_ble_eq_true rfl) ?_
  intro p e s m below meth c A hx hb hml hr hlk hown hts hA hK hP hD hS ls hl
  have hown : s.vm.findClass RX0 = some m.cls := hown
  have hl : lv_has ls 4 [(0, .ref (a 0))] := hl
  refine lv_aload_n hx hb dX0_total_0 rfl (lv_at hl 0 rfl) ?_
  refine cl_Vv (n := 0) (As := []) (rest := []) (ci := 0) (q0 := 0) hx hb hml hown hts (mX0_solve l D a d pr kn K X Y σ hpr hW hO.1 hO.2) (lw_V q82 q84 qs2 q15 q85) (by decide +kernel) rfl ⟨Nat.le_of_ble_eq_true rfl, Nat.le_of_ble_eq_true rfl⟩ ⟨Nat.le_refl _, Nat.le_refl _⟩ hK hP hD hS hA rfl rfl hl.1 rfl (Nat.le_of_ble_eq_true rfl) dX0_total_1 (fun τ H locs hs hP hD hS => ?_)
  have hP : va_P D vwCl (xW a d pr true K X Y τ.1 τ.2.1 τ.2.2) H := hP
  have hD : va_D A (xW a d pr true K X Y τ.1 τ.2.1 τ.2.2) := hD
  have hs : zBn τ ∧ zSol (Nat.testBit pr) K X Y τ.1 := hs
  refine lv_iconst (v := nI 0) hx hb dX0_total_4 (by decide) ?_
  refine lv_istore_n (lv' := [(1, .int (nI (0))), (0, .ref (a 0))]) hx hb dX0_total_5 rfl hl (by decide) rfl (fun ls hl => ?_)
  refine lv_iconst (v := nI 0) hx hb dX0_total_6 (by decide) ?_
  refine lv_istore_n (lv' := [(2, .int (nI (0))), (1, .int (nI (0))), (0, .ref (a 0))]) hx hb dX0_total_7 rfl hl (by decide) rfl (fun ls hl => ?_)
  refine wl_up (pc := 8) 8 (fun x H locs ls => ∃ (n : Nat), (n = zcnt (zpair τ.1) (8 * x)) ∧ va_P D vwCl (xW a d pr true K X Y τ.1 τ.2.1 τ.2.2) H ∧ va_D A (xW a d pr true K X Y τ.1 τ.2.1 τ.2.2) ∧ va_S A s.heap H locs ∧ lv_has ls 4 [(0, .ref (a 0)), (1, .int (nI (n))), (2, .int (nI (x)))]) ?_ ?_ 0 (by omega) _ _ _ ⟨0, rfl, hP, hD, hS, lv_sub hl [2, 1, 0] rfl⟩
  · intro x hk H locs ls hI ih
    obtain ⟨n, e1, hP, hD, hS, hl⟩ := hI
    refine lv_iload_n hx hb dX0_total_8 rfl (lv_at hl 2 rfl) ?_
    refine lv_bipush (v := nI 8) hx hb dX0_total_9 (by decide) ?_
    refine nv_icmp_ge (tgt := 47) hx hb dX0_total_11 (by decide) (fun c0 => ?_) (fun c0 => ?_)
    · exfalso; omega
    · refine lv_iconst (v := nI 0) hx hb dX0_total_14 (by decide) ?_
      refine lv_istore_n (lv' := [(3, .int (nI (0))), (0, .ref (a 0)), (1, .int (nI (n))), (2, .int (nI (x)))]) hx hb dX0_total_15 rfl hl (by decide) rfl (fun ls hl => ?_)
      refine wl_up (pc := 16) 8 (fun y H locs ls => ∃ (n2 : Nat), (n2 = zcnt (zpair τ.1) (8 * x + y)) ∧ va_P D vwCl (xW a d pr true K X Y τ.1 τ.2.1 τ.2.2) H ∧ va_D A (xW a d pr true K X Y τ.1 τ.2.1 τ.2.2) ∧ va_S A s.heap H locs ∧ lv_has ls 4 [(0, .ref (a 0)), (1, .int (nI (n2))), (2, .int (nI (x))), (3, .int (nI (y)))]) ?_ ?_ 0 (by omega) _ _ _ ⟨n, e1, hP, hD, hS, lv_sub hl [1, 2, 3, 0] rfl⟩
      · intro y hk H locs ls hI ih
        obtain ⟨n2, e2, hP, hD, hS, hl⟩ := hI
        refine lv_iload_n hx hb dX0_total_16 rfl (lv_at hl 3 rfl) ?_
        refine lv_bipush (v := nI 8) hx hb dX0_total_17 (by decide) ?_
        refine nv_icmp_ge (tgt := 41) hx hb dX0_total_19 (by decide) (fun c0 => ?_) (fun c0 => ?_)
        · exfalso; omega
        · refine lv_iload_n hx hb dX0_total_22 rfl (lv_at hl 1 rfl) ?_
          refine lv_aload_n hx hb dX0_total_23 rfl (lv_at hl 0 rfl) ?_
          refine va_get (D := D) (ci := 0) (v := .ref (a 4)) (C := RX0) (T := TX0) (N := 8) hx hb hts in_X0 hown hK hP 0 rfl rfl 5 (by decide) (hts _ q30) (fun _ h9 => h9) rfl dX0_total_24 ?_
          refine lv_iload_n hx hb dX0_total_27 rfl (lv_at hl 2 rfl) ?_
          refine nv_sald hx hb hK hP 4 3 rfl rfl (by omega) dX0_total_28 ?_
          refine lv_iload_n hx hb dX0_total_29 rfl (lv_at hl 3 rfl) ?_
          refine nv_bit hx hb dX0_total_30 dX0_total_31 dX0_total_32 (by have := hs.1.1 x (by omega); omega) (by omega) ?_
          refine nv_iaddb hx hb dX0_total_33 ?_
          refine lv_istore_n (lv' := [(1, .int (nI (n2 + (Nat.testBit (τ.1 x) y).toNat))), (0, .ref (a 0)), (2, .int (nI (x))), (3, .int (nI (y)))]) hx hb dX0_total_34 rfl hl (by decide) rfl (fun ls hl => ?_)
          refine lv_iinc (v := nI (y + 1)) (lv' := [(3, .int (nI (y + 1))), (1, .int (nI (n2 + (Nat.testBit (τ.1 x) y).toNat))), (0, .ref (a 0)), (2, .int (nI (x)))]) hx hb dX0_total_35 hl (k := 3) rfl (by exact nI_1 _) (by decide) rfl (fun ls hl => ?_)
          refine lv_goto (tgt := 16) hx hb dX0_total_38 (by decide) ?_
          exact ih _ _ _ ⟨(n2 + (Nat.testBit (τ.1 x) y).toNat), (ztot_s hk e2), hP, hD, hS, lv_sub hl [2, 1, 3, 0] rfl⟩
      · intro H locs ls hI
        obtain ⟨n2, e2, hP, hD, hS, hl⟩ := hI
        refine lv_iload_n hx hb dX0_total_16 rfl (lv_at hl 3 rfl) ?_
        refine lv_bipush (v := nI 8) hx hb dX0_total_17 (by decide) ?_
        refine nv_icmp_ge (tgt := 41) hx hb dX0_total_19 (by decide) (fun c0 => ?_) (fun c0 => ?_)
        · refine lv_iinc (v := nI (x + 1)) (lv' := [(2, .int (nI (x + 1))), (0, .ref (a 0)), (1, .int (nI (n2))), (3, .int (nI (8)))]) hx hb dX0_total_41 hl (k := 2) rfl (by exact nI_1 _) (by decide) rfl (fun ls hl => ?_)
          refine lv_goto (tgt := 8) hx hb dX0_total_44 (by decide) ?_
          exact ih _ _ _ ⟨n2, (by rw [e2, show 8 * (x + 1) = 8 * x + 8 by omega]), hP, hD, hS, lv_sub hl [1, 2, 0] rfl⟩
        · exfalso; omega
  · intro H locs ls hI
    obtain ⟨n, e1, hP, hD, hS, hl⟩ := hI
    refine lv_iload_n hx hb dX0_total_8 rfl (lv_at hl 2 rfl) ?_
    refine lv_bipush (v := nI 8) hx hb dX0_total_9 (by decide) ?_
    refine nv_icmp_ge (tgt := 47) hx hb dX0_total_11 (by decide) (fun c0 => ?_) (fun c0 => ?_)
    · refine lv_iload_n hx hb dX0_total_47 rfl (lv_at hl 1 rfl) ?_
      exact rt_i (v := nI (n)) hx hb hr hlk τ ⟨hs.1, hs.2, congrArg nI e1⟩ hK hP hD hS dX0_total_48
    · exfalso; omega
set_option maxHeartbeats 4000000 in
set_option maxRecDepth 100000 in
/-- redundant(k) -/
theorem mX0_redundant (l : Launch) (D : va_G) (a : Nat → Nat) (d : Nat → ClassId) (pr : Nat) (kn : Bool) (K X Y : Nat → Nat) (σ : Sg) (hpr : pr < 8192) (hW : zWF K X Y) (hO : xOK pr K X Y kn σ) (k : Int32) : Ki l yX0_redundant cX0_redundant 4 (some .boolean) 6 139 D (xT d) (xW a d pr kn K X Y σ.1 σ.2.1 σ.2.2) [.ref (a 0), .int k] (fun r (u : Bool × Sg) => xOK pr K X Y u.1 u.2 ∧ rRd (Nat.testBit pr) K X Y k r) (fun u => xW a d pr u.1 K X Y u.2.1 u.2.2.1 u.2.2.2) := by
  refine mk_i (by decide) (Nat.le_of_ble_eq_true rfl) ?_
  intro p e s m below meth c A hx hb hml hr hlk hown hts hA hK hP hD hS ls hl
  have hown : s.vm.findClass RX0 = some m.cls := hown
  have hl : lv_has ls 4 [(0, .ref (a 0)), (1, .int (k))] := hl
  refine lv_aload_n hx hb dX0_redundant_0 rfl (lv_at hl 0 rfl) ?_
  refine lv_iload_n hx hb dX0_redundant_1 rfl (lv_at hl 1 rfl) ?_
  refine cl_Vi (n := 1) (As := [.int (k)]) (rest := []) (ci := 0) (q0 := 0) hx hb hml hown hts (mX0_has l D a d pr kn K X Y σ.1 σ.2.1 σ.2.2 k hpr) (lw_V q62 q64 qs0 q15 q65) (by decide +kernel) rfl ⟨Nat.le_of_ble_eq_true rfl, Nat.le_of_ble_eq_true rfl⟩ ⟨Nat.le_refl _, Nat.le_refl _⟩ hK hP hD hS hA rfl rfl hl.1 rfl (Nat.le_of_ble_eq_true rfl) dX0_redundant_2 (fun r _ H locs hp hP hD hS => ?_)
  have hp : r = bI (hsb (Nat.testBit pr) k) := hp
  subst hp
  refine nv_ifne (tgt := 10) hx hb dX0_redundant_5 (by decide) (fun c1 => ?_) (fun c1 => ?_)
  · obtain ⟨j, hj, rfl, hb1⟩ := hsb_of c1
    refine lv_aload_n hx hb dX0_redundant_10 rfl (lv_at hl 0 rfl) ?_
    refine cl_Vi (n := 0) (As := []) (rest := []) (ci := 0) (q0 := 0) hx hb hml hown hts (mX0_total l D a d pr kn K X Y σ hpr hW hO) (lw_V q133 q126 q127 q15 q128) (by decide +kernel) rfl ⟨Nat.le_of_ble_eq_true rfl, Nat.le_of_ble_eq_true rfl⟩ ⟨Nat.le_refl _, Nat.le_refl _⟩ hK hP hD hS hA rfl rfl hl.1 rfl (Nat.le_of_ble_eq_true rfl) dX0_redundant_11 (fun r τ H locs hp hP hD hS => ?_)
    have g1 : zBn τ ∧ zSol (Nat.testBit pr) K X Y τ.1 ∧ r = nI (ztot τ.1) := hp
    obtain ⟨g1B, g1S, hp⟩ := g1
    subst hp
    have hP : va_P D vwCl (xW a d pr true K X Y τ.1 τ.2.1 τ.2.2) H := hP
    have hD : va_D A (xW a d pr true K X Y τ.1 τ.2.1 τ.2.2) := hD
    refine lv_istore_n (lv' := [(2, .int (nI (ztot τ.1))), (0, .ref (a 0)), (1, .int (nI (j)))]) hx hb dX0_redundant_14 rfl hl (by decide) rfl (fun ls hl => ?_)
    refine lv_aload_n hx hb dX0_redundant_15 rfl (lv_at hl 1 rfl) ?_
    refine lv_dup hx hb dX0_redundant_16 rfl ?_
    refine va_get (D := D) (ci := 0) (v := .int (nI (pr))) (C := RX0) (T := TX0) (N := 8) hx hb hts in_X0 hown hK hP 0 rfl rfl 0 (by decide) (hts _ q25) (fun _ h9 => h9) rfl dX0_redundant_17 ?_
    refine lv_iconst (v := nI 1) hx hb dX0_redundant_20 (by decide) ?_
    refine lv_iload_n hx hb dX0_redundant_21 rfl (lv_at hl 2 rfl) ?_
    refine nv_shl hx hb dX0_redundant_22 (by omega) ?_
    refine nv_ndf hx hb dX0_redundant_23 dX0_redundant_24 dX0_redundant_25 ?_
    refine va_put (D := D) (ci := 0) (v := .int (nI (ndf pr (2 ^ j)))) (ty := .int) (C := RX0) (T := TX0) (N := 8) hx hb hts in_X0 tyX0 tyX0_ok nmX0 hown hK hP hD hS 0 rfl rfl 0 (by decide) (hts _ q25) (fun _ h9 => h9) rfl (by decide +kernel) rfl rfl (Nat.le_of_ble_eq_true rfl) dX0_redundant_26 (fun H locs hP hD hS => ?_)
    have hP : va_P D vwCl (xW a d (ndf pr (2 ^ j)) true K X Y τ.1 τ.2.1 τ.2.2) H := hP
    have hD : va_D A (xW a d (ndf pr (2 ^ j)) true K X Y τ.1 τ.2.1 τ.2.2) := hD
    refine lv_aload_n hx hb dX0_redundant_29 rfl (lv_at hl 1 rfl) ?_
    refine lv_iconst (v := bI false) hx hb dX0_redundant_30 (by decide) ?_
    refine va_put (D := D) (ci := 0) (v := .int (bI (false))) (ty := .boolean) (C := RX0) (T := TX0) (N := 8) hx hb hts in_X0 tyX0 tyX0_ok nmX0 hown hK hP hD hS 0 rfl rfl 4 (by decide) (hts _ q29) (fun _ h9 => h9) rfl (by decide +kernel) (ni_nz _) rfl (Nat.le_of_ble_eq_true rfl) dX0_redundant_31 (fun H locs hP hD hS => ?_)
    have hP : va_P D vwCl (xW a d (ndf pr (2 ^ j)) false K X Y τ.1 τ.2.1 τ.2.2) H := hP
    have hD : va_D A (xW a d (ndf pr (2 ^ j)) false K X Y τ.1 τ.2.1 τ.2.2) := hD
    refine lv_aload_n hx hb dX0_redundant_34 rfl (lv_at hl 1 rfl) ?_
    refine cl_Vi (n := 0) (As := []) (rest := []) (ci := 0) (q0 := 0) hx hb hml hown hts (mX0_total l D a d (ndf pr (2 ^ j)) false K X Y τ (by have := ndf_le pr (2 ^ j); omega) hW ⟨g1B, fun h => by cases h⟩) (lw_V q133 q126 q127 q15 q128) (by decide +kernel) rfl ⟨Nat.le_of_ble_eq_true rfl, Nat.le_of_ble_eq_true rfl⟩ ⟨Nat.le_refl _, Nat.le_refl _⟩ hK hP hD hS hA rfl rfl hl.1 rfl (Nat.le_of_ble_eq_true rfl) dX0_redundant_35 (fun r υ H locs hp hP hD hS => ?_)
    have g2 : zBn υ ∧ zSol (Nat.testBit (ndf pr (2 ^ j))) K X Y υ.1 ∧ r = nI (ztot υ.1) := hp
    obtain ⟨g2B, g2S, hp⟩ := g2
    subst hp
    have hP : va_P D vwCl (xW a d (ndf pr (2 ^ j)) true K X Y υ.1 υ.2.1 υ.2.2) H := hP
    have hD : va_D A (xW a d (ndf pr (2 ^ j)) true K X Y υ.1 υ.2.1 υ.2.2) := hD
    refine lv_istore_n (lv' := [(3, .int (nI (ztot υ.1))), (2, .int (nI (ztot τ.1))), (0, .ref (a 0)), (1, .int (nI (j)))]) hx hb dX0_redundant_38 rfl hl (by decide) rfl (fun ls hl => ?_)
    refine lv_aload_n hx hb dX0_redundant_39 rfl (lv_at hl 2 rfl) ?_
    refine lv_dup hx hb dX0_redundant_40 rfl ?_
    refine va_get (D := D) (ci := 0) (v := .int (nI (ndf pr (2 ^ j)))) (C := RX0) (T := TX0) (N := 8) hx hb hts in_X0 hown hK hP 0 rfl rfl 0 (by decide) (hts _ q25) (fun _ h9 => h9) rfl dX0_redundant_41 ?_
    refine lv_iconst (v := nI 1) hx hb dX0_redundant_44 (by decide) ?_
    refine lv_iload_n hx hb dX0_redundant_45 rfl (lv_at hl 3 rfl) ?_
    refine nv_shl hx hb dX0_redundant_46 (by omega) ?_
    refine nv_ior hx hb dX0_redundant_47 ?_
    refine va_put (D := D) (ci := 0) (v := .int (nI ((ndf pr (2 ^ j)) ||| (2 ^ j)))) (ty := .int) (C := RX0) (T := TX0) (N := 8) hx hb hts in_X0 tyX0 tyX0_ok nmX0 hown hK hP hD hS 0 rfl rfl 0 (by decide) (hts _ q25) (fun _ h9 => h9) rfl (by decide +kernel) rfl rfl (Nat.le_of_ble_eq_true rfl) dX0_redundant_48 (fun H locs hP hD hS => ?_)
    have hP : va_P D vwCl (xW a d ((ndf pr (2 ^ j)) ||| (2 ^ j)) true K X Y υ.1 υ.2.1 υ.2.2) H := hP
    have hD : va_D A (xW a d ((ndf pr (2 ^ j)) ||| (2 ^ j)) true K X Y υ.1 υ.2.1 υ.2.2) := hD
    refine lv_aload_n hx hb dX0_redundant_51 rfl (lv_at hl 2 rfl) ?_
    refine lv_iconst (v := bI false) hx hb dX0_redundant_52 (by decide) ?_
    refine va_put (D := D) (ci := 0) (v := .int (bI (false))) (ty := .boolean) (C := RX0) (T := TX0) (N := 8) hx hb hts in_X0 tyX0 tyX0_ok nmX0 hown hK hP hD hS 0 rfl rfl 4 (by decide) (hts _ q29) (fun _ h9 => h9) rfl (by decide +kernel) (ni_nz _) rfl (Nat.le_of_ble_eq_true rfl) dX0_redundant_53 (fun H locs hP hD hS => ?_)
    have hP : va_P D vwCl (xW a d ((ndf pr (2 ^ j)) ||| (2 ^ j)) false K X Y υ.1 υ.2.1 υ.2.2) H := hP
    have hD : va_D A (xW a d ((ndf pr (2 ^ j)) ||| (2 ^ j)) false K X Y υ.1 υ.2.1 υ.2.2) := hD
    rw [pr_back hb1] at hP hD
    refine lv_iload_n hx hb dX0_redundant_56 rfl (lv_at hl 1 rfl) ?_
    refine lv_iload_n hx hb dX0_redundant_57 rfl (lv_at hl 0 rfl) ?_
    refine nv_icmp_ne (tgt := 65) hx hb dX0_redundant_58 (by decide) (fun c2 => ?_) (fun c2 => ?_) (by have := ztot_le τ.1; omega) (by have := ztot_le υ.1; omega)
    · refine lv_iconst (v := bI false) hx hb dX0_redundant_65 (by decide) ?_
      exact rt_z (v := false) hx hb hr hlk (false, υ) ⟨⟨g2B, fun h => by cases h⟩, Or.inr ⟨j, τ.1, υ.1, hj, rfl, hb1, g1S, by rw [tb_ndf]; exact g2S, congrArg bI (decide_eq_false c2).symm⟩⟩ hK hP hD hS dX0_redundant_66
    · refine lv_iconst (v := bI true) hx hb dX0_redundant_61 (by decide) ?_
      refine lv_goto (tgt := 66) hx hb dX0_redundant_62 (by decide) ?_
      exact rt_z (v := true) hx hb hr hlk (false, υ) ⟨⟨g2B, fun h => by cases h⟩, Or.inr ⟨j, τ.1, υ.1, hj, rfl, hb1, g1S, by rw [tb_ndf]; exact g2S, congrArg bI (decide_eq_true c2).symm⟩⟩ hK hP hD hS dX0_redundant_66
  · refine lv_iconst (v := bI false) hx hb dX0_redundant_8 (by decide) ?_
    exact rt_z (v := false) hx hb hr hlk (kn, σ) ⟨hO, Or.inl ⟨c1, rfl⟩⟩ hK hP hD hS dX0_redundant_9
abbrev xGn (a : Nat → Nat) (d : Nat → ClassId) (pr : Nat) (kn : Bool) (K X Y : Nat → Nat) (σ : Sg) (o : Option (Nat × Nat × Nat)) : va_W := match o with
  | none => xW a d pr kn K X Y σ.1 σ.2.1 σ.2.2
  | some (n1, n2, n3) => xW a d pr kn (va_up K 12 n1) (va_up X 12 n2) (va_up Y 12 n3) σ.1 σ.2.1 σ.2.2
set_option maxHeartbeats 4000000 in
set_option maxRecDepth 100000 in
/-- gain(kd, x, y) -/
theorem mX0_gain (l : Launch) (D : va_G) (a : Nat → Nat) (d : Nat → ClassId) (pr : Nat) (kn : Bool) (K X Y : Nat → Nat) (σ : Sg) (hpr : pr < 4096) (hW : zWF K X Y) (hO : xOK pr K X Y kn σ) (kd x y : Int32) : Ki l yX0_gain cX0_gain 6 (some .int) 6 139 D (xT d) (xW a d pr kn K X Y σ.1 σ.2.1 σ.2.2) [.ref (a 0), .int kd, .int x, .int y] (fun r (u : Option (Nat × Nat × Nat) × Bool × Sg) => rGn (Nat.testBit pr) K X Y kd x y r u.1 ∧ zBn u.2.2 ∧ (u.2.1 = true → u.1 = none ∧ zSol (Nat.testBit pr) K X Y u.2.2.1)) (fun u => xGn a d pr u.2.1 K X Y u.2.2 u.1) := by
  refine mk_i (by decide) (Nat.le_of_ble_eq_true rfl) ?_
  intro p e s m below meth c A hx hb hml hr hlk hown hts hA hK hP hD hS ls hl
  have hown : s.vm.findClass RX0 = some m.cls := hown
  have hl : lv_has ls 6 [(0, .ref (a 0)), (1, .int (kd)), (2, .int (x)), (3, .int (y))] := hl
  refine lv_iload_n hx hb dX0_gain_0 rfl (lv_at hl 1 rfl) ?_
  refine lv_iload_n hx hb dX0_gain_1 rfl (lv_at hl 2 rfl) ?_
  refine lv_iload_n hx hb dX0_gain_2 rfl (lv_at hl 3 rfl) ?_
  refine cl_Si (n := 3) (As := [.int (kd), .int (x), .int (y)]) (rest := []) hx hb hml hown hts (mX0_statementOk l D _ _ kd x y) (lw_S q56 q57 q15 q58) (by decide +kernel) rfl ⟨Nat.le_of_ble_eq_true rfl, Nat.le_of_ble_eq_true rfl⟩ ⟨Nat.le_refl _, Nat.le_refl _⟩ hK hP hD hS hA hl.1 rfl (Nat.le_of_ble_eq_true rfl) dX0_gain_3 (fun r _ H locs hp hP hD hS => ?_)
  have hp : r = bI (sok kd x y) := hp
  subst hp
  refine nv_ifne (tgt := 11) hx hb dX0_gain_6 (by decide) (fun c1 => ?_) (fun c1 => ?_)
  · obtain ⟨⟨n1, w1, rfl⟩, ⟨n2, w2, rfl⟩, ⟨n3, w3, rfl⟩⟩ := sok_of c1
    refine lv_aload_n hx hb dX0_gain_11 rfl (lv_at hl 0 rfl) ?_
    refine cl_Vi (n := 0) (As := []) (rest := []) (ci := 0) (q0 := 0) hx hb hml hown hts (mX0_total l D a d pr kn K X Y σ (by omega) hW hO) (lw_V q133 q126 q127 q15 q128) (by decide +kernel) rfl ⟨Nat.le_of_ble_eq_true rfl, Nat.le_of_ble_eq_true rfl⟩ ⟨Nat.le_refl _, Nat.le_refl _⟩ hK hP hD hS hA rfl rfl hl.1 rfl (Nat.le_of_ble_eq_true rfl) dX0_gain_12 (fun r τ H locs hp hP hD hS => ?_)
    have g1 : zBn τ ∧ zSol (Nat.testBit pr) K X Y τ.1 ∧ r = nI (ztot τ.1) := hp
    obtain ⟨g1B, g1S, hp⟩ := g1
    subst hp
    have hP : va_P D vwCl (xW a d pr true K X Y τ.1 τ.2.1 τ.2.2) H := hP
    have hD : va_D A (xW a d pr true K X Y τ.1 τ.2.1 τ.2.2) := hD
    refine lv_istore (lv' := [(4, .int (nI (ztot τ.1))), (0, .ref (a 0)), (1, .int (nI (n1))), (2, .int (nI (n2))), (3, .int (nI (n3)))]) hx hb dX0_gain_15 hl (by decide) rfl (fun ls hl => ?_)
    refine lv_aload_n hx hb dX0_gain_17 rfl (lv_at hl 1 rfl) ?_
    refine lv_bipush (v := nI 12) hx hb dX0_gain_18 (by decide) ?_
    refine lv_iload_n hx hb dX0_gain_20 rfl (lv_at hl 2 rfl) ?_
    refine lv_iload_n hx hb dX0_gain_21 rfl (lv_at hl 3 rfl) ?_
    refine lv_iload_n hx hb dX0_gain_22 rfl (lv_at hl 4 rfl) ?_
    refine cl_Vv (n := 4) (As := [.int (nI (12)), .int (nI (n1)), .int (nI (n2)), .int (nI (n3))]) (rest := []) (ci := 0) (q0 := 0) hx hb hml hown hts (mX0_write l D a d pr true K X Y τ.1 τ.2.1 τ.2.2 12 n1 n2 n3 (by omega) w1 w2 w3) (lw_V q66 q68 qs1 q15 q69) (by decide +kernel) rfl ⟨Nat.le_of_ble_eq_true rfl, Nat.le_of_ble_eq_true rfl⟩ ⟨Nat.le_refl _, Nat.le_refl _⟩ hK hP hD hS hA rfl rfl hl.1 rfl (Nat.le_of_ble_eq_true rfl) dX0_gain_23 (fun _ H locs hp hP hD hS => ?_)
    have hP : va_P D vwCl (xW a d (pr ||| 2 ^ 12) false (va_up K 12 n1) (va_up X 12 n2) (va_up Y 12 n3) τ.1 τ.2.1 τ.2.2) H := hP
    have hD : va_D A (xW a d (pr ||| 2 ^ 12) false (va_up K 12 n1) (va_up X 12 n2) (va_up Y 12 n3) τ.1 τ.2.1 τ.2.2) := hD
    refine lv_aload_n hx hb dX0_gain_26 rfl (lv_at hl 1 rfl) ?_
    refine cl_Vi (n := 0) (As := []) (rest := []) (ci := 0) (q0 := 0) hx hb hml hown hts (mX0_total l D a d (pr ||| 2 ^ 12) false (va_up K 12 n1) (va_up X 12 n2) (va_up Y 12 n3) τ (pr_or (n := 13) (by omega) (by omega)) (zWF_up hW w1 w2 w3) ⟨g1B, fun h => by cases h⟩) (lw_V q133 q126 q127 q15 q128) (by decide +kernel) rfl ⟨Nat.le_of_ble_eq_true rfl, Nat.le_of_ble_eq_true rfl⟩ ⟨Nat.le_refl _, Nat.le_refl _⟩ hK hP hD hS hA rfl rfl hl.1 rfl (Nat.le_of_ble_eq_true rfl) dX0_gain_27 (fun r υ H locs hp hP hD hS => ?_)
    have g2 : zBn υ ∧ zSol (Nat.testBit (pr ||| 2 ^ 12)) (va_up K 12 n1) (va_up X 12 n2) (va_up Y 12 n3) υ.1 ∧ r = nI (ztot υ.1) := hp
    obtain ⟨g2B, g2S, hp⟩ := g2
    subst hp
    have hP : va_P D vwCl (xW a d (pr ||| 2 ^ 12) true (va_up K 12 n1) (va_up X 12 n2) (va_up Y 12 n3) υ.1 υ.2.1 υ.2.2) H := hP
    have hD : va_D A (xW a d (pr ||| 2 ^ 12) true (va_up K 12 n1) (va_up X 12 n2) (va_up Y 12 n3) υ.1 υ.2.1 υ.2.2) := hD
    refine lv_istore (lv' := [(5, .int (nI (ztot υ.1))), (4, .int (nI (ztot τ.1))), (0, .ref (a 0)), (1, .int (nI (n1))), (2, .int (nI (n2))), (3, .int (nI (n3)))]) hx hb dX0_gain_30 hl (by decide) rfl (fun ls hl => ?_)
    refine lv_aload_n hx hb dX0_gain_32 rfl (lv_at hl 2 rfl) ?_
    refine lv_dup hx hb dX0_gain_33 rfl ?_
    refine va_get (D := D) (ci := 0) (v := .int (nI (pr ||| 2 ^ 12))) (C := RX0) (T := TX0) (N := 8) hx hb hts in_X0 hown hK hP 0 rfl rfl 0 (by decide) (hts _ q25) (fun _ h9 => h9) rfl dX0_gain_34 ?_
    refine lv_sipush (v := -4097) hx hb dX0_gain_37 (by decide) ?_
    refine nv_4097 hx hb dX0_gain_40 ?_
    refine va_put (D := D) (ci := 0) (v := .int (nI (ndf (pr ||| 2 ^ 12) (2 ^ 12)))) (ty := .int) (C := RX0) (T := TX0) (N := 8) hx hb hts in_X0 tyX0 tyX0_ok nmX0 hown hK hP hD hS 0 rfl rfl 0 (by decide) (hts _ q25) (fun _ h9 => h9) rfl (by decide +kernel) rfl rfl (Nat.le_of_ble_eq_true rfl) dX0_gain_41 (fun H locs hP hD hS => ?_)
    have hP : va_P D vwCl (xW a d (ndf (pr ||| 2 ^ 12) (2 ^ 12)) true (va_up K 12 n1) (va_up X 12 n2) (va_up Y 12 n3) υ.1 υ.2.1 υ.2.2) H := hP
    have hD : va_D A (xW a d (ndf (pr ||| 2 ^ 12) (2 ^ 12)) true (va_up K 12 n1) (va_up X 12 n2) (va_up Y 12 n3) υ.1 υ.2.1 υ.2.2) := hD
    refine lv_aload_n hx hb dX0_gain_44 rfl (lv_at hl 2 rfl) ?_
    refine lv_iconst (v := bI false) hx hb dX0_gain_45 (by decide) ?_
    refine va_put (D := D) (ci := 0) (v := .int (bI (false))) (ty := .boolean) (C := RX0) (T := TX0) (N := 8) hx hb hts in_X0 tyX0 tyX0_ok nmX0 hown hK hP hD hS 0 rfl rfl 4 (by decide) (hts _ q29) (fun _ h9 => h9) rfl (by decide +kernel) (ni_nz _) rfl (Nat.le_of_ble_eq_true rfl) dX0_gain_46 (fun H locs hP hD hS => ?_)
    have hP : va_P D vwCl (xW a d (ndf (pr ||| 2 ^ 12) (2 ^ 12)) false (va_up K 12 n1) (va_up X 12 n2) (va_up Y 12 n3) υ.1 υ.2.1 υ.2.2) H := hP
    have hD : va_D A (xW a d (ndf (pr ||| 2 ^ 12) (2 ^ 12)) false (va_up K 12 n1) (va_up X 12 n2) (va_up Y 12 n3) υ.1 υ.2.1 υ.2.2) := hD
    rw [pr_12 hpr] at hP hD
    refine lv_iload hx hb dX0_gain_49 (lv_at hl 0 rfl) ?_
    refine lv_iload hx hb dX0_gain_51 (lv_at hl 1 rfl) ?_
    refine lv_isub hx hb dX0_gain_53 ?_
    exact rt_i (v := nI (ztot υ.1) - nI (ztot τ.1)) hx hb hr hlk (some (n1, n2, n3), false, υ) ⟨Or.inr ⟨n1, n2, n3, τ.1, υ.1, w1, w2, w3, rfl, rfl, rfl, c1, g1S, by rw [tb_or]; exact g2S, rfl, rfl⟩, g2B, fun h => by cases h⟩ hK hP hD hS dX0_gain_54
  · refine lv_iconst (v := -1) hx hb dX0_gain_9 (by decide) ?_
    exact rt_i (v := -1) hx hb hr hlk (none, kn, σ) ⟨Or.inl ⟨c1, rfl, rfl⟩, hO.1, fun h => ⟨rfl, hO.2 h⟩⟩ hK hP hD hS dX0_gain_10
set_option maxHeartbeats 4000000 in
set_option maxRecDepth 100000 in
/-- cyclic() -/
theorem mX0_cyclic (l : Launch) (D : va_G) (a : Nat → Nat) (d : Nat → ClassId) (pr : Nat) (kn : Bool) (K X Y : Nat → Nat) (σ : Sg) (hpr : pr < 8192) (hW : zWF K X Y) (hO : xOK pr K X Y kn σ) : Ki l yX0_cyclic cX0_cyclic 4 (some .int) 6 140 D (xT d) (xW a d pr kn K X Y σ.1 σ.2.1 σ.2.2) [.ref (a 0)] (fun r (u : Bool × Sg) => xOK pr K X Y u.1 u.2 ∧ rCy (Nat.testBit pr) K X Y r) (fun u => xW a d pr u.1 K X Y u.2.1 u.2.2.1 u.2.2.2) := by
  refine mk_i (by decide) (Nat.le_of_ble_eq_true rfl) ?_
  intro p e s m below meth c A hx hb hml hr hlk hown hts hA hK hP hD hS ls hl
  have hown : s.vm.findClass RX0 = some m.cls := hown
  have hl : lv_has ls 4 [(0, .ref (a 0))] := hl
  refine lv_iconst (v := nI 0) hx hb dX0_cyclic_0 (by decide) ?_
  refine lv_istore_n (lv' := [(1, .int (nI (0))), (0, .ref (a 0))]) hx hb dX0_cyclic_1 rfl hl (by decide) rfl (fun ls hl => ?_)
  refine lv_iconst (v := nI 0) hx hb dX0_cyclic_2 (by decide) ?_
  refine lv_istore_n (lv' := [(2, .int (nI (0))), (1, .int (nI (0))), (0, .ref (a 0))]) hx hb dX0_cyclic_3 rfl hl (by decide) rfl (fun ls hl => ?_)
  refine wl_up (pc := 4) 8 (fun i H locs ls => ∃ (n : Nat) (k1 : Bool) (τ : Sg), (xOK pr K X Y k1 τ) ∧ (0 < i → ∃ P0, zSol (Nat.testBit pr) K X Y P0) ∧ (∀ P0, zSol (Nat.testBit pr) K X Y P0 → n = zcol (fun z => Nat.testBit (zrch P0 (P0 z) 64) z) i) ∧ va_P D vwCl (xW a d pr k1 K X Y τ.1 τ.2.1 τ.2.2) H ∧ va_D A (xW a d pr k1 K X Y τ.1 τ.2.1 τ.2.2) ∧ va_S A s.heap H locs ∧ lv_has ls 4 [(0, .ref (a 0)), (1, .int (nI (n))), (2, .int (nI (i)))]) ?_ ?_ 0 (by omega) _ _ _ ⟨0, kn, σ, hO, (fun h => absurd h (Nat.lt_irrefl 0)), (fun _ _ => rfl), hP, hD, hS, lv_sub hl [2, 1, 0] rfl⟩
  · intro i hk H locs ls hI ih
    obtain ⟨n, k1, τ, h1, h2, h3, hP, hD, hS, hl⟩ := hI
    refine lv_iload_n hx hb dX0_cyclic_4 rfl (lv_at hl 2 rfl) ?_
    refine lv_bipush (v := nI 8) hx hb dX0_cyclic_5 (by decide) ?_
    refine nv_icmp_ge (tgt := 40) hx hb dX0_cyclic_7 (by decide) (fun c0 => ?_) (fun c0 => ?_)
    · exfalso; omega
    · refine lv_aload_n hx hb dX0_cyclic_10 rfl (lv_at hl 0 rfl) ?_
      refine lv_iload_n hx hb dX0_cyclic_11 rfl (lv_at hl 2 rfl) ?_
      refine cl_Vi (n := 1) (As := [.int (nI (i))]) (rest := []) (ci := 0) (q0 := 0) hx hb hml hown hts (mX0_reach l D a d pr k1 K X Y τ hpr hW h1 (nI i)) (lw_V q142 q118 q119 q15 q120) (by decide +kernel) rfl ⟨Nat.le_of_ble_eq_true rfl, Nat.le_of_ble_eq_true rfl⟩ ⟨Nat.le_refl _, Nat.le_refl _⟩ hK hP hD hS hA rfl rfl hl.1 rfl (Nat.le_of_ble_eq_true rfl) dX0_cyclic_12 (fun r u H locs hp hP hD hS => ?_)
      obtain ⟨k2, υ⟩ := u
      obtain ⟨h4, h5⟩ : xOK pr K X Y k2 υ ∧ rRc (Nat.testBit pr) K X Y (nI i) r := hp
      obtain ⟨P1, hS1, rfl⟩ : ∃ P1, zSol (Nat.testBit pr) K X Y P1 ∧ r = nI (zrch P1 (P1 i) 64) := by
        rcases h5 with ⟨b1, -⟩ | ⟨P1, j, b1, b2, b3, b4⟩
        · exact (vr_no b1 hk rfl).elim
        · obtain rfl := nI_in8 hk b2 rfl b3
          exact ⟨P1, b1, b4⟩
      have hP : va_P D vwCl (xW a d pr k2 K X Y υ.1 υ.2.1 υ.2.2) H := hP
      have hD : va_D A (xW a d pr k2 K X Y υ.1 υ.2.1 υ.2.2) := hD
      refine lv_istore_n (lv' := [(3, .int (nI (zrch P1 (P1 i) 64))), (0, .ref (a 0)), (1, .int (nI (n))), (2, .int (nI (i)))]) hx hb dX0_cyclic_15 rfl hl (by decide) rfl (fun ls hl => ?_)
      refine lv_iload_n hx hb dX0_cyclic_16 rfl (lv_at hl 2 rfl) ?_
      refine lv_iload_n hx hb dX0_cyclic_17 rfl (lv_at hl 0 rfl) ?_
      refine lv_iload_n hx hb dX0_cyclic_18 rfl (lv_at hl 3 rfl) ?_
      refine cl_Si (n := 2) (As := [.int (nI (zrch P1 (P1 i) 64)), .int (nI (i))]) (rest := [.int (nI (n))]) hx hb hml hown hts (mX0_in l D _ _ (zrch P1 (P1 i) 64) (i) (by have := zrch_lt hS1.1 (hS1.1 i (by omega)) 64; omega) (by omega)) (lw_S q94 q95 q15 q96) (by decide +kernel) rfl ⟨Nat.le_of_ble_eq_true rfl, Nat.le_of_ble_eq_true rfl⟩ ⟨Nat.le_refl _, Nat.le_refl _⟩ hK hP hD hS hA hl.1 rfl (Nat.le_of_ble_eq_true rfl) dX0_cyclic_19 (fun r _ H locs hp hP hD hS => ?_)
      have hp : r = bI (Nat.testBit (zrch P1 (P1 i) 64) i) := hp
      subst hp
      refine nv_ifeq (tgt := 31) hx hb dX0_cyclic_22 (by decide) (fun c2 => ?_) (fun c2 => ?_)
      · refine lv_iconst (v := nI 0) hx hb dX0_cyclic_31 (by decide) ?_
        refine nv_ior hx hb dX0_cyclic_32 ?_
        refine lv_istore_n (lv' := [(1, .int (nI (n ||| 0))), (3, .int (nI (zrch P1 (P1 i) 64))), (0, .ref (a 0)), (2, .int (nI (i)))]) hx hb dX0_cyclic_33 rfl hl (by decide) rfl (fun ls hl => ?_)
        refine lv_iinc (v := nI (i + 1)) (lv' := [(2, .int (nI (i + 1))), (1, .int (nI (n ||| 0))), (3, .int (nI (zrch P1 (P1 i) 64))), (0, .ref (a 0))]) hx hb dX0_cyclic_34 hl (k := 3) rfl (by exact nI_1 _) (by decide) rfl (fun ls hl => ?_)
        refine lv_goto (tgt := 4) hx hb dX0_cyclic_37 (by decide) ?_
        exact ih _ _ _ ⟨(n ||| 0), k2, υ, h4, (fun _ => ⟨P1, hS1⟩), (fun P0 hQ => zcol_f0 (h3 P0 hQ) (by show Nat.testBit (zrch P0 (P0 i) 64) i = false; rw [← c2, z_uniq hQ hS1 i (by omega), zrch_cong (z_uniq hQ hS1)])), hP, hD, hS, lv_sub hl [3, 1, 0] rfl⟩
      · refine lv_iconst (v := nI 1) hx hb dX0_cyclic_25 (by decide) ?_
        refine lv_iload_n hx hb dX0_cyclic_26 rfl (lv_at hl 3 rfl) ?_
        refine nv_shl hx hb dX0_cyclic_27 (by omega) ?_
        refine lv_goto (tgt := 32) hx hb dX0_cyclic_28 (by decide) ?_
        refine nv_ior hx hb dX0_cyclic_32 ?_
        refine lv_istore_n (lv' := [(1, .int (nI (n ||| (2 ^ i)))), (3, .int (nI (zrch P1 (P1 i) 64))), (0, .ref (a 0)), (2, .int (nI (i)))]) hx hb dX0_cyclic_33 rfl hl (by decide) rfl (fun ls hl => ?_)
        refine lv_iinc (v := nI (i + 1)) (lv' := [(2, .int (nI (i + 1))), (1, .int (nI (n ||| (2 ^ i)))), (3, .int (nI (zrch P1 (P1 i) 64))), (0, .ref (a 0))]) hx hb dX0_cyclic_34 hl (k := 3) rfl (by exact nI_1 _) (by decide) rfl (fun ls hl => ?_)
        refine lv_goto (tgt := 4) hx hb dX0_cyclic_37 (by decide) ?_
        exact ih _ _ _ ⟨(n ||| 2 ^ i), k2, υ, h4, (fun _ => ⟨P1, hS1⟩), (fun P0 hQ => zcol_t (h3 P0 hQ) (by show Nat.testBit (zrch P0 (P0 i) 64) i = true; rw [← c2, z_uniq hQ hS1 i (by omega), zrch_cong (z_uniq hQ hS1)])), hP, hD, hS, lv_sub hl [3, 1, 0] rfl⟩
  · intro H locs ls hI
    obtain ⟨n, k1, τ, h1, h2, h3, hP, hD, hS, hl⟩ := hI
    refine lv_iload_n hx hb dX0_cyclic_4 rfl (lv_at hl 2 rfl) ?_
    refine lv_bipush (v := nI 8) hx hb dX0_cyclic_5 (by decide) ?_
    refine nv_icmp_ge (tgt := 40) hx hb dX0_cyclic_7 (by decide) (fun c0 => ?_) (fun c0 => ?_)
    · obtain ⟨P0, hQ⟩ := h2 (by decide)
      refine lv_iload_n hx hb dX0_cyclic_40 rfl (lv_at hl 1 rfl) ?_
      exact rt_i (v := nI (n)) hx hb hr hlk (k1, τ) ⟨h1, P0, hQ, congrArg nI (h3 P0 hQ)⟩ hK hP hD hS dX0_cyclic_41
    · exfalso; omega
set_option maxHeartbeats 4000000 in
set_option maxRecDepth 100000 in
/-- twins(x) -/
theorem mX0_twins (l : Launch) (D : va_G) (a : Nat → Nat) (d : Nat → ClassId) (pr : Nat) (kn : Bool) (K X Y : Nat → Nat) (σ : Sg) (hpr : pr < 8192) (hW : zWF K X Y) (hO : xOK pr K X Y kn σ) (x : Int32) : Ki l yX0_twins cX0_twins 4 (some .int) 5 116 D (xT d) (xW a d pr kn K X Y σ.1 σ.2.1 σ.2.2) [.ref (a 0), .int x] (fun r (u : Bool × Sg) => xOK pr K X Y u.1 u.2 ∧ rTw (Nat.testBit pr) K X Y x r) (fun u => xW a d pr u.1 K X Y u.2.1 u.2.2.1 u.2.2.2) := by
  refine mk_i (by decide) (Nat.le_of_ble_eq_true rfl) ?_
  intro p e s m below meth c A hx hb hml hr hlk hown hts hA hK hP hD hS ls hl
  have hown : s.vm.findClass RX0 = some m.cls := hown
  have hl : lv_has ls 4 [(0, .ref (a 0)), (1, .int (x))] := hl
  refine lv_iload_n hx hb dX0_twins_0 rfl (lv_at hl 1 rfl) ?_
  refine cl_Si (n := 1) (As := [.int (x)]) (rest := []) hx hb hml hown hts (mX0_isVariable l D _ _ x) (lw_S q59 q60 q15 q61) (by decide +kernel) rfl ⟨Nat.le_of_ble_eq_true rfl, Nat.le_of_ble_eq_true rfl⟩ ⟨Nat.le_refl _, Nat.le_refl _⟩ hK hP hD hS hA hl.1 rfl (Nat.le_of_ble_eq_true rfl) dX0_twins_1 (fun r _ H locs hp hP hD hS => ?_)
  have hp : r = bI (vr x) := hp
  subst hp
  refine nv_ifne (tgt := 9) hx hb dX0_twins_4 (by decide) (fun c1 => ?_) (fun c1 => ?_)
  · obtain ⟨j, hj, rfl⟩ := vr_of c1
    refine lv_aload_n hx hb dX0_twins_9 rfl (lv_at hl 0 rfl) ?_
    refine cl_Vv (n := 0) (As := []) (rest := []) (ci := 0) (q0 := 0) hx hb hml hown hts (mX0_solve l D a d pr kn K X Y σ hpr hW hO.1 hO.2) (lw_V q82 q84 qs2 q15 q85) (by decide +kernel) rfl ⟨Nat.le_of_ble_eq_true rfl, Nat.le_of_ble_eq_true rfl⟩ ⟨Nat.le_refl _, Nat.le_refl _⟩ hK hP hD hS hA rfl rfl hl.1 rfl (Nat.le_of_ble_eq_true rfl) dX0_twins_10 (fun τ H locs hs hP hD hS => ?_)
    have hP : va_P D vwCl (xW a d pr true K X Y τ.1 τ.2.1 τ.2.2) H := hP
    have hD : va_D A (xW a d pr true K X Y τ.1 τ.2.1 τ.2.2) := hD
    have hs : zBn τ ∧ zSol (Nat.testBit pr) K X Y τ.1 := hs
    refine lv_iconst (v := nI 0) hx hb dX0_twins_13 (by decide) ?_
    refine lv_istore_n (lv' := [(2, .int (nI (0))), (0, .ref (a 0)), (1, .int (nI (j)))]) hx hb dX0_twins_14 rfl hl (by decide) rfl (fun ls hl => ?_)
    refine lv_iconst (v := nI 0) hx hb dX0_twins_15 (by decide) ?_
    refine lv_istore_n (lv' := [(3, .int (nI (0))), (2, .int (nI (0))), (0, .ref (a 0)), (1, .int (nI (j)))]) hx hb dX0_twins_16 rfl hl (by decide) rfl (fun ls hl => ?_)
    refine wl_up (pc := 17) 8 (fun i H locs ls => ∃ (n : Nat), (n = zcol (fun z => decide (τ.1 z = τ.1 j)) i) ∧ va_P D vwCl (xW a d pr true K X Y τ.1 τ.2.1 τ.2.2) H ∧ va_D A (xW a d pr true K X Y τ.1 τ.2.1 τ.2.2) ∧ va_S A s.heap H locs ∧ lv_has ls 4 [(0, .ref (a 0)), (1, .int (nI (j))), (2, .int (nI (n))), (3, .int (nI (i)))]) ?_ ?_ 0 (by omega) _ _ _ ⟨0, rfl, hP, hD, hS, lv_sub hl [2, 3, 1, 0] rfl⟩
    · intro i hk H locs ls hI ih
      obtain ⟨n, e1, hP, hD, hS, hl⟩ := hI
      refine lv_iload_n hx hb dX0_twins_17 rfl (lv_at hl 3 rfl) ?_
      refine lv_bipush (v := nI 8) hx hb dX0_twins_18 (by decide) ?_
      refine nv_icmp_ge (tgt := 54) hx hb dX0_twins_20 (by decide) (fun c0 => ?_) (fun c0 => ?_)
      · exfalso; omega
      · refine lv_iload_n hx hb dX0_twins_23 rfl (lv_at hl 2 rfl) ?_
        refine lv_aload_n hx hb dX0_twins_24 rfl (lv_at hl 0 rfl) ?_
        refine va_get (D := D) (ci := 0) (v := .ref (a 4)) (C := RX0) (T := TX0) (N := 8) hx hb hts in_X0 hown hK hP 0 rfl rfl 5 (by decide) (hts _ q30) (fun _ h9 => h9) rfl dX0_twins_25 ?_
        refine lv_iload_n hx hb dX0_twins_28 rfl (lv_at hl 3 rfl) ?_
        refine nv_sald hx hb hK hP 4 3 rfl rfl (by omega) dX0_twins_29 ?_
        refine lv_aload_n hx hb dX0_twins_30 rfl (lv_at hl 0 rfl) ?_
        refine va_get (D := D) (ci := 0) (v := .ref (a 4)) (C := RX0) (T := TX0) (N := 8) hx hb hts in_X0 hown hK hP 0 rfl rfl 5 (by decide) (hts _ q30) (fun _ h9 => h9) rfl dX0_twins_31 ?_
        refine lv_iload_n hx hb dX0_twins_34 rfl (lv_at hl 1 rfl) ?_
        refine nv_sald hx hb hK hP 4 3 rfl rfl (by omega) dX0_twins_35 ?_
        refine nv_icmp_ne (tgt := 45) hx hb dX0_twins_36 (by decide) (fun c2 => ?_) (fun c2 => ?_) (by have := hs.1.1 i (by omega); omega) (by have := hs.1.1 j hj; omega)
        · refine lv_iconst (v := nI 0) hx hb dX0_twins_45 (by decide) ?_
          refine nv_ior hx hb dX0_twins_46 ?_
          refine lv_istore_n (lv' := [(2, .int (nI (n ||| 0))), (0, .ref (a 0)), (1, .int (nI (j))), (3, .int (nI (i)))]) hx hb dX0_twins_47 rfl hl (by decide) rfl (fun ls hl => ?_)
          refine lv_iinc (v := nI (i + 1)) (lv' := [(3, .int (nI (i + 1))), (2, .int (nI (n ||| 0))), (0, .ref (a 0)), (1, .int (nI (j)))]) hx hb dX0_twins_48 hl (k := 3) rfl (by exact nI_1 _) (by decide) rfl (fun ls hl => ?_)
          refine lv_goto (tgt := 17) hx hb dX0_twins_51 (by decide) ?_
          exact ih _ _ _ ⟨(n ||| 0), (zcol_f0 e1 (decide_eq_false c2)), hP, hD, hS, lv_sub hl [2, 3, 1, 0] rfl⟩
        · refine lv_iconst (v := nI 1) hx hb dX0_twins_39 (by decide) ?_
          refine lv_iload_n hx hb dX0_twins_40 rfl (lv_at hl 3 rfl) ?_
          refine nv_shl hx hb dX0_twins_41 (by omega) ?_
          refine lv_goto (tgt := 46) hx hb dX0_twins_42 (by decide) ?_
          refine nv_ior hx hb dX0_twins_46 ?_
          refine lv_istore_n (lv' := [(2, .int (nI (n ||| (2 ^ i)))), (0, .ref (a 0)), (1, .int (nI (j))), (3, .int (nI (i)))]) hx hb dX0_twins_47 rfl hl (by decide) rfl (fun ls hl => ?_)
          refine lv_iinc (v := nI (i + 1)) (lv' := [(3, .int (nI (i + 1))), (2, .int (nI (n ||| (2 ^ i)))), (0, .ref (a 0)), (1, .int (nI (j)))]) hx hb dX0_twins_48 hl (k := 3) rfl (by exact nI_1 _) (by decide) rfl (fun ls hl => ?_)
          refine lv_goto (tgt := 17) hx hb dX0_twins_51 (by decide) ?_
          exact ih _ _ _ ⟨(n ||| 2 ^ i), (zcol_t e1 (decide_eq_true c2)), hP, hD, hS, lv_sub hl [2, 3, 1, 0] rfl⟩
    · intro H locs ls hI
      obtain ⟨n, e1, hP, hD, hS, hl⟩ := hI
      refine lv_iload_n hx hb dX0_twins_17 rfl (lv_at hl 3 rfl) ?_
      refine lv_bipush (v := nI 8) hx hb dX0_twins_18 (by decide) ?_
      refine nv_icmp_ge (tgt := 54) hx hb dX0_twins_20 (by decide) (fun c0 => ?_) (fun c0 => ?_)
      · refine lv_iload_n hx hb dX0_twins_54 rfl (lv_at hl 2 rfl) ?_
        exact rt_i (v := nI (n)) hx hb hr hlk (true, τ) ⟨⟨hs.1, fun _ => hs.2⟩, Or.inr ⟨τ.1, j, hs.2, hj, rfl, congrArg nI e1⟩⟩ hK hP hD hS dX0_twins_55
      · exfalso; omega
  · refine lv_iconst (v := nI 0) hx hb dX0_twins_7 (by decide) ?_
    exact rt_i (v := nI (0)) hx hb hr hlk (kn, σ) ⟨hO, Or.inl ⟨c1, rfl⟩⟩ hK hP hD hS dX0_twins_8
end
section
/-! rows for the reference's loops -/
theorem coF_f {two : Bool} {x y th z : Nat} {P : Nat → Nat} {q : Rg} (e : q = coF two x y th P z) (c : th.testBit z = false) : q = coF two x y th P (z + 1) := by rw [coF, ← e, if_neg (by rw [c]; decide)]
theorem coF_2 {x y th z : Nat} {P : Nat → Nat} {q : Rg} (e : q = coF true x y th P z) (c : th.testBit z = true) : orF q x (q.1 z) = coF true x y th P (z + 1) := by rw [coF, ← e, if_pos c, if_pos rfl]
theorem coF_3 {x y th z : Nat} {P : Nat → Nat} {q : Rg} (e : q = coF false x y th P z) (c : th.testBit z = true) : orF q z (q.1 y) = coF false x y th P (z + 1) := by rw [coF, ← e, if_pos c, if_neg (by decide)]
theorem orF_t {q : Rg} {t w : Nat} (h : q.2 = true) : (orF q t w).2 = true := by
  show (q.2 || decide (ndf w (q.1 t) ≠ 0)) = true
  rw [h, Bool.true_or]
theorem orF_n {q : Rg} {t w : Nat} (h : ndf w (q.1 t) ≠ 0) : (orF q t w).2 = true := by
  show (q.2 || decide (ndf w (q.1 t) ≠ 0)) = true
  rw [decide_eq_true h, Bool.or_true]
theorem orF_f {q : Rg} {t w : Nat} (h : q.2 = false) (h2 : ndf w (q.1 t) = 0) : (orF q t w).2 = false := by
  show (q.2 || decide (ndf w (q.1 t) ≠ 0)) = false
  rw [h, decide_eq_false (not_not_intro h2)]
  rfl
theorem cr_0 {K X Y P : Nat → Nat} {k : Nat} (h : K k = 0) : orF (P, false) (X k) (2 ^ Y k) = crF K X Y k P := by rw [crF, if_pos h]
theorem cr_1 {K X Y P : Nat → Nat} {k : Nat} (h : K k = 1) : orF (P, false) (X k) (P (Y k)) = crF K X Y k P := by rw [crF, if_neg (by omega), if_pos h]
theorem cr_2 {K X Y P : Nat → Nat} {k : Nat} (h : K k = 2) : coF true (X k) (Y k) (P (Y k)) P 8 = crF K X Y k P := by rw [crF, if_neg (by omega), if_neg (by omega), if_pos h]
theorem cr_3 {K X Y P : Nat → Nat} {k : Nat} (h : K k = 3) : coF false (X k) (Y k) (P (X k)) P 8 = crF K X Y k P := by rw [crF, if_neg (by omega), if_neg (by omega), if_neg (by omega)]
theorem zc1_eq {K X Y P P2 : Nat → Nat} {k : Nat} (hW : zWF K X Y) (hk : k < 13) (hB : zB8 P2) (h : ∀ x, x < 8 → P x = P2 x) (hc : zc1 K X Y P k) : zc1 K X Y P2 k := by
  obtain ⟨c0, c1, c2, c3⟩ := hc
  obtain ⟨-, hX, hY⟩ := hW k hk
  unfold zbm at *
  rw [h _ hX, h _ hY] at *
  refine ⟨c0, c1, fun q z v e e2 => ?_, fun q z v e e2 => ?_⟩
  · have e2 : (P2 z).testBit v = true := e2
    rw [← h z (z_t8 (hB _ hY) e)] at e2
    exact c2 q z v e e2
  · have h1 := c3 q z v e e2
    rw [h z (z_t8 (hB _ hX) e)] at h1
    exact h1
theorem p0_up {P : Nat → Nat} {x : Nat} (h : ∀ j, j < x → P j = 0) : ∀ j, j < x + 1 → va_up P x 0 j = 0 := by
  intro j hj
  rcases Classical.em (j = x) with e | e
  · subst e; rw [va_up_self]
  · rw [va_up_ne _ _ e]; exact h j (by omega)
theorem p0_B8 {P : Nat → Nat} (h : ∀ j, j < 8 → P j = 0) : zB8 P := fun x hx => by rw [h x hx]; decide
theorem p0_Snd {T : Nat → Bool} {K X Y P : Nat → Nat} (h : ∀ j, j < 8 → P j = 0) : zSnd T K X Y P := fun M _ x hx v q => by
  rw [h x hx, Nat.zero_testBit] at q
  cases q
theorem wk_end {T : Nat → Bool} {K X Y P P2 : Nat → Nat} {q : Nat} {b : Bool} (hW : zWF K X Y) (hB : zB8 P2) (hq : q ≤ ztot P2) (h3 : zrel P2 (P, b)) (h4 : b = false → ∀ i, i < 13 → T i = true → zc1 K X Y P2 i) : (b = true ∧ q + 1 ≤ ztot P) ∨ (b = false ∧ zCl T K X Y (zbm P)) := by
  cases b with
  | true =>
    refine Or.inl ⟨rfl, ?_⟩
    have h := ztot_lt h3.1 (h3.2.2 rfl)
    have h : ztot P2 < ztot P := h
    omega
  | false => exact Or.inr ⟨rfl, zCl_eq hW hB (h3.2.1 rfl) (zc1_Cl (h4 rfl))⟩
theorem wk_fin {T : Nat → Bool} {K X Y P : Nat → Nat} {b : Bool} (h : (b = true ∧ 65 ≤ ztot P) ∨ (b = false ∧ zCl T K X Y (zbm P))) : zCl T K X Y (zbm P) := by
  rcases h with ⟨-, h⟩ | ⟨-, h⟩
  · exact absurd (Nat.le_trans h (ztot_le P)) (by decide)
  · exact h
theorem wk_b {T : Nat → Bool} {K X Y P : Nat → Nat} {q : Nat} {b : Bool} (h : (b = true ∧ q ≤ ztot P) ∨ (b = false ∧ zCl T K X Y (zbm P))) (hb : b = true) : q ≤ ztot P := by
  rcases h with ⟨-, h⟩ | ⟨h, -⟩
  · exact h
  · rw [hb] at h; cases h
theorem wk_f {T : Nat → Bool} {K X Y P : Nat → Nat} {q : Nat} {b : Bool} (h : (b = true ∧ q ≤ ztot P) ∨ (b = false ∧ zCl T K X Y (zbm P))) (hb : b = false) : zCl T K X Y (zbm P) := by
  rcases h with ⟨h, -⟩ | ⟨-, h⟩
  · rw [hb] at h; cases h
  · exact h
theorem fl_fin {T : Nat → Bool} {K X Y : Nat → Nat} {x : Int32} {z n j : Nat} (hW : zWF K X Y) (hz : (vr x = false ∧ z = 0) ∨ ∃ i, i < 8 ∧ x = nI i ∧ z = 2 ^ i) (hj : j < 8) (e : n = zfl (zon T K) X Y z 96) : rFl T K X Y x (nI j) (bI (Nat.testBit n j)) := by
  rcases hz with ⟨h1, h2⟩ | ⟨i, hi, h1, h2⟩
  · refine Or.inl ⟨Or.inl h1, ?_⟩
    rw [e, h2, zfl_0, Nat.zero_testBit]
  · refine Or.inr ⟨i, j, hi, hj, h1, rfl, ?_⟩
    rw [e, h2, zfl_back hi hj (fun k hk => (hW k (by omega)).2.1) (fun k hk => (hW k (by omega)).2.2)]
theorem fl_z (x : Int32) : ∃ z : Nat, z < 256 ∧ ((vr x = false ∧ z = 0) ∨ ∃ i, i < 8 ∧ x = nI i ∧ z = 2 ^ i) := by
  cases h : vr x with
  | false => exact ⟨0, by decide, Or.inl ⟨rfl, rfl⟩⟩
  | true =>
    obtain ⟨i, hi, rfl⟩ := vr_of h
    exact ⟨2 ^ i, z_2p hi, Or.inr ⟨i, hi, rfl, rfl⟩⟩
theorem up_tt {T : Nat → Bool} {j : Nat} (h : T j = true) : va_up (va_up T j false) j true = T := by
  funext i
  rcases Classical.em (i = j) with e | e
  · subst e; rw [va_up_self, h]
  · rw [va_up_ne _ _ e, va_up_ne _ _ e]
theorem up_ff {T : Nat → Bool} {j : Nat} (h : T j = false) : va_up (va_up T j true) j false = T := by
  funext i
  rcases Classical.em (i = j) with e | e
  · subst e; rw [va_up_self, h]
  · rw [va_up_ne _ _ e, va_up_ne _ _ e]
theorem cp_up {P O : Nat → Nat} {x : Nat} (h : ∀ j, j < x → O j = P j) : ∀ j, j < x + 1 → va_up O x (P x) j = P j := by
  intro j hj
  rcases Classical.em (j = x) with e | e
  · subst e; rw [va_up_self]
  · rw [va_up_ne _ _ e]; exact h j (by omega)
theorem eq_t {P O : Nat → Nat} {x : Nat} {b : Bool} (h : b = true ↔ ∀ j, j < x → O j = P j) (hb : b = true) (c : O x = P x) : true = true ↔ ∀ j, j < x + 1 → O j = P j := ⟨fun _ => lt_s (h.mp hb) c, fun _ => rfl⟩
theorem eq_f {P O : Nat → Nat} {x : Nat} (c : O x ≠ P x) : false = true ↔ ∀ j, j < x + 1 → O j = P j := ⟨fun q => (by cases q), fun q => absurd (q x (Nat.lt_succ_self x)) c⟩
theorem eq_f0 {P O : Nat → Nat} {x : Nat} {b : Bool} (h : b = true ↔ ∀ j, j < x → O j = P j) (hb : b = false) : false = true ↔ ∀ j, j < x + 1 → O j = P j := ⟨fun q => (by cases q), fun q => by
  have h1 := h.mpr (fun j hj => q j (by omega))
  rw [hb] at h1
  exact h1⟩
theorem rd_fin {T T2 : Nat → Bool} {K X Y P P2 O : Nat → Nat} {b : Bool} (hT : ∀ k, k < 13 → T2 k = true → T k = true) (h1 : zSol T K X Y P) (h2 : zSol T2 K X Y P2) (hO : ∀ j, j < 8 → O j = P j) (h : b = true ↔ ∀ j, j < 8 → O j = P2 j) : b = decide (ztot P = ztot P2) := by
  refine Bool.eq_iff_iff.mpr ?_
  rw [decide_eq_true_iff, ztot_iff h1.1 h2.1 (z_mono hT h1 h2), h]
  exact ⟨fun q j hj => by rw [← hO j hj]; exact q j hj, fun q j hj => by rw [hO j hj]; exact q j hj⟩
theorem up_sub {T : Nat → Bool} {j : Nat} : ∀ k, k < 13 → va_up T j false k = true → T k = true := by
  intro k _ h
  rcases Classical.em (k = j) with e | e
  · subst e; rw [va_up_self] at h; cases h
  · rw [va_up_ne _ _ e] at h; exact h
abbrev mGn (a : Nat → Nat) (d : Nat → ClassId) (T : Nat → Bool) (K X Y P O : Nat → Nat) (o : Option (Nat × Nat × Nat)) : va_W := match o with
  | none => mW a d T K X Y P O
  | some (n1, n2, n3) => mW a d T (va_up K 12 n1) (va_up X 12 n2) (va_up Y 12 n3) P O
end
section
set_option maxRecDepth 100000
set_option maxHeartbeats 4000000 in
set_option maxRecDepth 100000 in
/-- variable(x) -/
theorem mX1_variable (l : Launch) (D : va_G) (a : Nat → Nat) (d : Nat → ClassId) (T : Nat → Bool) (K X Y P O : Nat → Nat) (x : Int32) : Ki l yX1_variable cX1_variable 2 (some .boolean) 0 0 D (mT d) (mW a d T K X Y P O) [.ref (a 0), .int x] (fun r (_ : Unit) => r = bI (vr x)) (fun _ => mW a d T K X Y P O) := by
  refine mk_i (by decide) (Nat.le_of_ble_eq_true rfl) ?_
  intro p e s m below meth c A hx hb hml hr hlk hown hts hA hK hP hD hS ls hl
  have hown : s.vm.findClass RX1 = some m.cls := hown
  have hl : lv_has ls 2 [(0, .ref (a 0)), (1, .int (x))] := hl
  refine lv_iload_n hx hb dX1_variable_0 rfl (lv_at hl 1 rfl) ?_
  refine lv_if_lt (tgt := 14) hx hb dX1_variable_1 (by decide) (fun c1 => ?_) (fun c1 => ?_)
  · refine lv_iconst (v := bI false) hx hb dX1_variable_14 (by decide) ?_
    exact rt_z (v := false) hx hb hr hlk () (congrArg bI (vr_lt c1).symm) hK hP hD hS dX1_variable_15
  · refine lv_iload_n hx hb dX1_variable_4 rfl (lv_at hl 1 rfl) ?_
    refine lv_bipush (v := nI 7) hx hb dX1_variable_5 (by decide) ?_
    refine lv_icmp_gt (tgt := 14) hx hb dX1_variable_7 (by decide) (fun c2 => ?_) (fun c2 => ?_)
    · refine lv_iconst (v := bI false) hx hb dX1_variable_14 (by decide) ?_
      exact rt_z (v := false) hx hb hr hlk () (congrArg bI (vr_gt c2).symm) hK hP hD hS dX1_variable_15
    · refine lv_iconst (v := bI true) hx hb dX1_variable_10 (by decide) ?_
      refine lv_goto (tgt := 15) hx hb dX1_variable_11 (by decide) ?_
      exact rt_z (v := true) hx hb hr hlk () (congrArg bI (vr_in' c1 c2).symm) hK hP hD hS dX1_variable_15
set_option maxHeartbeats 4000000 in
set_option maxRecDepth 100000 in
/-- good(x, y, z) -/
theorem mX1_good (l : Launch) (D : va_G) (a : Nat → Nat) (d : Nat → ClassId) (T : Nat → Bool) (K X Y P O : Nat → Nat) (x y z : Int32) : Ki l yX1_good cX1_good 4 (some .boolean) 1 21 D (mT d) (mW a d T K X Y P O) [.ref (a 0), .int x, .int y, .int z] (fun r (_ : Unit) => r = bI (sok x y z)) (fun _ => mW a d T K X Y P O) := by
  refine mk_i (by decide) (Nat.le_of_ble_eq_true rfl) ?_
  intro p e s m below meth c A hx hb hml hr hlk hown hts hA hK hP hD hS ls hl
  have hown : s.vm.findClass RX1 = some m.cls := hown
  have hl : lv_has ls 4 [(0, .ref (a 0)), (1, .int (x)), (2, .int (y)), (3, .int (z))] := hl
  refine lv_iload_n hx hb dX1_good_0 rfl (lv_at hl 1 rfl) ?_
  refine lv_if_lt (tgt := 29) hx hb dX1_good_1 (by decide) (fun c1 => ?_) (fun c1 => ?_)
  · refine lv_iconst (v := bI false) hx hb dX1_good_29 (by decide) ?_
    exact rt_z (v := false) hx hb hr hlk () (congrArg bI (sok_1 (kr_lt c1)).symm) hK hP hD hS dX1_good_30
  · refine lv_iload_n hx hb dX1_good_4 rfl (lv_at hl 1 rfl) ?_
    refine lv_iconst (v := nI 3) hx hb dX1_good_5 (by decide) ?_
    refine lv_icmp_gt (tgt := 29) hx hb dX1_good_6 (by decide) (fun c2 => ?_) (fun c2 => ?_)
    · refine lv_iconst (v := bI false) hx hb dX1_good_29 (by decide) ?_
      exact rt_z (v := false) hx hb hr hlk () (congrArg bI (sok_1 (kr_gt c2)).symm) hK hP hD hS dX1_good_30
    · refine lv_aload_n hx hb dX1_good_9 rfl (lv_at hl 0 rfl) ?_
      refine lv_iload_n hx hb dX1_good_10 rfl (lv_at hl 2 rfl) ?_
      refine cl_Vi (n := 1) (As := [.int (y)]) (rest := []) (ci := 1) (q0 := 0) hx hb hml hown hts (mX1_variable l D a d T K X Y P O (y)) (lw_V q182 q184 qs9 q16 q185) (by decide +kernel) rfl ⟨Nat.le_of_ble_eq_true rfl, Nat.le_of_ble_eq_true rfl⟩ ⟨Nat.le_refl _, Nat.le_refl _⟩ hK hP hD hS hA rfl rfl hl.1 rfl (Nat.le_of_ble_eq_true rfl) dX1_good_11 (fun r _ H locs hp hP hD hS => ?_)
      have hp : r = bI (vr (y)) := hp
      subst hp
      refine nv_ifeq (tgt := 29) hx hb dX1_good_14 (by decide) (fun c3 => ?_) (fun c3 => ?_)
      · refine lv_iconst (v := bI false) hx hb dX1_good_29 (by decide) ?_
        exact rt_z (v := false) hx hb hr hlk () (congrArg bI (sok_2 c3).symm) hK hP hD hS dX1_good_30
      · refine lv_aload_n hx hb dX1_good_17 rfl (lv_at hl 0 rfl) ?_
        refine lv_iload_n hx hb dX1_good_18 rfl (lv_at hl 3 rfl) ?_
        refine cl_Vi (n := 1) (As := [.int (z)]) (rest := []) (ci := 1) (q0 := 0) hx hb hml hown hts (mX1_variable l D a d T K X Y P O (z)) (lw_V q182 q184 qs9 q16 q185) (by decide +kernel) rfl ⟨Nat.le_of_ble_eq_true rfl, Nat.le_of_ble_eq_true rfl⟩ ⟨Nat.le_refl _, Nat.le_refl _⟩ hK hP hD hS hA rfl rfl hl.1 rfl (Nat.le_of_ble_eq_true rfl) dX1_good_19 (fun r _ H locs hp hP hD hS => ?_)
        have hp : r = bI (vr (z)) := hp
        subst hp
        refine nv_ifeq (tgt := 29) hx hb dX1_good_22 (by decide) (fun c4 => ?_) (fun c4 => ?_)
        · refine lv_iconst (v := bI false) hx hb dX1_good_29 (by decide) ?_
          exact rt_z (v := false) hx hb hr hlk () (congrArg bI (sok_3 c4).symm) hK hP hD hS dX1_good_30
        · refine lv_iconst (v := bI true) hx hb dX1_good_25 (by decide) ?_
          refine lv_goto (tgt := 30) hx hb dX1_good_26 (by decide) ?_
          exact rt_z (v := true) hx hb hr hlk () (congrArg bI (sok_t (kr_in c1 c2) c3 c4).symm) hK hP hD hS dX1_good_30
set_option maxHeartbeats 4000000 in
set_option maxRecDepth 100000 in
/-- hold(k, n1, n2, n3) -/
theorem mX1_hold (l : Launch) (D : va_G) (a : Nat → Nat) (d : Nat → ClassId) (T : Nat → Bool) (K X Y P O : Nat → Nat) (k n1 n2 n3 : Nat) (h1 : k < 13) : Kv l yX1_hold cX1_hold 5 0 0 D (mT d) (mW a d T K X Y P O) [.ref (a 0), .int (nI k), .int (nI n1), .int (nI n2), .int (nI n3)] (fun _ : Unit => True) (fun _ => mW a d (va_up T k true) (va_up K k n1) (va_up X k n2) (va_up Y k n3) P O) := by
  refine mk_v (by decide) (Nat.le_of_ble_eq_true rfl) ?_
  intro p e s m below meth c A hx hb hml hr hlk hown hts hA hK hP hD hS ls hl
  have hown : s.vm.findClass RX1 = some m.cls := hown
  have hl : lv_has ls 5 [(0, .ref (a 0)), (1, .int (nI (k))), (2, .int (nI (n1))), (3, .int (nI (n2))), (4, .int (nI (n3)))] := hl
  refine lv_aload_n hx hb dX1_hold_0 rfl (lv_at hl 0 rfl) ?_
  refine va_get (D := D) (ci := 1) (v := .ref (a 1)) (C := RX1) (T := TX1) (N := 6) hx hb hts in_X1 hown hK hP 0 rfl rfl 0 (by decide) (hts _ q153) (fun _ h9 => h9) rfl dX1_hold_1 ?_
  refine lv_iload_n hx hb dX1_hold_4 rfl (lv_at hl 1 rfl) ?_
  refine lv_iconst (v := bI true) hx hb dX1_hold_5 (by decide) ?_
  refine nv_zast hx hb hK hP hD hS 1 0 rfl rfl (by omega) dX1_hold_6 (fun H locs hP hD hS => ?_)
  have hP : va_P D vwCl (mW a d (va_up T k true) K X Y P O) H := hP
  have hD : va_D A (mW a d (va_up T k true) K X Y P O) := hD
  refine lv_aload_n hx hb dX1_hold_7 rfl (lv_at hl 0 rfl) ?_
  refine va_get (D := D) (ci := 1) (v := .ref (a 2)) (C := RX1) (T := TX1) (N := 6) hx hb hts in_X1 hown hK hP 0 rfl rfl 1 (by decide) (hts _ q154) (fun _ h9 => h9) rfl dX1_hold_8 ?_
  refine lv_iload_n hx hb dX1_hold_11 rfl (lv_at hl 1 rfl) ?_
  refine lv_iload_n hx hb dX1_hold_12 rfl (lv_at hl 2 rfl) ?_
  refine nv_iast hx hb hK hP hD hS 2 1 rfl rfl (by omega) dX1_hold_13 (fun H locs hP hD hS => ?_)
  have hP : va_P D vwCl (mW a d (va_up T k true) (va_up K k n1) X Y P O) H := hP
  have hD : va_D A (mW a d (va_up T k true) (va_up K k n1) X Y P O) := hD
  refine lv_aload_n hx hb dX1_hold_14 rfl (lv_at hl 0 rfl) ?_
  refine va_get (D := D) (ci := 1) (v := .ref (a 3)) (C := RX1) (T := TX1) (N := 6) hx hb hts in_X1 hown hK hP 0 rfl rfl 2 (by decide) (hts _ q155) (fun _ h9 => h9) rfl dX1_hold_15 ?_
  refine lv_iload_n hx hb dX1_hold_18 rfl (lv_at hl 1 rfl) ?_
  refine lv_iload_n hx hb dX1_hold_19 rfl (lv_at hl 3 rfl) ?_
  refine nv_iast hx hb hK hP hD hS 3 2 rfl rfl (by omega) dX1_hold_20 (fun H locs hP hD hS => ?_)
  have hP : va_P D vwCl (mW a d (va_up T k true) (va_up K k n1) (va_up X k n2) Y P O) H := hP
  have hD : va_D A (mW a d (va_up T k true) (va_up K k n1) (va_up X k n2) Y P O) := hD
  refine lv_aload_n hx hb dX1_hold_21 rfl (lv_at hl 0 rfl) ?_
  refine va_get (D := D) (ci := 1) (v := .ref (a 4)) (C := RX1) (T := TX1) (N := 6) hx hb hts in_X1 hown hK hP 0 rfl rfl 3 (by decide) (hts _ q156) (fun _ h9 => h9) rfl dX1_hold_22 ?_
  refine lv_iload_n hx hb dX1_hold_25 rfl (lv_at hl 1 rfl) ?_
  refine lv_iload hx hb dX1_hold_26 (lv_at hl 4 rfl) ?_
  refine nv_iast hx hb hK hP hD hS 4 3 rfl rfl (by omega) dX1_hold_28 (fun H locs hP hD hS => ?_)
  have hP : va_P D vwCl (mW a d (va_up T k true) (va_up K k n1) (va_up X k n2) (va_up Y k n3) P O) H := hP
  have hD : va_D A (mW a d (va_up T k true) (va_up K k n1) (va_up X k n2) (va_up Y k n3) P O) := hD
  exact rt_v hx hb hr hlk () trivial hK hP hD hS dX1_hold_29
set_option maxHeartbeats 4000000 in
set_option maxRecDepth 100000 in
/-- add(kd, x, y) -/
theorem mX1_add (l : Launch) (D : va_G) (a : Nat → Nat) (d : Nat → ClassId) (T : Nat → Bool) (K X Y P O : Nat → Nat) (kd x y : Int32) : Ki l yX1_add cX1_add 5 (some .int) 2 44 D (mT d) (mW a d T K X Y P O) [.ref (a 0), .int kd, .int x, .int y] (fun r (u : Option (Nat × Nat × Nat × Nat)) => adR T kd x y r u) (fun u => mAdd a d T K X Y P O u) := by
  refine mk_i (by decide) (Nat.le_of_ble_eq_true rfl) ?_
  intro p e s m below meth c A hx hb hml hr hlk hown hts hA hK hP hD hS ls hl
  have hown : s.vm.findClass RX1 = some m.cls := hown
  have hl : lv_has ls 5 [(0, .ref (a 0)), (1, .int (kd)), (2, .int (x)), (3, .int (y))] := hl
  refine lv_aload_n hx hb dX1_add_0 rfl (lv_at hl 0 rfl) ?_
  refine lv_iload_n hx hb dX1_add_1 rfl (lv_at hl 1 rfl) ?_
  refine lv_iload_n hx hb dX1_add_2 rfl (lv_at hl 2 rfl) ?_
  refine lv_iload_n hx hb dX1_add_3 rfl (lv_at hl 3 rfl) ?_
  refine cl_Vi (n := 3) (As := [.int (kd), .int (x), .int (y)]) (rest := []) (ci := 1) (q0 := 0) hx hb hml hown hts (mX1_good l D a d T K X Y P O kd x y) (lw_V q178 q180 qs8 q16 q181) (by decide +kernel) rfl ⟨Nat.le_of_ble_eq_true rfl, Nat.le_of_ble_eq_true rfl⟩ ⟨Nat.le_refl _, Nat.le_refl _⟩ hK hP hD hS hA rfl rfl hl.1 rfl (Nat.le_of_ble_eq_true rfl) dX1_add_4 (fun r _ H locs hp hP hD hS => ?_)
  have hp : r = bI (sok kd x y) := hp
  subst hp
  refine nv_ifne (tgt := 12) hx hb dX1_add_7 (by decide) (fun c1 => ?_) (fun c1 => ?_)
  · obtain ⟨⟨n1, w1, rfl⟩, ⟨n2, w2, rfl⟩, ⟨n3, w3, rfl⟩⟩ := sok_of c1
    refine lv_iconst (v := nI 0) hx hb dX1_add_12 (by decide) ?_
    refine lv_istore (lv' := [(4, .int (nI (0))), (0, .ref (a 0)), (1, .int (nI (n1))), (2, .int (nI (n2))), (3, .int (nI (n3)))]) hx hb dX1_add_13 hl (by decide) rfl (fun ls hl => ?_)
    refine wl_up (pc := 15) 12 (fun k H locs ls => (∀ j, j < k → T j = true) ∧ va_P D vwCl (mW a d T K X Y P O) H ∧ va_D A (mW a d T K X Y P O) ∧ va_S A s.heap H locs ∧ lv_has ls 5 [(0, .ref (a 0)), (1, .int (nI (n1))), (2, .int (nI (n2))), (3, .int (nI (n3))), (4, .int (nI (k)))]) ?_ ?_ 0 (by omega) _ _ _ ⟨(fun j h => absurd h (Nat.not_lt_zero j)), hP, hD, hS, lv_sub hl [1, 2, 3, 4, 0] rfl⟩
    · intro k hk H locs ls hI ih
      obtain ⟨hj, hP, hD, hS, hl⟩ := hI
      refine lv_iload hx hb dX1_add_15 (lv_at hl 4 rfl) ?_
      refine lv_bipush (v := nI 12) hx hb dX1_add_17 (by decide) ?_
      refine nv_icmp_ge (tgt := 50) hx hb dX1_add_19 (by decide) (fun c2 => ?_) (fun c2 => ?_)
      · exfalso; omega
      · refine lv_aload_n hx hb dX1_add_22 rfl (lv_at hl 0 rfl) ?_
        refine va_get (D := D) (ci := 1) (v := .ref (a 1)) (C := RX1) (T := TX1) (N := 6) hx hb hts in_X1 hown hK hP 0 rfl rfl 0 (by decide) (hts _ q153) (fun _ h9 => h9) rfl dX1_add_23 ?_
        refine lv_iload hx hb dX1_add_26 (lv_at hl 4 rfl) ?_
        refine nv_zald hx hb hK hP 1 0 rfl rfl (by omega) dX1_add_28 ?_
        refine nv_ifne (tgt := 44) hx hb dX1_add_29 (by decide) (fun c3 => ?_) (fun c3 => ?_)
        · refine lv_iinc (v := nI (k + 1)) (lv' := [(4, .int (nI (k + 1))), (0, .ref (a 0)), (1, .int (nI (n1))), (2, .int (nI (n2))), (3, .int (nI (n3)))]) hx hb dX1_add_44 hl (k := 4) rfl (by exact nI_1 _) (by decide) rfl (fun ls hl => ?_)
          refine lv_goto (tgt := 15) hx hb dX1_add_47 (by decide) ?_
          exact ih _ _ _ ⟨(lt_s hj c3), hP, hD, hS, lv_sub hl [1, 2, 3, 4, 0] rfl⟩
        · refine lv_aload_n hx hb dX1_add_32 rfl (lv_at hl 0 rfl) ?_
          refine lv_iload hx hb dX1_add_33 (lv_at hl 4 rfl) ?_
          refine lv_iload_n hx hb dX1_add_35 rfl (lv_at hl 1 rfl) ?_
          refine lv_iload_n hx hb dX1_add_36 rfl (lv_at hl 2 rfl) ?_
          refine lv_iload_n hx hb dX1_add_37 rfl (lv_at hl 3 rfl) ?_
          refine cl_Vv (n := 4) (As := [.int (nI (k)), .int (nI (n1)), .int (nI (n2)), .int (nI (n3))]) (rest := []) (ci := 1) (q0 := 0) hx hb hml hown hts (mX1_hold l D a d T K X Y P O k n1 n2 n3 (by omega)) (lw_V q186 q188 qs10 q16 q189) (by decide +kernel) rfl ⟨Nat.le_of_ble_eq_true rfl, Nat.le_of_ble_eq_true rfl⟩ ⟨Nat.le_refl _, Nat.le_refl _⟩ hK hP hD hS hA rfl rfl hl.1 rfl (Nat.le_of_ble_eq_true rfl) dX1_add_38 (fun _ H locs hp hP hD hS => ?_)
          have hP : va_P D vwCl (mW a d (va_up T k true) (va_up K k n1) (va_up X k n2) (va_up Y k n3) P O) H := hP
          have hD : va_D A (mW a d (va_up T k true) (va_up K k n1) (va_up X k n2) (va_up Y k n3) P O) := hD
          refine lv_iload hx hb dX1_add_41 (lv_at hl 4 rfl) ?_
          exact rt_i (v := nI (k)) hx hb hr hlk (some (k, n1, n2, n3)) (Or.inr (Or.inr ⟨k, n1, n2, n3, hk, w1, w2, w3, rfl, rfl, rfl, c1, c3, hj, rfl, rfl⟩)) hK hP hD hS dX1_add_43
    · intro H locs ls hI
      obtain ⟨hj, hP, hD, hS, hl⟩ := hI
      refine lv_iload hx hb dX1_add_15 (lv_at hl 4 rfl) ?_
      refine lv_bipush (v := nI 12) hx hb dX1_add_17 (by decide) ?_
      refine nv_icmp_ge (tgt := 50) hx hb dX1_add_19 (by decide) (fun c2 => ?_) (fun c2 => ?_)
      · refine lv_bipush (v := -2) hx hb dX1_add_50 (by decide) ?_
        exact rt_i (v := -2) hx hb hr hlk none (Or.inr (Or.inl ⟨c1, hj, rfl, rfl⟩)) hK hP hD hS dX1_add_52
      · exfalso; omega
  · refine lv_iconst (v := -1) hx hb dX1_add_10 (by decide) ?_
    exact rt_i (v := -1) hx hb hr hlk none (Or.inl ⟨c1, rfl, rfl⟩) hK hP hD hS dX1_add_11
set_option maxHeartbeats 4000000 in
set_option maxRecDepth 100000 in
/-- remove(k) -/
theorem mX1_remove (l : Launch) (D : va_G) (a : Nat → Nat) (d : Nat → ClassId) (T : Nat → Bool) (K X Y P O : Nat → Nat) (k : Int32) : Ki l yX1_remove cX1_remove 2 (some .boolean) 0 0 D (mT d) (mW a d T K X Y P O) [.ref (a 0), .int k] (fun r (u : Option Nat) => rmR T k r u) (fun u => mRem a d T K X Y P O u) := by
  refine mk_i (by decide) (Nat.le_of_ble_eq_true rfl) ?_
  intro p e s m below meth c A hx hb hml hr hlk hown hts hA hK hP hD hS ls hl
  have hown : s.vm.findClass RX1 = some m.cls := hown
  have hl : lv_has ls 2 [(0, .ref (a 0)), (1, .int (k))] := hl
  refine lv_iload_n hx hb dX1_remove_0 rfl (lv_at hl 1 rfl) ?_
  refine lv_if_lt (tgt := 19) hx hb dX1_remove_1 (by decide) (fun c1 => ?_) (fun c1 => ?_)
  · refine lv_iconst (v := bI false) hx hb dX1_remove_19 (by decide) ?_
    exact rt_z (v := false) hx hb hr hlk none (Or.inl ⟨hsb_f (tr_lt c1), rfl, rfl⟩) hK hP hD hS dX1_remove_20
  · refine lv_iload_n hx hb dX1_remove_4 rfl (lv_at hl 1 rfl) ?_
    refine lv_bipush (v := nI 11) hx hb dX1_remove_5 (by decide) ?_
    refine lv_icmp_gt (tgt := 19) hx hb dX1_remove_7 (by decide) (fun c2 => ?_) (fun c2 => ?_)
    · refine lv_iconst (v := bI false) hx hb dX1_remove_19 (by decide) ?_
      exact rt_z (v := false) hx hb hr hlk none (Or.inl ⟨hsb_f (tr_gt c2), rfl, rfl⟩) hK hP hD hS dX1_remove_20
    · obtain ⟨j, hj, rfl⟩ := tr_of (tr_in' c1 c2)
      refine lv_aload_n hx hb dX1_remove_10 rfl (lv_at hl 0 rfl) ?_
      refine va_get (D := D) (ci := 1) (v := .ref (a 1)) (C := RX1) (T := TX1) (N := 6) hx hb hts in_X1 hown hK hP 0 rfl rfl 0 (by decide) (hts _ q153) (fun _ h9 => h9) rfl dX1_remove_11 ?_
      refine lv_iload_n hx hb dX1_remove_14 rfl (lv_at hl 1 rfl) ?_
      refine nv_zald hx hb hK hP 1 0 rfl rfl (by omega) dX1_remove_15 ?_
      refine nv_ifne (tgt := 21) hx hb dX1_remove_16 (by decide) (fun c3 => ?_) (fun c3 => ?_)
      · refine lv_aload_n hx hb dX1_remove_21 rfl (lv_at hl 0 rfl) ?_
        refine va_get (D := D) (ci := 1) (v := .ref (a 1)) (C := RX1) (T := TX1) (N := 6) hx hb hts in_X1 hown hK hP 0 rfl rfl 0 (by decide) (hts _ q153) (fun _ h9 => h9) rfl dX1_remove_22 ?_
        refine lv_iload_n hx hb dX1_remove_25 rfl (lv_at hl 1 rfl) ?_
        refine lv_iconst (v := bI false) hx hb dX1_remove_26 (by decide) ?_
        refine nv_zast hx hb hK hP hD hS 1 0 rfl rfl (by omega) dX1_remove_27 (fun H locs hP hD hS => ?_)
        have hP : va_P D vwCl (mW a d (va_up T j false) K X Y P O) H := hP
        have hD : va_D A (mW a d (va_up T j false) K X Y P O) := hD
        refine lv_iconst (v := bI true) hx hb dX1_remove_28 (by decide) ?_
        exact rt_z (v := true) hx hb hr hlk (some j) (Or.inr ⟨j, hj, rfl, c3, rfl, rfl⟩) hK hP hD hS dX1_remove_29
      · refine lv_iconst (v := bI false) hx hb dX1_remove_19 (by decide) ?_
        exact rt_z (v := false) hx hb hr hlk none (Or.inl ⟨(hsb_n hj).trans c3, rfl, rfl⟩) hK hP hD hS dX1_remove_20
set_option maxHeartbeats 4000000 in
set_option maxRecDepth 100000 in
/-- statements() -/
theorem mX1_statements (l : Launch) (D : va_G) (a : Nat → Nat) (d : Nat → ClassId) (T : Nat → Bool) (K X Y P O : Nat → Nat) : Ki l yX1_statements cX1_statements 3 (some .int) 0 0 D (mT d) (mW a d T K X Y P O) [.ref (a 0)] (fun r (_ : Unit) => r = nI (zcol T 12)) (fun _ => mW a d T K X Y P O) := by
  refine mk_i (by decide) (Nat.le_of_ble_eq_true rfl) ?_
  intro p e s m below meth c A hx hb hml hr hlk hown hts hA hK hP hD hS ls hl
  have hown : s.vm.findClass RX1 = some m.cls := hown
  have hl : lv_has ls 3 [(0, .ref (a 0))] := hl
  refine lv_iconst (v := nI 0) hx hb dX1_statements_0 (by decide) ?_
  refine lv_istore_n (lv' := [(1, .int (nI (0))), (0, .ref (a 0))]) hx hb dX1_statements_1 rfl hl (by decide) rfl (fun ls hl => ?_)
  refine lv_iconst (v := nI 0) hx hb dX1_statements_2 (by decide) ?_
  refine lv_istore_n (lv' := [(2, .int (nI (0))), (1, .int (nI (0))), (0, .ref (a 0))]) hx hb dX1_statements_3 rfl hl (by decide) rfl (fun ls hl => ?_)
  refine wl_up (pc := 4) 12 (fun k H locs ls => ∃ (n : Nat), (n = zcol T k) ∧ va_P D vwCl (mW a d T K X Y P O) H ∧ va_D A (mW a d T K X Y P O) ∧ va_S A s.heap H locs ∧ lv_has ls 3 [(0, .ref (a 0)), (1, .int (nI (n))), (2, .int (nI (k)))]) ?_ ?_ 0 (by omega) _ _ _ ⟨0, rfl, hP, hD, hS, lv_sub hl [2, 1, 0] rfl⟩
  · intro k hk H locs ls hI ih
    obtain ⟨n, e1, hP, hD, hS, hl⟩ := hI
    refine lv_iload_n hx hb dX1_statements_4 rfl (lv_at hl 2 rfl) ?_
    refine lv_bipush (v := nI 12) hx hb dX1_statements_5 (by decide) ?_
    refine nv_icmp_ge (tgt := 35) hx hb dX1_statements_7 (by decide) (fun c0 => ?_) (fun c0 => ?_)
    · exfalso; omega
    · refine lv_aload_n hx hb dX1_statements_10 rfl (lv_at hl 0 rfl) ?_
      refine va_get (D := D) (ci := 1) (v := .ref (a 1)) (C := RX1) (T := TX1) (N := 6) hx hb hts in_X1 hown hK hP 0 rfl rfl 0 (by decide) (hts _ q153) (fun _ h9 => h9) rfl dX1_statements_11 ?_
      refine lv_iload_n hx hb dX1_statements_14 rfl (lv_at hl 2 rfl) ?_
      refine nv_zald hx hb hK hP 1 0 rfl rfl (by omega) dX1_statements_15 ?_
      refine nv_ifeq (tgt := 27) hx hb dX1_statements_16 (by decide) (fun c1 => ?_) (fun c1 => ?_)
      · refine lv_iload_n hx hb dX1_statements_27 rfl (lv_at hl 1 rfl) ?_
        refine lv_istore_n (lv' := [(1, .int (nI (n))), (0, .ref (a 0)), (2, .int (nI (k)))]) hx hb dX1_statements_28 rfl hl (by decide) rfl (fun ls hl => ?_)
        refine lv_iinc (v := nI (k + 1)) (lv' := [(2, .int (nI (k + 1))), (1, .int (nI (n))), (0, .ref (a 0))]) hx hb dX1_statements_29 hl (k := 2) rfl (by exact nI_1 _) (by decide) rfl (fun ls hl => ?_)
        refine lv_goto (tgt := 4) hx hb dX1_statements_32 (by decide) ?_
        exact ih _ _ _ ⟨n, (zcol_f e1 c1), hP, hD, hS, lv_sub hl [2, 1, 0] rfl⟩
      · refine lv_iload_n hx hb dX1_statements_19 rfl (lv_at hl 1 rfl) ?_
        refine lv_iconst (v := nI 1) hx hb dX1_statements_20 (by decide) ?_
        refine lv_iload_n hx hb dX1_statements_21 rfl (lv_at hl 2 rfl) ?_
        refine nv_shl hx hb dX1_statements_22 (by omega) ?_
        refine nv_ior hx hb dX1_statements_23 ?_
        refine lv_goto (tgt := 28) hx hb dX1_statements_24 (by decide) ?_
        refine lv_istore_n (lv' := [(1, .int (nI (n ||| (2 ^ k)))), (0, .ref (a 0)), (2, .int (nI (k)))]) hx hb dX1_statements_28 rfl hl (by decide) rfl (fun ls hl => ?_)
        refine lv_iinc (v := nI (k + 1)) (lv' := [(2, .int (nI (k + 1))), (1, .int (nI (n ||| (2 ^ k)))), (0, .ref (a 0))]) hx hb dX1_statements_29 hl (k := 2) rfl (by exact nI_1 _) (by decide) rfl (fun ls hl => ?_)
        refine lv_goto (tgt := 4) hx hb dX1_statements_32 (by decide) ?_
        exact ih _ _ _ ⟨(n ||| 2 ^ k), (zcol_t e1 c1), hP, hD, hS, lv_sub hl [2, 1, 0] rfl⟩
  · intro H locs ls hI
    obtain ⟨n, e1, hP, hD, hS, hl⟩ := hI
    refine lv_iload_n hx hb dX1_statements_4 rfl (lv_at hl 2 rfl) ?_
    refine lv_bipush (v := nI 12) hx hb dX1_statements_5 (by decide) ?_
    refine nv_icmp_ge (tgt := 35) hx hb dX1_statements_7 (by decide) (fun c0 => ?_) (fun c0 => ?_)
    · refine lv_iload_n hx hb dX1_statements_35 rfl (lv_at hl 1 rfl) ?_
      exact rt_i (v := nI (n)) hx hb hr hlk () (congrArg nI e1) hK hP hD hS dX1_statements_36
    · exfalso; omega
set_option maxHeartbeats 4000000 in
set_option maxRecDepth 100000 in
/-- carryOut(k) -/
theorem mX1_carryOut (l : Launch) (D : va_G) (a : Nat → Nat) (d : Nat → ClassId) (T : Nat → Bool) (K X Y P O : Nat → Nat) (k : Nat) (h1 : k < 13) (hW : zWF K X Y) (hB : zB8 P) : Ki l yX1_carryOut cX1_carryOut 9 (some .boolean) 0 0 D (mT d) (mW a d T K X Y P O) [.ref (a 0), .int (nI k)] (fun r (u : Rg) => u = crF K X Y k P ∧ r = bI u.2) (fun u => mW a d T K X Y u.1 O) := by
  refine mk_i (by decide) (Nat.le_of_ble_eq_true rfl) ?_
  intro p e s m below meth c A hx hb hml hr hlk hown hts hA hK hP hD hS ls hl
  have hown : s.vm.findClass RX1 = some m.cls := hown
  have hl : lv_has ls 9 [(0, .ref (a 0)), (1, .int (nI (k)))] := hl
  obtain ⟨w1, w2, w3⟩ := hW k h1
  refine lv_aload_n hx hb dX1_carryOut_0 rfl (lv_at hl 0 rfl) ?_
  refine va_get (D := D) (ci := 1) (v := .ref (a 3)) (C := RX1) (T := TX1) (N := 6) hx hb hts in_X1 hown hK hP 0 rfl rfl 2 (by decide) (hts _ q155) (fun _ h9 => h9) rfl dX1_carryOut_1 ?_
  refine lv_iload_n hx hb dX1_carryOut_4 rfl (lv_at hl 1 rfl) ?_
  refine nv_iald hx hb hK hP 3 2 rfl rfl (by omega) dX1_carryOut_5 ?_
  refine lv_istore_n (lv' := [(2, .int (nI (X k))), (0, .ref (a 0)), (1, .int (nI (k)))]) hx hb dX1_carryOut_6 rfl hl (by decide) rfl (fun ls hl => ?_)
  refine lv_aload_n hx hb dX1_carryOut_7 rfl (lv_at hl 1 rfl) ?_
  refine va_get (D := D) (ci := 1) (v := .ref (a 4)) (C := RX1) (T := TX1) (N := 6) hx hb hts in_X1 hown hK hP 0 rfl rfl 3 (by decide) (hts _ q156) (fun _ h9 => h9) rfl dX1_carryOut_8 ?_
  refine lv_iload_n hx hb dX1_carryOut_11 rfl (lv_at hl 2 rfl) ?_
  refine nv_iald hx hb hK hP 4 3 rfl rfl (by omega) dX1_carryOut_12 ?_
  refine lv_istore_n (lv' := [(3, .int (nI (Y k))), (2, .int (nI (X k))), (0, .ref (a 0)), (1, .int (nI (k)))]) hx hb dX1_carryOut_13 rfl hl (by decide) rfl (fun ls hl => ?_)
  refine lv_iconst (v := bI false) hx hb dX1_carryOut_14 (by decide) ?_
  refine lv_istore (lv' := [(4, .int (bI (false))), (3, .int (nI (Y k))), (2, .int (nI (X k))), (0, .ref (a 0)), (1, .int (nI (k)))]) hx hb dX1_carryOut_15 hl (by decide) rfl (fun ls hl => ?_)
  refine lv_aload_n hx hb dX1_carryOut_17 rfl (lv_at hl 3 rfl) ?_
  refine va_get (D := D) (ci := 1) (v := .ref (a 2)) (C := RX1) (T := TX1) (N := 6) hx hb hts in_X1 hown hK hP 0 rfl rfl 1 (by decide) (hts _ q154) (fun _ h9 => h9) rfl dX1_carryOut_18 ?_
  refine lv_iload_n hx hb dX1_carryOut_21 rfl (lv_at hl 4 rfl) ?_
  refine nv_iald hx hb hK hP 2 1 rfl rfl (by omega) dX1_carryOut_22 ?_
  refine lv_iconst (v := nI 1) hx hb dX1_carryOut_23 (by decide) ?_
  refine nv_icmp_gt (tgt := 89) hx hb dX1_carryOut_24 (by decide) (fun c1 => ?_) (fun c1 => ?_)
  · refine lv_aload_n hx hb dX1_carryOut_89 rfl (lv_at hl 3 rfl) ?_
    refine va_get (D := D) (ci := 1) (v := .ref (a 2)) (C := RX1) (T := TX1) (N := 6) hx hb hts in_X1 hown hK hP 0 rfl rfl 1 (by decide) (hts _ q154) (fun _ h9 => h9) rfl dX1_carryOut_90 ?_
    refine lv_iload_n hx hb dX1_carryOut_93 rfl (lv_at hl 4 rfl) ?_
    refine nv_iald hx hb hK hP 2 1 rfl rfl (by omega) dX1_carryOut_94 ?_
    refine lv_iconst (v := nI 2) hx hb dX1_carryOut_95 (by decide) ?_
    refine nv_icmp_ne (tgt := 108) hx hb dX1_carryOut_96 (by decide) (fun c2 => ?_) (fun c2 => ?_)
    · have hth : P (X k) < 256 := (hB _ w2)
      refine lv_aload_n hx hb dX1_carryOut_108 rfl (lv_at hl 3 rfl) ?_
      refine va_get (D := D) (ci := 1) (v := .ref (a 5)) (C := RX1) (T := TX1) (N := 6) hx hb hts in_X1 hown hK hP 0 rfl rfl 4 (by decide) (hts _ q157) (fun _ h9 => h9) rfl dX1_carryOut_109 ?_
      refine lv_iload_n hx hb dX1_carryOut_112 rfl (lv_at hl 2 rfl) ?_
      refine nv_iald hx hb hK hP 5 4 rfl rfl (by omega) dX1_carryOut_113 ?_
      refine lv_istore (lv' := [(5, .int (nI (P (X k)))), (4, .int (bI (false))), (3, .int (nI (Y k))), (2, .int (nI (X k))), (0, .ref (a 0)), (1, .int (nI (k)))]) hx hb dX1_carryOut_114 hl (by decide) rfl (fun ls hl => ?_)
      refine lv_iconst (v := nI 0) hx hb dX1_carryOut_116 (by decide) ?_
      refine lv_istore (lv' := [(6, .int (nI (0))), (5, .int (nI (P (X k)))), (4, .int (bI (false))), (3, .int (nI (Y k))), (2, .int (nI (X k))), (0, .ref (a 0)), (1, .int (nI (k)))]) hx hb dX1_carryOut_117 hl (by decide) rfl (fun ls hl => ?_)
      refine wl_up (pc := 119) 8 (fun z H locs ls => ∃ (q : Rg), (q = coF false (X k) (Y k) (P (X k)) P z) ∧ va_P D vwCl (mW a d T K X Y q.1 O) H ∧ va_D A (mW a d T K X Y q.1 O) ∧ va_S A s.heap H locs ∧ lv_has ls 9 [(0, .ref (a 0)), (1, .int (nI (k))), (2, .int (nI (X k))), (3, .int (nI (Y k))), (4, .int (bI (q.2))), (5, .int (nI (P (X k)))), (6, .int (nI (z)))]) ?_ ?_ 0 (by omega) _ _ _ ⟨(P, false), rfl, hP, hD, hS, lv_sub hl [5, 6, 4, 3, 2, 1, 0] rfl⟩
      · intro z hk H locs ls hI ih
        obtain ⟨q, e1, hP, hD, hS, hl⟩ := hI
        have hBq : zB8 q.1 := by rw [e1]; exact co_B8 hB w2 w3 (by omega)
        refine lv_iload hx hb dX1_carryOut_119 (lv_at hl 6 rfl) ?_
        refine lv_bipush (v := nI 8) hx hb dX1_carryOut_121 (by decide) ?_
        refine nv_icmp_ge (tgt := 233) hx hb dX1_carryOut_123 (by decide) (fun c0 => ?_) (fun c0 => ?_)
        · exfalso; omega
        · refine lv_iload hx hb dX1_carryOut_126 (lv_at hl 5 rfl) ?_
          refine lv_iload hx hb dX1_carryOut_128 (lv_at hl 6 rfl) ?_
          refine nv_bit hx hb dX1_carryOut_130 dX1_carryOut_131 dX1_carryOut_132 (by omega) (by omega) ?_
          refine lv_iconst (v := nI 1) hx hb dX1_carryOut_133 (by decide) ?_
          refine nv_icmp_ne1 (tgt := 227) hx hb dX1_carryOut_134 (by decide) (fun c3 => ?_) (fun c3 => ?_)
          · refine lv_iinc (v := nI (z + 1)) (lv' := [(6, .int (nI (z + 1))), (0, .ref (a 0)), (1, .int (nI (k))), (2, .int (nI (X k))), (3, .int (nI (Y k))), (4, .int (bI (q.2))), (5, .int (nI (P (X k))))]) hx hb dX1_carryOut_227 hl (k := 6) rfl (by exact nI_1 _) (by decide) rfl (fun ls hl => ?_)
            refine lv_goto (tgt := 119) hx hb dX1_carryOut_230 (by decide) ?_
            exact ih _ _ _ ⟨q, (coF_f e1 c3), hP, hD, hS, lv_sub hl [1, 2, 3, 4, 5, 6, 0] rfl⟩
          · refine lv_aload_n hx hb dX1_carryOut_137 rfl (lv_at hl 0 rfl) ?_
            refine va_get (D := D) (ci := 1) (v := .ref (a 2)) (C := RX1) (T := TX1) (N := 6) hx hb hts in_X1 hown hK hP 0 rfl rfl 1 (by decide) (hts _ q154) (fun _ h9 => h9) rfl dX1_carryOut_138 ?_
            refine lv_iload_n hx hb dX1_carryOut_141 rfl (lv_at hl 1 rfl) ?_
            refine nv_iald hx hb hK hP 2 1 rfl rfl (by omega) dX1_carryOut_142 ?_
            refine lv_iconst (v := nI 2) hx hb dX1_carryOut_143 (by decide) ?_
            refine nv_icmp_ne (tgt := 151) hx hb dX1_carryOut_144 (by decide) (fun c4 => ?_) (fun c4 => ?_)
            · refine lv_iload hx hb dX1_carryOut_151 (lv_at hl 6 rfl) ?_
              refine lv_istore (lv' := [(7, .int (nI (z))), (0, .ref (a 0)), (1, .int (nI (k))), (2, .int (nI (X k))), (3, .int (nI (Y k))), (4, .int (bI (q.2))), (5, .int (nI (P (X k)))), (6, .int (nI (z)))]) hx hb dX1_carryOut_153 hl (by decide) rfl (fun ls hl => ?_)
              refine lv_aload_n hx hb dX1_carryOut_155 rfl (lv_at hl 1 rfl) ?_
              refine va_get (D := D) (ci := 1) (v := .ref (a 2)) (C := RX1) (T := TX1) (N := 6) hx hb hts in_X1 hown hK hP 0 rfl rfl 1 (by decide) (hts _ q154) (fun _ h9 => h9) rfl dX1_carryOut_156 ?_
              refine lv_iload_n hx hb dX1_carryOut_159 rfl (lv_at hl 2 rfl) ?_
              refine nv_iald hx hb hK hP 2 1 rfl rfl (by omega) dX1_carryOut_160 ?_
              refine lv_iconst (v := nI 2) hx hb dX1_carryOut_161 (by decide) ?_
              refine nv_icmp_ne (tgt := 175) hx hb dX1_carryOut_162 (by decide) (fun c5 => ?_) (fun c5 => ?_)
              · refine lv_aload_n hx hb dX1_carryOut_175 rfl (lv_at hl 1 rfl) ?_
                refine va_get (D := D) (ci := 1) (v := .ref (a 5)) (C := RX1) (T := TX1) (N := 6) hx hb hts in_X1 hown hK hP 0 rfl rfl 4 (by decide) (hts _ q157) (fun _ h9 => h9) rfl dX1_carryOut_176 ?_
                refine lv_iload_n hx hb dX1_carryOut_179 rfl (lv_at hl 4 rfl) ?_
                refine nv_iald hx hb hK hP 5 4 rfl rfl (by omega) dX1_carryOut_180 ?_
                refine lv_istore (lv' := [(8, .int (nI (q.1 (Y k)))), (7, .int (nI (z))), (0, .ref (a 0)), (1, .int (nI (k))), (2, .int (nI (X k))), (3, .int (nI (Y k))), (4, .int (bI (q.2))), (5, .int (nI (P (X k)))), (6, .int (nI (z)))]) hx hb dX1_carryOut_181 hl (by decide) rfl (fun ls hl => ?_)
                refine lv_iload hx hb dX1_carryOut_183 (lv_at hl 6 rfl) ?_
                refine nv_ifne (tgt := 203) hx hb dX1_carryOut_185 (by decide) (fun c6 => ?_) (fun c6 => ?_)
                · refine lv_iconst (v := bI true) hx hb dX1_carryOut_203 (by decide) ?_
                  refine lv_goto (tgt := 208) hx hb dX1_carryOut_204 (by decide) ?_
                  refine lv_istore (lv' := [(4, .int (bI (true))), (8, .int (nI (q.1 (Y k)))), (7, .int (nI (z))), (0, .ref (a 0)), (1, .int (nI (k))), (2, .int (nI (X k))), (3, .int (nI (Y k))), (5, .int (nI (P (X k)))), (6, .int (nI (z)))]) hx hb dX1_carryOut_208 hl (by decide) rfl (fun ls hl => ?_)
                  refine lv_aload_n hx hb dX1_carryOut_210 rfl (lv_at hl 3 rfl) ?_
                  refine va_get (D := D) (ci := 1) (v := .ref (a 5)) (C := RX1) (T := TX1) (N := 6) hx hb hts in_X1 hown hK hP 0 rfl rfl 4 (by decide) (hts _ q157) (fun _ h9 => h9) rfl dX1_carryOut_211 ?_
                  refine lv_iload hx hb dX1_carryOut_214 (lv_at hl 2 rfl) ?_
                  refine lv_aload_n hx hb dX1_carryOut_216 rfl (lv_at hl 3 rfl) ?_
                  refine va_get (D := D) (ci := 1) (v := .ref (a 5)) (C := RX1) (T := TX1) (N := 6) hx hb hts in_X1 hown hK hP 0 rfl rfl 4 (by decide) (hts _ q157) (fun _ h9 => h9) rfl dX1_carryOut_217 ?_
                  refine lv_iload hx hb dX1_carryOut_220 (lv_at hl 2 rfl) ?_
                  refine nv_iald hx hb hK hP 5 4 rfl rfl (by omega) dX1_carryOut_222 ?_
                  refine lv_iload hx hb dX1_carryOut_223 (lv_at hl 1 rfl) ?_
                  refine nv_ior hx hb dX1_carryOut_225 ?_
                  refine nv_iast hx hb hK hP hD hS 5 4 rfl rfl (by omega) dX1_carryOut_226 (fun H locs hP hD hS => ?_)
                  have hP : va_P D vwCl (mW a d T K X Y (va_up q.1 z ((q.1 z) ||| (q.1 (Y k)))) O) H := hP
                  have hD : va_D A (mW a d T K X Y (va_up q.1 z ((q.1 z) ||| (q.1 (Y k)))) O) := hD
                  refine lv_iinc (v := nI (z + 1)) (lv' := [(6, .int (nI (z + 1))), (4, .int (bI (true))), (8, .int (nI (q.1 (Y k)))), (7, .int (nI (z))), (0, .ref (a 0)), (1, .int (nI (k))), (2, .int (nI (X k))), (3, .int (nI (Y k))), (5, .int (nI (P (X k))))]) hx hb dX1_carryOut_227 hl (k := 8) rfl (by exact nI_1 _) (by decide) rfl (fun ls hl => ?_)
                  refine lv_goto (tgt := 119) hx hb dX1_carryOut_230 (by decide) ?_
                  have q8 : (orF q z (q.1 (Y k))).2 = true := orF_t c6
                  exact ih _ _ _ ⟨(orF q z (q.1 (Y k))), (coF_3 e1 c3), hP, hD, hS, (by rw [q8]; exact lv_sub hl [4, 5, 6, 7, 1, 8, 0] rfl)⟩
                · refine lv_iload hx hb dX1_carryOut_188 (lv_at hl 0 rfl) ?_
                  refine lv_aload_n hx hb dX1_carryOut_190 rfl (lv_at hl 2 rfl) ?_
                  refine va_get (D := D) (ci := 1) (v := .ref (a 5)) (C := RX1) (T := TX1) (N := 6) hx hb hts in_X1 hown hK hP 0 rfl rfl 4 (by decide) (hts _ q157) (fun _ h9 => h9) rfl dX1_carryOut_191 ?_
                  refine lv_iload hx hb dX1_carryOut_194 (lv_at hl 1 rfl) ?_
                  refine nv_iald hx hb hK hP 5 4 rfl rfl (by omega) dX1_carryOut_196 ?_
                  refine nv_ndf hx hb dX1_carryOut_197 dX1_carryOut_198 dX1_carryOut_199 ?_
                  refine nv_ifeqn (tgt := 207) hx hb dX1_carryOut_200 (by decide) (fun c7 => ?_) (fun c7 => ?_) (by have := z_ndf (b := q.1 z) (hBq _ w3); omega)
                  · refine lv_iconst (v := bI false) hx hb dX1_carryOut_207 (by decide) ?_
                    refine lv_istore (lv' := [(4, .int (bI (false))), (8, .int (nI (q.1 (Y k)))), (7, .int (nI (z))), (0, .ref (a 0)), (1, .int (nI (k))), (2, .int (nI (X k))), (3, .int (nI (Y k))), (5, .int (nI (P (X k)))), (6, .int (nI (z)))]) hx hb dX1_carryOut_208 hl (by decide) rfl (fun ls hl => ?_)
                    refine lv_aload_n hx hb dX1_carryOut_210 rfl (lv_at hl 3 rfl) ?_
                    refine va_get (D := D) (ci := 1) (v := .ref (a 5)) (C := RX1) (T := TX1) (N := 6) hx hb hts in_X1 hown hK hP 0 rfl rfl 4 (by decide) (hts _ q157) (fun _ h9 => h9) rfl dX1_carryOut_211 ?_
                    refine lv_iload hx hb dX1_carryOut_214 (lv_at hl 2 rfl) ?_
                    refine lv_aload_n hx hb dX1_carryOut_216 rfl (lv_at hl 3 rfl) ?_
                    refine va_get (D := D) (ci := 1) (v := .ref (a 5)) (C := RX1) (T := TX1) (N := 6) hx hb hts in_X1 hown hK hP 0 rfl rfl 4 (by decide) (hts _ q157) (fun _ h9 => h9) rfl dX1_carryOut_217 ?_
                    refine lv_iload hx hb dX1_carryOut_220 (lv_at hl 2 rfl) ?_
                    refine nv_iald hx hb hK hP 5 4 rfl rfl (by omega) dX1_carryOut_222 ?_
                    refine lv_iload hx hb dX1_carryOut_223 (lv_at hl 1 rfl) ?_
                    refine nv_ior hx hb dX1_carryOut_225 ?_
                    refine nv_iast hx hb hK hP hD hS 5 4 rfl rfl (by omega) dX1_carryOut_226 (fun H locs hP hD hS => ?_)
                    have hP : va_P D vwCl (mW a d T K X Y (va_up q.1 z ((q.1 z) ||| (q.1 (Y k)))) O) H := hP
                    have hD : va_D A (mW a d T K X Y (va_up q.1 z ((q.1 z) ||| (q.1 (Y k)))) O) := hD
                    refine lv_iinc (v := nI (z + 1)) (lv' := [(6, .int (nI (z + 1))), (4, .int (bI (false))), (8, .int (nI (q.1 (Y k)))), (7, .int (nI (z))), (0, .ref (a 0)), (1, .int (nI (k))), (2, .int (nI (X k))), (3, .int (nI (Y k))), (5, .int (nI (P (X k))))]) hx hb dX1_carryOut_227 hl (k := 8) rfl (by exact nI_1 _) (by decide) rfl (fun ls hl => ?_)
                    refine lv_goto (tgt := 119) hx hb dX1_carryOut_230 (by decide) ?_
                    have q8 : (orF q z (q.1 (Y k))).2 = false := orF_f c6 c7
                    exact ih _ _ _ ⟨(orF q z (q.1 (Y k))), (coF_3 e1 c3), hP, hD, hS, (by rw [q8]; exact lv_sub hl [4, 5, 6, 7, 1, 8, 0] rfl)⟩
                  · refine lv_iconst (v := bI true) hx hb dX1_carryOut_203 (by decide) ?_
                    refine lv_goto (tgt := 208) hx hb dX1_carryOut_204 (by decide) ?_
                    refine lv_istore (lv' := [(4, .int (bI (true))), (8, .int (nI (q.1 (Y k)))), (7, .int (nI (z))), (0, .ref (a 0)), (1, .int (nI (k))), (2, .int (nI (X k))), (3, .int (nI (Y k))), (5, .int (nI (P (X k)))), (6, .int (nI (z)))]) hx hb dX1_carryOut_208 hl (by decide) rfl (fun ls hl => ?_)
                    refine lv_aload_n hx hb dX1_carryOut_210 rfl (lv_at hl 3 rfl) ?_
                    refine va_get (D := D) (ci := 1) (v := .ref (a 5)) (C := RX1) (T := TX1) (N := 6) hx hb hts in_X1 hown hK hP 0 rfl rfl 4 (by decide) (hts _ q157) (fun _ h9 => h9) rfl dX1_carryOut_211 ?_
                    refine lv_iload hx hb dX1_carryOut_214 (lv_at hl 2 rfl) ?_
                    refine lv_aload_n hx hb dX1_carryOut_216 rfl (lv_at hl 3 rfl) ?_
                    refine va_get (D := D) (ci := 1) (v := .ref (a 5)) (C := RX1) (T := TX1) (N := 6) hx hb hts in_X1 hown hK hP 0 rfl rfl 4 (by decide) (hts _ q157) (fun _ h9 => h9) rfl dX1_carryOut_217 ?_
                    refine lv_iload hx hb dX1_carryOut_220 (lv_at hl 2 rfl) ?_
                    refine nv_iald hx hb hK hP 5 4 rfl rfl (by omega) dX1_carryOut_222 ?_
                    refine lv_iload hx hb dX1_carryOut_223 (lv_at hl 1 rfl) ?_
                    refine nv_ior hx hb dX1_carryOut_225 ?_
                    refine nv_iast hx hb hK hP hD hS 5 4 rfl rfl (by omega) dX1_carryOut_226 (fun H locs hP hD hS => ?_)
                    have hP : va_P D vwCl (mW a d T K X Y (va_up q.1 z ((q.1 z) ||| (q.1 (Y k)))) O) H := hP
                    have hD : va_D A (mW a d T K X Y (va_up q.1 z ((q.1 z) ||| (q.1 (Y k)))) O) := hD
                    refine lv_iinc (v := nI (z + 1)) (lv' := [(6, .int (nI (z + 1))), (4, .int (bI (true))), (8, .int (nI (q.1 (Y k)))), (7, .int (nI (z))), (0, .ref (a 0)), (1, .int (nI (k))), (2, .int (nI (X k))), (3, .int (nI (Y k))), (5, .int (nI (P (X k))))]) hx hb dX1_carryOut_227 hl (k := 8) rfl (by exact nI_1 _) (by decide) rfl (fun ls hl => ?_)
                    refine lv_goto (tgt := 119) hx hb dX1_carryOut_230 (by decide) ?_
                    have q8 : (orF q z (q.1 (Y k))).2 = true := orF_n c7
                    exact ih _ _ _ ⟨(orF q z (q.1 (Y k))), (coF_3 e1 c3), hP, hD, hS, (by rw [q8]; exact lv_sub hl [4, 5, 6, 7, 1, 8, 0] rfl)⟩
              · exfalso; omega
            · exfalso; omega
      · intro H locs ls hI
        obtain ⟨q, e1, hP, hD, hS, hl⟩ := hI
        refine lv_iload hx hb dX1_carryOut_119 (lv_at hl 6 rfl) ?_
        refine lv_bipush (v := nI 8) hx hb dX1_carryOut_121 (by decide) ?_
        refine nv_icmp_ge (tgt := 233) hx hb dX1_carryOut_123 (by decide) (fun c0 => ?_) (fun c0 => ?_)
        · refine lv_iload hx hb dX1_carryOut_233 (lv_at hl 4 rfl) ?_
          exact rt_z (v := q.2) hx hb hr hlk q ⟨e1.trans (cr_3 (by omega)), rfl⟩ hK hP hD hS dX1_carryOut_235
        · exfalso; omega
    · have hth : P (Y k) < 256 := (hB _ w3)
      refine lv_aload_n hx hb dX1_carryOut_99 rfl (lv_at hl 3 rfl) ?_
      refine va_get (D := D) (ci := 1) (v := .ref (a 5)) (C := RX1) (T := TX1) (N := 6) hx hb hts in_X1 hown hK hP 0 rfl rfl 4 (by decide) (hts _ q157) (fun _ h9 => h9) rfl dX1_carryOut_100 ?_
      refine lv_iload_n hx hb dX1_carryOut_103 rfl (lv_at hl 1 rfl) ?_
      refine nv_iald hx hb hK hP 5 4 rfl rfl (by omega) dX1_carryOut_104 ?_
      refine lv_goto (tgt := 114) hx hb dX1_carryOut_105 (by decide) ?_
      refine lv_istore (lv' := [(5, .int (nI (P (Y k)))), (4, .int (bI (false))), (3, .int (nI (Y k))), (2, .int (nI (X k))), (0, .ref (a 0)), (1, .int (nI (k)))]) hx hb dX1_carryOut_114 hl (by decide) rfl (fun ls hl => ?_)
      refine lv_iconst (v := nI 0) hx hb dX1_carryOut_116 (by decide) ?_
      refine lv_istore (lv' := [(6, .int (nI (0))), (5, .int (nI (P (Y k)))), (4, .int (bI (false))), (3, .int (nI (Y k))), (2, .int (nI (X k))), (0, .ref (a 0)), (1, .int (nI (k)))]) hx hb dX1_carryOut_117 hl (by decide) rfl (fun ls hl => ?_)
      refine wl_up (pc := 119) 8 (fun z H locs ls => ∃ (q : Rg), (q = coF true (X k) (Y k) (P (Y k)) P z) ∧ va_P D vwCl (mW a d T K X Y q.1 O) H ∧ va_D A (mW a d T K X Y q.1 O) ∧ va_S A s.heap H locs ∧ lv_has ls 9 [(0, .ref (a 0)), (1, .int (nI (k))), (2, .int (nI (X k))), (3, .int (nI (Y k))), (4, .int (bI (q.2))), (5, .int (nI (P (Y k)))), (6, .int (nI (z)))]) ?_ ?_ 0 (by omega) _ _ _ ⟨(P, false), rfl, hP, hD, hS, lv_sub hl [5, 6, 4, 3, 2, 1, 0] rfl⟩
      · intro z hk H locs ls hI ih
        obtain ⟨q, e1, hP, hD, hS, hl⟩ := hI
        have hBq : zB8 q.1 := by rw [e1]; exact co_B8 hB w2 w3 (by omega)
        refine lv_iload hx hb dX1_carryOut_119 (lv_at hl 6 rfl) ?_
        refine lv_bipush (v := nI 8) hx hb dX1_carryOut_121 (by decide) ?_
        refine nv_icmp_ge (tgt := 233) hx hb dX1_carryOut_123 (by decide) (fun c0 => ?_) (fun c0 => ?_)
        · exfalso; omega
        · refine lv_iload hx hb dX1_carryOut_126 (lv_at hl 5 rfl) ?_
          refine lv_iload hx hb dX1_carryOut_128 (lv_at hl 6 rfl) ?_
          refine nv_bit hx hb dX1_carryOut_130 dX1_carryOut_131 dX1_carryOut_132 (by omega) (by omega) ?_
          refine lv_iconst (v := nI 1) hx hb dX1_carryOut_133 (by decide) ?_
          refine nv_icmp_ne1 (tgt := 227) hx hb dX1_carryOut_134 (by decide) (fun c3 => ?_) (fun c3 => ?_)
          · refine lv_iinc (v := nI (z + 1)) (lv' := [(6, .int (nI (z + 1))), (0, .ref (a 0)), (1, .int (nI (k))), (2, .int (nI (X k))), (3, .int (nI (Y k))), (4, .int (bI (q.2))), (5, .int (nI (P (Y k))))]) hx hb dX1_carryOut_227 hl (k := 6) rfl (by exact nI_1 _) (by decide) rfl (fun ls hl => ?_)
            refine lv_goto (tgt := 119) hx hb dX1_carryOut_230 (by decide) ?_
            exact ih _ _ _ ⟨q, (coF_f e1 c3), hP, hD, hS, lv_sub hl [1, 2, 3, 4, 5, 6, 0] rfl⟩
          · refine lv_aload_n hx hb dX1_carryOut_137 rfl (lv_at hl 0 rfl) ?_
            refine va_get (D := D) (ci := 1) (v := .ref (a 2)) (C := RX1) (T := TX1) (N := 6) hx hb hts in_X1 hown hK hP 0 rfl rfl 1 (by decide) (hts _ q154) (fun _ h9 => h9) rfl dX1_carryOut_138 ?_
            refine lv_iload_n hx hb dX1_carryOut_141 rfl (lv_at hl 1 rfl) ?_
            refine nv_iald hx hb hK hP 2 1 rfl rfl (by omega) dX1_carryOut_142 ?_
            refine lv_iconst (v := nI 2) hx hb dX1_carryOut_143 (by decide) ?_
            refine nv_icmp_ne (tgt := 151) hx hb dX1_carryOut_144 (by decide) (fun c4 => ?_) (fun c4 => ?_)
            · exfalso; omega
            · refine lv_iload_n hx hb dX1_carryOut_147 rfl (lv_at hl 2 rfl) ?_
              refine lv_goto (tgt := 153) hx hb dX1_carryOut_148 (by decide) ?_
              refine lv_istore (lv' := [(7, .int (nI (X k))), (0, .ref (a 0)), (1, .int (nI (k))), (2, .int (nI (X k))), (3, .int (nI (Y k))), (4, .int (bI (q.2))), (5, .int (nI (P (Y k)))), (6, .int (nI (z)))]) hx hb dX1_carryOut_153 hl (by decide) rfl (fun ls hl => ?_)
              refine lv_aload_n hx hb dX1_carryOut_155 rfl (lv_at hl 1 rfl) ?_
              refine va_get (D := D) (ci := 1) (v := .ref (a 2)) (C := RX1) (T := TX1) (N := 6) hx hb hts in_X1 hown hK hP 0 rfl rfl 1 (by decide) (hts _ q154) (fun _ h9 => h9) rfl dX1_carryOut_156 ?_
              refine lv_iload_n hx hb dX1_carryOut_159 rfl (lv_at hl 2 rfl) ?_
              refine nv_iald hx hb hK hP 2 1 rfl rfl (by omega) dX1_carryOut_160 ?_
              refine lv_iconst (v := nI 2) hx hb dX1_carryOut_161 (by decide) ?_
              refine nv_icmp_ne (tgt := 175) hx hb dX1_carryOut_162 (by decide) (fun c5 => ?_) (fun c5 => ?_)
              · exfalso; omega
              · refine lv_aload_n hx hb dX1_carryOut_165 rfl (lv_at hl 1 rfl) ?_
                refine va_get (D := D) (ci := 1) (v := .ref (a 5)) (C := RX1) (T := TX1) (N := 6) hx hb hts in_X1 hown hK hP 0 rfl rfl 4 (by decide) (hts _ q157) (fun _ h9 => h9) rfl dX1_carryOut_166 ?_
                refine lv_iload hx hb dX1_carryOut_169 (lv_at hl 7 rfl) ?_
                refine nv_iald hx hb hK hP 5 4 rfl rfl (by omega) dX1_carryOut_171 ?_
                refine lv_goto (tgt := 181) hx hb dX1_carryOut_172 (by decide) ?_
                refine lv_istore (lv' := [(8, .int (nI (q.1 z))), (7, .int (nI (X k))), (0, .ref (a 0)), (1, .int (nI (k))), (2, .int (nI (X k))), (3, .int (nI (Y k))), (4, .int (bI (q.2))), (5, .int (nI (P (Y k)))), (6, .int (nI (z)))]) hx hb dX1_carryOut_181 hl (by decide) rfl (fun ls hl => ?_)
                refine lv_iload hx hb dX1_carryOut_183 (lv_at hl 6 rfl) ?_
                refine nv_ifne (tgt := 203) hx hb dX1_carryOut_185 (by decide) (fun c6 => ?_) (fun c6 => ?_)
                · refine lv_iconst (v := bI true) hx hb dX1_carryOut_203 (by decide) ?_
                  refine lv_goto (tgt := 208) hx hb dX1_carryOut_204 (by decide) ?_
                  refine lv_istore (lv' := [(4, .int (bI (true))), (8, .int (nI (q.1 z))), (7, .int (nI (X k))), (0, .ref (a 0)), (1, .int (nI (k))), (2, .int (nI (X k))), (3, .int (nI (Y k))), (5, .int (nI (P (Y k)))), (6, .int (nI (z)))]) hx hb dX1_carryOut_208 hl (by decide) rfl (fun ls hl => ?_)
                  refine lv_aload_n hx hb dX1_carryOut_210 rfl (lv_at hl 3 rfl) ?_
                  refine va_get (D := D) (ci := 1) (v := .ref (a 5)) (C := RX1) (T := TX1) (N := 6) hx hb hts in_X1 hown hK hP 0 rfl rfl 4 (by decide) (hts _ q157) (fun _ h9 => h9) rfl dX1_carryOut_211 ?_
                  refine lv_iload hx hb dX1_carryOut_214 (lv_at hl 2 rfl) ?_
                  refine lv_aload_n hx hb dX1_carryOut_216 rfl (lv_at hl 3 rfl) ?_
                  refine va_get (D := D) (ci := 1) (v := .ref (a 5)) (C := RX1) (T := TX1) (N := 6) hx hb hts in_X1 hown hK hP 0 rfl rfl 4 (by decide) (hts _ q157) (fun _ h9 => h9) rfl dX1_carryOut_217 ?_
                  refine lv_iload hx hb dX1_carryOut_220 (lv_at hl 2 rfl) ?_
                  refine nv_iald hx hb hK hP 5 4 rfl rfl (by omega) dX1_carryOut_222 ?_
                  refine lv_iload hx hb dX1_carryOut_223 (lv_at hl 1 rfl) ?_
                  refine nv_ior hx hb dX1_carryOut_225 ?_
                  refine nv_iast hx hb hK hP hD hS 5 4 rfl rfl (by omega) dX1_carryOut_226 (fun H locs hP hD hS => ?_)
                  have hP : va_P D vwCl (mW a d T K X Y (va_up q.1 (X k) ((q.1 (X k)) ||| (q.1 z))) O) H := hP
                  have hD : va_D A (mW a d T K X Y (va_up q.1 (X k) ((q.1 (X k)) ||| (q.1 z))) O) := hD
                  refine lv_iinc (v := nI (z + 1)) (lv' := [(6, .int (nI (z + 1))), (4, .int (bI (true))), (8, .int (nI (q.1 z))), (7, .int (nI (X k))), (0, .ref (a 0)), (1, .int (nI (k))), (2, .int (nI (X k))), (3, .int (nI (Y k))), (5, .int (nI (P (Y k))))]) hx hb dX1_carryOut_227 hl (k := 8) rfl (by exact nI_1 _) (by decide) rfl (fun ls hl => ?_)
                  refine lv_goto (tgt := 119) hx hb dX1_carryOut_230 (by decide) ?_
                  have q8 : (orF q (X k) (q.1 z)).2 = true := orF_t c6
                  exact ih _ _ _ ⟨(orF q (X k) (q.1 z)), (coF_2 e1 c3), hP, hD, hS, (by rw [q8]; exact lv_sub hl [4, 5, 6, 7, 1, 8, 0] rfl)⟩
                · refine lv_iload hx hb dX1_carryOut_188 (lv_at hl 0 rfl) ?_
                  refine lv_aload_n hx hb dX1_carryOut_190 rfl (lv_at hl 2 rfl) ?_
                  refine va_get (D := D) (ci := 1) (v := .ref (a 5)) (C := RX1) (T := TX1) (N := 6) hx hb hts in_X1 hown hK hP 0 rfl rfl 4 (by decide) (hts _ q157) (fun _ h9 => h9) rfl dX1_carryOut_191 ?_
                  refine lv_iload hx hb dX1_carryOut_194 (lv_at hl 1 rfl) ?_
                  refine nv_iald hx hb hK hP 5 4 rfl rfl (by omega) dX1_carryOut_196 ?_
                  refine nv_ndf hx hb dX1_carryOut_197 dX1_carryOut_198 dX1_carryOut_199 ?_
                  refine nv_ifeqn (tgt := 207) hx hb dX1_carryOut_200 (by decide) (fun c7 => ?_) (fun c7 => ?_) (by have := z_ndf (b := q.1 (X k)) (hBq z (by omega)); omega)
                  · refine lv_iconst (v := bI false) hx hb dX1_carryOut_207 (by decide) ?_
                    refine lv_istore (lv' := [(4, .int (bI (false))), (8, .int (nI (q.1 z))), (7, .int (nI (X k))), (0, .ref (a 0)), (1, .int (nI (k))), (2, .int (nI (X k))), (3, .int (nI (Y k))), (5, .int (nI (P (Y k)))), (6, .int (nI (z)))]) hx hb dX1_carryOut_208 hl (by decide) rfl (fun ls hl => ?_)
                    refine lv_aload_n hx hb dX1_carryOut_210 rfl (lv_at hl 3 rfl) ?_
                    refine va_get (D := D) (ci := 1) (v := .ref (a 5)) (C := RX1) (T := TX1) (N := 6) hx hb hts in_X1 hown hK hP 0 rfl rfl 4 (by decide) (hts _ q157) (fun _ h9 => h9) rfl dX1_carryOut_211 ?_
                    refine lv_iload hx hb dX1_carryOut_214 (lv_at hl 2 rfl) ?_
                    refine lv_aload_n hx hb dX1_carryOut_216 rfl (lv_at hl 3 rfl) ?_
                    refine va_get (D := D) (ci := 1) (v := .ref (a 5)) (C := RX1) (T := TX1) (N := 6) hx hb hts in_X1 hown hK hP 0 rfl rfl 4 (by decide) (hts _ q157) (fun _ h9 => h9) rfl dX1_carryOut_217 ?_
                    refine lv_iload hx hb dX1_carryOut_220 (lv_at hl 2 rfl) ?_
                    refine nv_iald hx hb hK hP 5 4 rfl rfl (by omega) dX1_carryOut_222 ?_
                    refine lv_iload hx hb dX1_carryOut_223 (lv_at hl 1 rfl) ?_
                    refine nv_ior hx hb dX1_carryOut_225 ?_
                    refine nv_iast hx hb hK hP hD hS 5 4 rfl rfl (by omega) dX1_carryOut_226 (fun H locs hP hD hS => ?_)
                    have hP : va_P D vwCl (mW a d T K X Y (va_up q.1 (X k) ((q.1 (X k)) ||| (q.1 z))) O) H := hP
                    have hD : va_D A (mW a d T K X Y (va_up q.1 (X k) ((q.1 (X k)) ||| (q.1 z))) O) := hD
                    refine lv_iinc (v := nI (z + 1)) (lv' := [(6, .int (nI (z + 1))), (4, .int (bI (false))), (8, .int (nI (q.1 z))), (7, .int (nI (X k))), (0, .ref (a 0)), (1, .int (nI (k))), (2, .int (nI (X k))), (3, .int (nI (Y k))), (5, .int (nI (P (Y k))))]) hx hb dX1_carryOut_227 hl (k := 8) rfl (by exact nI_1 _) (by decide) rfl (fun ls hl => ?_)
                    refine lv_goto (tgt := 119) hx hb dX1_carryOut_230 (by decide) ?_
                    have q8 : (orF q (X k) (q.1 z)).2 = false := orF_f c6 c7
                    exact ih _ _ _ ⟨(orF q (X k) (q.1 z)), (coF_2 e1 c3), hP, hD, hS, (by rw [q8]; exact lv_sub hl [4, 5, 6, 7, 1, 8, 0] rfl)⟩
                  · refine lv_iconst (v := bI true) hx hb dX1_carryOut_203 (by decide) ?_
                    refine lv_goto (tgt := 208) hx hb dX1_carryOut_204 (by decide) ?_
                    refine lv_istore (lv' := [(4, .int (bI (true))), (8, .int (nI (q.1 z))), (7, .int (nI (X k))), (0, .ref (a 0)), (1, .int (nI (k))), (2, .int (nI (X k))), (3, .int (nI (Y k))), (5, .int (nI (P (Y k)))), (6, .int (nI (z)))]) hx hb dX1_carryOut_208 hl (by decide) rfl (fun ls hl => ?_)
                    refine lv_aload_n hx hb dX1_carryOut_210 rfl (lv_at hl 3 rfl) ?_
                    refine va_get (D := D) (ci := 1) (v := .ref (a 5)) (C := RX1) (T := TX1) (N := 6) hx hb hts in_X1 hown hK hP 0 rfl rfl 4 (by decide) (hts _ q157) (fun _ h9 => h9) rfl dX1_carryOut_211 ?_
                    refine lv_iload hx hb dX1_carryOut_214 (lv_at hl 2 rfl) ?_
                    refine lv_aload_n hx hb dX1_carryOut_216 rfl (lv_at hl 3 rfl) ?_
                    refine va_get (D := D) (ci := 1) (v := .ref (a 5)) (C := RX1) (T := TX1) (N := 6) hx hb hts in_X1 hown hK hP 0 rfl rfl 4 (by decide) (hts _ q157) (fun _ h9 => h9) rfl dX1_carryOut_217 ?_
                    refine lv_iload hx hb dX1_carryOut_220 (lv_at hl 2 rfl) ?_
                    refine nv_iald hx hb hK hP 5 4 rfl rfl (by omega) dX1_carryOut_222 ?_
                    refine lv_iload hx hb dX1_carryOut_223 (lv_at hl 1 rfl) ?_
                    refine nv_ior hx hb dX1_carryOut_225 ?_
                    refine nv_iast hx hb hK hP hD hS 5 4 rfl rfl (by omega) dX1_carryOut_226 (fun H locs hP hD hS => ?_)
                    have hP : va_P D vwCl (mW a d T K X Y (va_up q.1 (X k) ((q.1 (X k)) ||| (q.1 z))) O) H := hP
                    have hD : va_D A (mW a d T K X Y (va_up q.1 (X k) ((q.1 (X k)) ||| (q.1 z))) O) := hD
                    refine lv_iinc (v := nI (z + 1)) (lv' := [(6, .int (nI (z + 1))), (4, .int (bI (true))), (8, .int (nI (q.1 z))), (7, .int (nI (X k))), (0, .ref (a 0)), (1, .int (nI (k))), (2, .int (nI (X k))), (3, .int (nI (Y k))), (5, .int (nI (P (Y k))))]) hx hb dX1_carryOut_227 hl (k := 8) rfl (by exact nI_1 _) (by decide) rfl (fun ls hl => ?_)
                    refine lv_goto (tgt := 119) hx hb dX1_carryOut_230 (by decide) ?_
                    have q8 : (orF q (X k) (q.1 z)).2 = true := orF_n c7
                    exact ih _ _ _ ⟨(orF q (X k) (q.1 z)), (coF_2 e1 c3), hP, hD, hS, (by rw [q8]; exact lv_sub hl [4, 5, 6, 7, 1, 8, 0] rfl)⟩
      · intro H locs ls hI
        obtain ⟨q, e1, hP, hD, hS, hl⟩ := hI
        refine lv_iload hx hb dX1_carryOut_119 (lv_at hl 6 rfl) ?_
        refine lv_bipush (v := nI 8) hx hb dX1_carryOut_121 (by decide) ?_
        refine nv_icmp_ge (tgt := 233) hx hb dX1_carryOut_123 (by decide) (fun c0 => ?_) (fun c0 => ?_)
        · refine lv_iload hx hb dX1_carryOut_233 (lv_at hl 4 rfl) ?_
          exact rt_z (v := q.2) hx hb hr hlk q ⟨e1.trans (cr_2 c2), rfl⟩ hK hP hD hS dX1_carryOut_235
        · exfalso; omega
  · refine lv_aload_n hx hb dX1_carryOut_27 rfl (lv_at hl 3 rfl) ?_
    refine va_get (D := D) (ci := 1) (v := .ref (a 2)) (C := RX1) (T := TX1) (N := 6) hx hb hts in_X1 hown hK hP 0 rfl rfl 1 (by decide) (hts _ q154) (fun _ h9 => h9) rfl dX1_carryOut_28 ?_
    refine lv_iload_n hx hb dX1_carryOut_31 rfl (lv_at hl 4 rfl) ?_
    refine nv_iald hx hb hK hP 2 1 rfl rfl (by omega) dX1_carryOut_32 ?_
    refine nv_ifnen (tgt := 42) hx hb dX1_carryOut_33 (by decide) (fun c2 => ?_) (fun c2 => ?_)
    · refine lv_aload_n hx hb dX1_carryOut_42 rfl (lv_at hl 3 rfl) ?_
      refine va_get (D := D) (ci := 1) (v := .ref (a 5)) (C := RX1) (T := TX1) (N := 6) hx hb hts in_X1 hown hK hP 0 rfl rfl 4 (by decide) (hts _ q157) (fun _ h9 => h9) rfl dX1_carryOut_43 ?_
      refine lv_iload_n hx hb dX1_carryOut_46 rfl (lv_at hl 1 rfl) ?_
      refine nv_iald hx hb hK hP 5 4 rfl rfl (by omega) dX1_carryOut_47 ?_
      refine lv_istore (lv' := [(5, .int (nI (P (Y k)))), (4, .int (bI (false))), (3, .int (nI (Y k))), (2, .int (nI (X k))), (0, .ref (a 0)), (1, .int (nI (k)))]) hx hb dX1_carryOut_48 hl (by decide) rfl (fun ls hl => ?_)
      refine lv_iload hx hb dX1_carryOut_50 (lv_at hl 0 rfl) ?_
      refine lv_aload_n hx hb dX1_carryOut_52 rfl (lv_at hl 4 rfl) ?_
      refine va_get (D := D) (ci := 1) (v := .ref (a 5)) (C := RX1) (T := TX1) (N := 6) hx hb hts in_X1 hown hK hP 0 rfl rfl 4 (by decide) (hts _ q157) (fun _ h9 => h9) rfl dX1_carryOut_53 ?_
      refine lv_iload_n hx hb dX1_carryOut_56 rfl (lv_at hl 3 rfl) ?_
      refine nv_iald hx hb hK hP 5 4 rfl rfl (by omega) dX1_carryOut_57 ?_
      refine nv_ndf hx hb dX1_carryOut_58 dX1_carryOut_59 dX1_carryOut_60 ?_
      refine nv_ifeqn (tgt := 68) hx hb dX1_carryOut_61 (by decide) (fun c3 => ?_) (fun c3 => ?_) (by have := z_ndf (b := P (X k)) (hB _ w3); omega)
      · refine lv_iconst (v := bI false) hx hb dX1_carryOut_68 (by decide) ?_
        refine lv_istore (lv' := [(4, .int (bI (false))), (5, .int (nI (P (Y k)))), (3, .int (nI (Y k))), (2, .int (nI (X k))), (0, .ref (a 0)), (1, .int (nI (k)))]) hx hb dX1_carryOut_69 hl (by decide) rfl (fun ls hl => ?_)
        refine lv_aload_n hx hb dX1_carryOut_71 rfl (lv_at hl 4 rfl) ?_
        refine va_get (D := D) (ci := 1) (v := .ref (a 5)) (C := RX1) (T := TX1) (N := 6) hx hb hts in_X1 hown hK hP 0 rfl rfl 4 (by decide) (hts _ q157) (fun _ h9 => h9) rfl dX1_carryOut_72 ?_
        refine lv_iload_n hx hb dX1_carryOut_75 rfl (lv_at hl 3 rfl) ?_
        refine lv_aload_n hx hb dX1_carryOut_76 rfl (lv_at hl 4 rfl) ?_
        refine va_get (D := D) (ci := 1) (v := .ref (a 5)) (C := RX1) (T := TX1) (N := 6) hx hb hts in_X1 hown hK hP 0 rfl rfl 4 (by decide) (hts _ q157) (fun _ h9 => h9) rfl dX1_carryOut_77 ?_
        refine lv_iload_n hx hb dX1_carryOut_80 rfl (lv_at hl 3 rfl) ?_
        refine nv_iald hx hb hK hP 5 4 rfl rfl (by omega) dX1_carryOut_81 ?_
        refine lv_iload hx hb dX1_carryOut_82 (lv_at hl 1 rfl) ?_
        refine nv_ior hx hb dX1_carryOut_84 ?_
        refine nv_iast hx hb hK hP hD hS 5 4 rfl rfl (by omega) dX1_carryOut_85 (fun H locs hP hD hS => ?_)
        have hP : va_P D vwCl (mW a d T K X Y (va_up P (X k) ((P (X k)) ||| (P (Y k)))) O) H := hP
        have hD : va_D A (mW a d T K X Y (va_up P (X k) ((P (X k)) ||| (P (Y k)))) O) := hD
        refine lv_iload hx hb dX1_carryOut_86 (lv_at hl 0 rfl) ?_
        have q8 : (orF (P, false) (X k) (P (Y k))).2 = false := orF_f rfl c3
        exact rt_z (v := false) hx hb hr hlk (orF (P, false) (X k) (P (Y k))) ⟨cr_1 (by omega), congrArg bI q8.symm⟩ hK hP hD hS dX1_carryOut_88
      · refine lv_iconst (v := bI true) hx hb dX1_carryOut_64 (by decide) ?_
        refine lv_goto (tgt := 69) hx hb dX1_carryOut_65 (by decide) ?_
        refine lv_istore (lv' := [(4, .int (bI (true))), (5, .int (nI (P (Y k)))), (3, .int (nI (Y k))), (2, .int (nI (X k))), (0, .ref (a 0)), (1, .int (nI (k)))]) hx hb dX1_carryOut_69 hl (by decide) rfl (fun ls hl => ?_)
        refine lv_aload_n hx hb dX1_carryOut_71 rfl (lv_at hl 4 rfl) ?_
        refine va_get (D := D) (ci := 1) (v := .ref (a 5)) (C := RX1) (T := TX1) (N := 6) hx hb hts in_X1 hown hK hP 0 rfl rfl 4 (by decide) (hts _ q157) (fun _ h9 => h9) rfl dX1_carryOut_72 ?_
        refine lv_iload_n hx hb dX1_carryOut_75 rfl (lv_at hl 3 rfl) ?_
        refine lv_aload_n hx hb dX1_carryOut_76 rfl (lv_at hl 4 rfl) ?_
        refine va_get (D := D) (ci := 1) (v := .ref (a 5)) (C := RX1) (T := TX1) (N := 6) hx hb hts in_X1 hown hK hP 0 rfl rfl 4 (by decide) (hts _ q157) (fun _ h9 => h9) rfl dX1_carryOut_77 ?_
        refine lv_iload_n hx hb dX1_carryOut_80 rfl (lv_at hl 3 rfl) ?_
        refine nv_iald hx hb hK hP 5 4 rfl rfl (by omega) dX1_carryOut_81 ?_
        refine lv_iload hx hb dX1_carryOut_82 (lv_at hl 1 rfl) ?_
        refine nv_ior hx hb dX1_carryOut_84 ?_
        refine nv_iast hx hb hK hP hD hS 5 4 rfl rfl (by omega) dX1_carryOut_85 (fun H locs hP hD hS => ?_)
        have hP : va_P D vwCl (mW a d T K X Y (va_up P (X k) ((P (X k)) ||| (P (Y k)))) O) H := hP
        have hD : va_D A (mW a d T K X Y (va_up P (X k) ((P (X k)) ||| (P (Y k)))) O) := hD
        refine lv_iload hx hb dX1_carryOut_86 (lv_at hl 0 rfl) ?_
        have q8 : (orF (P, false) (X k) (P (Y k))).2 = true := orF_n c3
        exact rt_z (v := true) hx hb hr hlk (orF (P, false) (X k) (P (Y k))) ⟨cr_1 (by omega), congrArg bI q8.symm⟩ hK hP hD hS dX1_carryOut_88
    · refine lv_iconst (v := nI 1) hx hb dX1_carryOut_36 (by decide) ?_
      refine lv_iload_n hx hb dX1_carryOut_37 rfl (lv_at hl 1 rfl) ?_
      refine nv_shl hx hb dX1_carryOut_38 (by omega) ?_
      refine lv_goto (tgt := 48) hx hb dX1_carryOut_39 (by decide) ?_
      refine lv_istore (lv' := [(5, .int (nI (2 ^ (Y k)))), (4, .int (bI (false))), (3, .int (nI (Y k))), (2, .int (nI (X k))), (0, .ref (a 0)), (1, .int (nI (k)))]) hx hb dX1_carryOut_48 hl (by decide) rfl (fun ls hl => ?_)
      refine lv_iload hx hb dX1_carryOut_50 (lv_at hl 0 rfl) ?_
      refine lv_aload_n hx hb dX1_carryOut_52 rfl (lv_at hl 4 rfl) ?_
      refine va_get (D := D) (ci := 1) (v := .ref (a 5)) (C := RX1) (T := TX1) (N := 6) hx hb hts in_X1 hown hK hP 0 rfl rfl 4 (by decide) (hts _ q157) (fun _ h9 => h9) rfl dX1_carryOut_53 ?_
      refine lv_iload_n hx hb dX1_carryOut_56 rfl (lv_at hl 3 rfl) ?_
      refine nv_iald hx hb hK hP 5 4 rfl rfl (by omega) dX1_carryOut_57 ?_
      refine nv_ndf hx hb dX1_carryOut_58 dX1_carryOut_59 dX1_carryOut_60 ?_
      refine nv_ifeqn (tgt := 68) hx hb dX1_carryOut_61 (by decide) (fun c3 => ?_) (fun c3 => ?_) (by have := z_ndf (b := P (X k)) (z_2p w3); omega)
      · refine lv_iconst (v := bI false) hx hb dX1_carryOut_68 (by decide) ?_
        refine lv_istore (lv' := [(4, .int (bI (false))), (5, .int (nI (2 ^ (Y k)))), (3, .int (nI (Y k))), (2, .int (nI (X k))), (0, .ref (a 0)), (1, .int (nI (k)))]) hx hb dX1_carryOut_69 hl (by decide) rfl (fun ls hl => ?_)
        refine lv_aload_n hx hb dX1_carryOut_71 rfl (lv_at hl 4 rfl) ?_
        refine va_get (D := D) (ci := 1) (v := .ref (a 5)) (C := RX1) (T := TX1) (N := 6) hx hb hts in_X1 hown hK hP 0 rfl rfl 4 (by decide) (hts _ q157) (fun _ h9 => h9) rfl dX1_carryOut_72 ?_
        refine lv_iload_n hx hb dX1_carryOut_75 rfl (lv_at hl 3 rfl) ?_
        refine lv_aload_n hx hb dX1_carryOut_76 rfl (lv_at hl 4 rfl) ?_
        refine va_get (D := D) (ci := 1) (v := .ref (a 5)) (C := RX1) (T := TX1) (N := 6) hx hb hts in_X1 hown hK hP 0 rfl rfl 4 (by decide) (hts _ q157) (fun _ h9 => h9) rfl dX1_carryOut_77 ?_
        refine lv_iload_n hx hb dX1_carryOut_80 rfl (lv_at hl 3 rfl) ?_
        refine nv_iald hx hb hK hP 5 4 rfl rfl (by omega) dX1_carryOut_81 ?_
        refine lv_iload hx hb dX1_carryOut_82 (lv_at hl 1 rfl) ?_
        refine nv_ior hx hb dX1_carryOut_84 ?_
        refine nv_iast hx hb hK hP hD hS 5 4 rfl rfl (by omega) dX1_carryOut_85 (fun H locs hP hD hS => ?_)
        have hP : va_P D vwCl (mW a d T K X Y (va_up P (X k) ((P (X k)) ||| (2 ^ (Y k)))) O) H := hP
        have hD : va_D A (mW a d T K X Y (va_up P (X k) ((P (X k)) ||| (2 ^ (Y k)))) O) := hD
        refine lv_iload hx hb dX1_carryOut_86 (lv_at hl 0 rfl) ?_
        have q8 : (orF (P, false) (X k) (2 ^ Y k)).2 = false := orF_f rfl c3
        exact rt_z (v := false) hx hb hr hlk (orF (P, false) (X k) (2 ^ Y k)) ⟨cr_0 c2, congrArg bI q8.symm⟩ hK hP hD hS dX1_carryOut_88
      · refine lv_iconst (v := bI true) hx hb dX1_carryOut_64 (by decide) ?_
        refine lv_goto (tgt := 69) hx hb dX1_carryOut_65 (by decide) ?_
        refine lv_istore (lv' := [(4, .int (bI (true))), (5, .int (nI (2 ^ (Y k)))), (3, .int (nI (Y k))), (2, .int (nI (X k))), (0, .ref (a 0)), (1, .int (nI (k)))]) hx hb dX1_carryOut_69 hl (by decide) rfl (fun ls hl => ?_)
        refine lv_aload_n hx hb dX1_carryOut_71 rfl (lv_at hl 4 rfl) ?_
        refine va_get (D := D) (ci := 1) (v := .ref (a 5)) (C := RX1) (T := TX1) (N := 6) hx hb hts in_X1 hown hK hP 0 rfl rfl 4 (by decide) (hts _ q157) (fun _ h9 => h9) rfl dX1_carryOut_72 ?_
        refine lv_iload_n hx hb dX1_carryOut_75 rfl (lv_at hl 3 rfl) ?_
        refine lv_aload_n hx hb dX1_carryOut_76 rfl (lv_at hl 4 rfl) ?_
        refine va_get (D := D) (ci := 1) (v := .ref (a 5)) (C := RX1) (T := TX1) (N := 6) hx hb hts in_X1 hown hK hP 0 rfl rfl 4 (by decide) (hts _ q157) (fun _ h9 => h9) rfl dX1_carryOut_77 ?_
        refine lv_iload_n hx hb dX1_carryOut_80 rfl (lv_at hl 3 rfl) ?_
        refine nv_iald hx hb hK hP 5 4 rfl rfl (by omega) dX1_carryOut_81 ?_
        refine lv_iload hx hb dX1_carryOut_82 (lv_at hl 1 rfl) ?_
        refine nv_ior hx hb dX1_carryOut_84 ?_
        refine nv_iast hx hb hK hP hD hS 5 4 rfl rfl (by omega) dX1_carryOut_85 (fun H locs hP hD hS => ?_)
        have hP : va_P D vwCl (mW a d T K X Y (va_up P (X k) ((P (X k)) ||| (2 ^ (Y k)))) O) H := hP
        have hD : va_D A (mW a d T K X Y (va_up P (X k) ((P (X k)) ||| (2 ^ (Y k)))) O) := hD
        refine lv_iload hx hb dX1_carryOut_86 (lv_at hl 0 rfl) ?_
        have q8 : (orF (P, false) (X k) (2 ^ Y k)).2 = true := orF_n c3
        exact rt_z (v := true) hx hb hr hlk (orF (P, false) (X k) (2 ^ Y k)) ⟨cr_0 c2, congrArg bI q8.symm⟩ hK hP hD hS dX1_carryOut_88
set_option maxHeartbeats 4000000 in
set_option maxRecDepth 100000 in
/-- work() -/
theorem mX1_work (l : Launch) (D : va_G) (a : Nat → Nat) (d : Nat → ClassId) (T : Nat → Bool) (K X Y P O : Nat → Nat) (hW : zWF K X Y) : Kv l yX1_work cX1_work 4 1 28 D (mT d) (mW a d T K X Y P O) [.ref (a 0)] (fun u : Nat → Nat => zSol T K X Y u) (fun u => mW a d T K X Y u O) := by
  refine mk_v (by decide) (Nat.le_of_ble_eq_true rfl) ?_
  intro p e s m below meth c A hx hb hml hr hlk hown hts hA hK hP hD hS ls hl
  have hown : s.vm.findClass RX1 = some m.cls := hown
  have hl : lv_has ls 4 [(0, .ref (a 0))] := hl
  refine lv_iconst (v := nI 0) hx hb dX1_work_0 (by decide) ?_
  refine lv_istore_n (lv' := [(1, .int (nI (0))), (0, .ref (a 0))]) hx hb dX1_work_1 rfl hl (by decide) rfl (fun ls hl => ?_)
  refine wl_up (pc := 2) 8 (fun x H locs ls => ∃ (P1 : Nat → Nat), (∀ j, j < x → P1 j = 0) ∧ va_P D vwCl (mW a d T K X Y P1 O) H ∧ va_D A (mW a d T K X Y P1 O) ∧ va_S A s.heap H locs ∧ lv_has ls 4 [(0, .ref (a 0)), (1, .int (nI (x)))]) ?_ ?_ 0 (by omega) _ _ _ ⟨P, (fun j h => absurd h (Nat.not_lt_zero j)), hP, hD, hS, lv_sub hl [1, 0] rfl⟩
  · intro x hk H locs ls hI ih
    obtain ⟨P1, e1, hP, hD, hS, hl⟩ := hI
    refine lv_iload_n hx hb dX1_work_2 rfl (lv_at hl 1 rfl) ?_
    refine lv_bipush (v := nI 8) hx hb dX1_work_3 (by decide) ?_
    refine nv_icmp_ge (tgt := 21) hx hb dX1_work_5 (by decide) (fun c0 => ?_) (fun c0 => ?_)
    · exfalso; omega
    · refine lv_aload_n hx hb dX1_work_8 rfl (lv_at hl 0 rfl) ?_
      refine va_get (D := D) (ci := 1) (v := .ref (a 5)) (C := RX1) (T := TX1) (N := 6) hx hb hts in_X1 hown hK hP 0 rfl rfl 4 (by decide) (hts _ q157) (fun _ h9 => h9) rfl dX1_work_9 ?_
      refine lv_iload_n hx hb dX1_work_12 rfl (lv_at hl 1 rfl) ?_
      refine lv_iconst (v := nI 0) hx hb dX1_work_13 (by decide) ?_
      refine nv_iast hx hb hK hP hD hS 5 4 rfl rfl (by omega) dX1_work_14 (fun H locs hP hD hS => ?_)
      have hP : va_P D vwCl (mW a d T K X Y (va_up P1 x 0) O) H := hP
      have hD : va_D A (mW a d T K X Y (va_up P1 x 0) O) := hD
      refine lv_iinc (v := nI (x + 1)) (lv' := [(1, .int (nI (x + 1))), (0, .ref (a 0))]) hx hb dX1_work_15 hl (k := 1) rfl (by exact nI_1 _) (by decide) rfl (fun ls hl => ?_)
      refine lv_goto (tgt := 2) hx hb dX1_work_18 (by decide) ?_
      exact ih _ _ _ ⟨(va_up P1 x 0), (p0_up e1), hP, hD, hS, lv_sub hl [1, 0] rfl⟩
  · intro H locs ls hI
    obtain ⟨P1, e1, hP, hD, hS, hl⟩ := hI
    refine lv_iload_n hx hb dX1_work_2 rfl (lv_at hl 1 rfl) ?_
    refine lv_bipush (v := nI 8) hx hb dX1_work_3 (by decide) ?_
    refine nv_icmp_ge (tgt := 21) hx hb dX1_work_5 (by decide) (fun c0 => ?_) (fun c0 => ?_)
    · refine lv_iconst (v := bI true) hx hb dX1_work_21 (by decide) ?_
      refine lv_istore_n (lv' := [(1, .int (bI (true))), (0, .ref (a 0))]) hx hb dX1_work_22 rfl hl (by decide) rfl (fun ls hl => ?_)
      refine lv_iconst (v := nI 0) hx hb dX1_work_23 (by decide) ?_
      refine lv_istore_n (lv' := [(2, .int (nI (0))), (1, .int (bI (true))), (0, .ref (a 0))]) hx hb dX1_work_24 rfl hl (by decide) rfl (fun ls hl => ?_)
      refine wl_up (pc := 25) 65 (fun q H locs ls => ∃ (P2 : Nat → Nat) (b2 : Bool), (zB8 P2) ∧ (zSnd T K X Y P2) ∧ ((b2 = true ∧ q ≤ ztot P2) ∨ (b2 = false ∧ zCl T K X Y (zbm P2))) ∧ va_P D vwCl (mW a d T K X Y P2 O) H ∧ va_D A (mW a d T K X Y P2 O) ∧ va_S A s.heap H locs ∧ lv_has ls 4 [(0, .ref (a 0)), (1, .int (bI (b2))), (2, .int (nI (q)))]) ?_ ?_ 0 (by omega) _ _ _ ⟨P1, true, (p0_B8 e1), (p0_Snd e1), (Or.inl ⟨rfl, Nat.zero_le _⟩), hP, hD, hS, lv_sub hl [2, 1, 0] rfl⟩
      · intro q hk H locs ls hI ih
        obtain ⟨P2, b2, g1, g2, g3, hP, hD, hS, hl⟩ := hI
        refine lv_iload_n hx hb dX1_work_25 rfl (lv_at hl 2 rfl) ?_
        refine lv_bipush (v := nI 65) hx hb dX1_work_26 (by decide) ?_
        refine nv_icmp_ge (tgt := 84) hx hb dX1_work_28 (by decide) (fun c0 => ?_) (fun c0 => ?_)
        · exfalso; omega
        · refine lv_iload_n hx hb dX1_work_31 rfl (lv_at hl 1 rfl) ?_
          refine nv_ifeq (tgt := 84) hx hb dX1_work_32 (by decide) (fun c1 => ?_) (fun c1 => ?_)
          · exact rt_v hx hb hr hlk P2 ⟨g1, wk_f g3 c1, g2⟩ hK hP hD hS dX1_work_84
          · refine lv_iconst (v := bI false) hx hb dX1_work_35 (by decide) ?_
            refine lv_istore_n (lv' := [(1, .int (bI (false))), (0, .ref (a 0)), (2, .int (nI (q)))]) hx hb dX1_work_36 rfl hl (by decide) rfl (fun ls hl => ?_)
            refine lv_iconst (v := nI 0) hx hb dX1_work_37 (by decide) ?_
            refine lv_istore_n (lv' := [(3, .int (nI (0))), (1, .int (bI (false))), (0, .ref (a 0)), (2, .int (nI (q)))]) hx hb dX1_work_38 rfl hl (by decide) rfl (fun ls hl => ?_)
            refine wl_up (pc := 39) 13 (fun k H locs ls => ∃ (P3 : Nat → Nat) (b3 : Bool), (zB8 P3) ∧ (zSnd T K X Y P3) ∧ (zrel P2 (P3, b3)) ∧ (b3 = false → ∀ i, i < k → T i = true → zc1 K X Y P2 i) ∧ va_P D vwCl (mW a d T K X Y P3 O) H ∧ va_D A (mW a d T K X Y P3 O) ∧ va_S A s.heap H locs ∧ lv_has ls 4 [(0, .ref (a 0)), (1, .int (bI (b3))), (2, .int (nI (q))), (3, .int (nI (k)))]) ?_ ?_ 0 (by omega) _ _ _ ⟨P2, false, g1, g2, (zrel_rf P2), (fun _ i h => absurd h (Nat.not_lt_zero i)), hP, hD, hS, lv_sub hl [2, 1, 3, 0] rfl⟩
            · intro k hk H locs ls hI ih
              obtain ⟨P3, b3, h1, h2, h3, h4, hP, hD, hS, hl⟩ := hI
              refine lv_iload_n hx hb dX1_work_39 rfl (lv_at hl 3 rfl) ?_
              refine lv_bipush (v := nI 13) hx hb dX1_work_40 (by decide) ?_
              refine nv_icmp_ge (tgt := 78) hx hb dX1_work_42 (by decide) (fun c0 => ?_) (fun c0 => ?_)
              · exfalso; omega
              · refine lv_aload_n hx hb dX1_work_45 rfl (lv_at hl 0 rfl) ?_
                refine va_get (D := D) (ci := 1) (v := .ref (a 1)) (C := RX1) (T := TX1) (N := 6) hx hb hts in_X1 hown hK hP 0 rfl rfl 0 (by decide) (hts _ q153) (fun _ h9 => h9) rfl dX1_work_46 ?_
                refine lv_iload_n hx hb dX1_work_49 rfl (lv_at hl 3 rfl) ?_
                refine nv_zald hx hb hK hP 1 0 rfl rfl (by omega) dX1_work_50 ?_
                refine nv_ifeq (tgt := 62) hx hb dX1_work_51 (by decide) (fun c2 => ?_) (fun c2 => ?_)
                · refine lv_iload_n hx hb dX1_work_62 rfl (lv_at hl 1 rfl) ?_
                  refine nv_ifeq (tgt := 70) hx hb dX1_work_63 (by decide) (fun c3 => ?_) (fun c3 => ?_)
                  · subst c3
                    refine lv_iconst (v := bI false) hx hb dX1_work_70 (by decide) ?_
                    refine lv_istore_n (lv' := [(1, .int (bI (false))), (0, .ref (a 0)), (2, .int (nI (q))), (3, .int (nI (k)))]) hx hb dX1_work_71 rfl hl (by decide) rfl (fun ls hl => ?_)
                    refine lv_iinc (v := nI (k + 1)) (lv' := [(3, .int (nI (k + 1))), (1, .int (bI (false))), (0, .ref (a 0)), (2, .int (nI (q)))]) hx hb dX1_work_72 hl (k := 3) rfl (by exact nI_1 _) (by decide) rfl (fun ls hl => ?_)
                    refine lv_goto (tgt := 39) hx hb dX1_work_75 (by decide) ?_
                    exact ih _ _ _ ⟨P3, false, h1, h2, h3, (fun h i hi ht => by rcases Nat.lt_or_ge i k with g | g; exact h4 h i g ht; rw [show i = k by omega, c2] at ht; cases ht), hP, hD, hS, lv_sub hl [2, 1, 3, 0] rfl⟩
                  · subst c3
                    refine lv_iconst (v := bI true) hx hb dX1_work_66 (by decide) ?_
                    refine lv_goto (tgt := 71) hx hb dX1_work_67 (by decide) ?_
                    refine lv_istore_n (lv' := [(1, .int (bI (true))), (0, .ref (a 0)), (2, .int (nI (q))), (3, .int (nI (k)))]) hx hb dX1_work_71 rfl hl (by decide) rfl (fun ls hl => ?_)
                    refine lv_iinc (v := nI (k + 1)) (lv' := [(3, .int (nI (k + 1))), (1, .int (bI (true))), (0, .ref (a 0)), (2, .int (nI (q)))]) hx hb dX1_work_72 hl (k := 3) rfl (by exact nI_1 _) (by decide) rfl (fun ls hl => ?_)
                    refine lv_goto (tgt := 39) hx hb dX1_work_75 (by decide) ?_
                    exact ih _ _ _ ⟨P3, true, h1, h2, h3, (fun h => by cases h), hP, hD, hS, lv_sub hl [2, 1, 3, 0] rfl⟩
                · refine lv_aload_n hx hb dX1_work_54 rfl (lv_at hl 0 rfl) ?_
                  refine lv_iload_n hx hb dX1_work_55 rfl (lv_at hl 3 rfl) ?_
                  refine cl_Vi (n := 1) (As := [.int (nI (k))]) (rest := []) (ci := 1) (q0 := 0) hx hb hml hown hts (mX1_carryOut l D a d T K X Y P3 O k hk hW h1) (lw_V q206 q208 qs12 q16 q209) (by decide +kernel) rfl ⟨Nat.le_of_ble_eq_true rfl, Nat.le_of_ble_eq_true rfl⟩ ⟨Nat.le_refl _, Nat.le_refl _⟩ hK hP hD hS hA rfl rfl hl.1 rfl (Nat.le_of_ble_eq_true rfl) dX1_work_56 (fun r u H locs hp hP hD hS => ?_)
                  obtain ⟨q1, q2⟩ : u = crF K X Y k P3 ∧ r = bI u.2 := hp
                  subst q1
                  subst q2
                  have hP : va_P D vwCl (mW a d T K X Y ((crF K X Y k P3).1) O) H := hP
                  have hD : va_D A (mW a d T K X Y ((crF K X Y k P3).1) O) := hD
                  have j1 := cr_B8 hW hk h1
                  have j2 := cr_snd hW hk c2 h2
                  have j3 := zrel_tr h3 (cr_rel hW hk h1)
                  refine nv_ifne (tgt := 66) hx hb dX1_work_59 (by decide) (fun c4 => ?_) (fun c4 => ?_)
                  · rw [c4] at j3
                    refine lv_iconst (v := bI true) hx hb dX1_work_66 (by decide) ?_
                    refine lv_goto (tgt := 71) hx hb dX1_work_67 (by decide) ?_
                    refine lv_istore_n (lv' := [(1, .int (bI (true))), (0, .ref (a 0)), (2, .int (nI (q))), (3, .int (nI (k)))]) hx hb dX1_work_71 rfl hl (by decide) rfl (fun ls hl => ?_)
                    refine lv_iinc (v := nI (k + 1)) (lv' := [(3, .int (nI (k + 1))), (1, .int (bI (true))), (0, .ref (a 0)), (2, .int (nI (q)))]) hx hb dX1_work_72 hl (k := 3) rfl (by exact nI_1 _) (by decide) rfl (fun ls hl => ?_)
                    refine lv_goto (tgt := 39) hx hb dX1_work_75 (by decide) ?_
                    exact ih _ _ _ ⟨(crF K X Y k P3).1, true, j1, j2, j3, (fun h => by cases h), hP, hD, hS, lv_sub hl [2, 1, 3, 0] rfl⟩
                  · rw [c4] at j3
                    refine lv_iload_n hx hb dX1_work_62 rfl (lv_at hl 1 rfl) ?_
                    refine nv_ifeq (tgt := 70) hx hb dX1_work_63 (by decide) (fun c3 => ?_) (fun c3 => ?_)
                    · subst c3
                      have j4 : zc1 K X Y P2 k := zc1_eq hW hk g1 (h3.2.1 rfl) (cr_fin hW hk h1 c4)
                      refine lv_iconst (v := bI false) hx hb dX1_work_70 (by decide) ?_
                      refine lv_istore_n (lv' := [(1, .int (bI (false))), (0, .ref (a 0)), (2, .int (nI (q))), (3, .int (nI (k)))]) hx hb dX1_work_71 rfl hl (by decide) rfl (fun ls hl => ?_)
                      refine lv_iinc (v := nI (k + 1)) (lv' := [(3, .int (nI (k + 1))), (1, .int (bI (false))), (0, .ref (a 0)), (2, .int (nI (q)))]) hx hb dX1_work_72 hl (k := 3) rfl (by exact nI_1 _) (by decide) rfl (fun ls hl => ?_)
                      refine lv_goto (tgt := 39) hx hb dX1_work_75 (by decide) ?_
                      exact ih _ _ _ ⟨(crF K X Y k P3).1, false, j1, j2, j3, (fun h i hi ht => by rcases Nat.lt_or_ge i k with g | g; exact h4 h i g ht; rw [show i = k by omega]; exact j4), hP, hD, hS, lv_sub hl [2, 1, 3, 0] rfl⟩
                    · subst c3
                      refine lv_iconst (v := bI true) hx hb dX1_work_66 (by decide) ?_
                      refine lv_goto (tgt := 71) hx hb dX1_work_67 (by decide) ?_
                      refine lv_istore_n (lv' := [(1, .int (bI (true))), (0, .ref (a 0)), (2, .int (nI (q))), (3, .int (nI (k)))]) hx hb dX1_work_71 rfl hl (by decide) rfl (fun ls hl => ?_)
                      refine lv_iinc (v := nI (k + 1)) (lv' := [(3, .int (nI (k + 1))), (1, .int (bI (true))), (0, .ref (a 0)), (2, .int (nI (q)))]) hx hb dX1_work_72 hl (k := 3) rfl (by exact nI_1 _) (by decide) rfl (fun ls hl => ?_)
                      refine lv_goto (tgt := 39) hx hb dX1_work_75 (by decide) ?_
                      exact ih _ _ _ ⟨(crF K X Y k P3).1, true, j1, j2, j3, (fun h => by cases h), hP, hD, hS, lv_sub hl [2, 1, 3, 0] rfl⟩
            · intro H locs ls hI
              obtain ⟨P3, b3, h1, h2, h3, h4, hP, hD, hS, hl⟩ := hI
              refine lv_iload_n hx hb dX1_work_39 rfl (lv_at hl 3 rfl) ?_
              refine lv_bipush (v := nI 13) hx hb dX1_work_40 (by decide) ?_
              refine nv_icmp_ge (tgt := 78) hx hb dX1_work_42 (by decide) (fun c0 => ?_) (fun c0 => ?_)
              · refine lv_iinc (v := nI (q + 1)) (lv' := [(2, .int (nI (q + 1))), (0, .ref (a 0)), (1, .int (bI (b3))), (3, .int (nI (13)))]) hx hb dX1_work_78 hl (k := 2) rfl (by exact nI_1 _) (by decide) rfl (fun ls hl => ?_)
                refine lv_goto (tgt := 25) hx hb dX1_work_81 (by decide) ?_
                exact ih _ _ _ ⟨P3, b3, h1, h2, (wk_end hW g1 (wk_b g3 c1) h3 h4), hP, hD, hS, lv_sub hl [1, 2, 0] rfl⟩
              · exfalso; omega
      · intro H locs ls hI
        obtain ⟨P2, b2, g1, g2, g3, hP, hD, hS, hl⟩ := hI
        refine lv_iload_n hx hb dX1_work_25 rfl (lv_at hl 2 rfl) ?_
        refine lv_bipush (v := nI 65) hx hb dX1_work_26 (by decide) ?_
        refine nv_icmp_ge (tgt := 84) hx hb dX1_work_28 (by decide) (fun c0 => ?_) (fun c0 => ?_)
        · exact rt_v hx hb hr hlk P2 ⟨g1, wk_fin g3, g2⟩ hK hP hD hS dX1_work_84
        · exfalso; omega
    · exfalso; omega
end
section
set_option maxRecDepth 100000
set_option maxHeartbeats 4000000 in
set_option maxRecDepth 100000 in
/-- pointsTo(x) -/
theorem mX1_pointsTo (l : Launch) (D : va_G) (a : Nat → Nat) (d : Nat → ClassId) (T : Nat → Bool) (K X Y P O : Nat → Nat) (hW : zWF K X Y) (x : Int32) : Ki l yX1_pointsTo cX1_pointsTo 2 (some .int) 2 51 D (mT d) (mW a d T K X Y P O) [.ref (a 0), .int x] (fun r (_ : Nat → Nat) => rPt T K X Y x r) (fun u => mW a d T K X Y u O) := by
  refine mk_i (by decide) (Nat.le_of_ble_eq_true rfl) ?_
  intro p e s m below meth c A hx hb hml hr hlk hown hts hA hK hP hD hS ls hl
  have hown : s.vm.findClass RX1 = some m.cls := hown
  have hl : lv_has ls 2 [(0, .ref (a 0)), (1, .int (x))] := hl
  refine lv_aload_n hx hb dX1_pointsTo_0 rfl (lv_at hl 0 rfl) ?_
  refine cl_Vv (n := 0) (As := []) (rest := []) (ci := 1) (q0 := 0) hx hb hml hown hts (mX1_work l D a d T K X Y P O hW) (lw_V q202 q204 qs11 q16 q205) (by decide +kernel) rfl ⟨Nat.le_of_ble_eq_true rfl, Nat.le_of_ble_eq_true rfl⟩ ⟨Nat.le_refl _, Nat.le_refl _⟩ hK hP hD hS hA rfl rfl hl.1 rfl (Nat.le_of_ble_eq_true rfl) dX1_pointsTo_1 (fun P1 H locs hs hP hD hS => ?_)
  have hP : va_P D vwCl (mW a d T K X Y P1 O) H := hP
  have hD : va_D A (mW a d T K X Y P1 O) := hD
  have hs : zSol T K X Y P1 := hs
  refine lv_aload_n hx hb dX1_pointsTo_4 rfl (lv_at hl 0 rfl) ?_
  refine lv_iload_n hx hb dX1_pointsTo_5 rfl (lv_at hl 1 rfl) ?_
  refine cl_Vi (n := 1) (As := [.int (x)]) (rest := []) (ci := 1) (q0 := 0) hx hb hml hown hts (mX1_variable l D a d T K X Y P1 O (x)) (lw_V q182 q184 qs9 q16 q185) (by decide +kernel) rfl ⟨Nat.le_of_ble_eq_true rfl, Nat.le_of_ble_eq_true rfl⟩ ⟨Nat.le_refl _, Nat.le_refl _⟩ hK hP hD hS hA rfl rfl hl.1 rfl (Nat.le_of_ble_eq_true rfl) dX1_pointsTo_6 (fun r _ H locs hp hP hD hS => ?_)
  have hp : r = bI (vr (x)) := hp
  subst hp
  refine nv_ifeq (tgt := 21) hx hb dX1_pointsTo_9 (by decide) (fun c1 => ?_) (fun c1 => ?_)
  · refine lv_iconst (v := nI 0) hx hb dX1_pointsTo_21 (by decide) ?_
    exact rt_i (v := nI (0)) hx hb hr hlk P1 (Or.inl ⟨c1, rfl⟩) hK hP hD hS dX1_pointsTo_22
  · obtain ⟨j, hj, rfl⟩ := vr_of c1
    refine lv_aload_n hx hb dX1_pointsTo_12 rfl (lv_at hl 0 rfl) ?_
    refine va_get (D := D) (ci := 1) (v := .ref (a 5)) (C := RX1) (T := TX1) (N := 6) hx hb hts in_X1 hown hK hP 0 rfl rfl 4 (by decide) (hts _ q157) (fun _ h9 => h9) rfl dX1_pointsTo_13 ?_
    refine lv_iload_n hx hb dX1_pointsTo_16 rfl (lv_at hl 1 rfl) ?_
    refine nv_iald hx hb hK hP 5 4 rfl rfl (by omega) dX1_pointsTo_17 ?_
    refine lv_goto (tgt := 22) hx hb dX1_pointsTo_18 (by decide) ?_
    exact rt_i (v := nI (P1 j)) hx hb hr hlk P1 (Or.inr ⟨P1, j, hs, hj, rfl, rfl⟩) hK hP hD hS dX1_pointsTo_22
set_option maxHeartbeats 4000000 in
set_option maxRecDepth 100000 in
/-- pointedBy(x) -/
theorem mX1_pointedBy (l : Launch) (D : va_G) (a : Nat → Nat) (d : Nat → ClassId) (T : Nat → Bool) (K X Y P O : Nat → Nat) (hW : zWF K X Y) (x : Int32) : Ki l yX1_pointedBy cX1_pointedBy 4 (some .int) 2 51 D (mT d) (mW a d T K X Y P O) [.ref (a 0), .int x] (fun r (_ : Nat → Nat) => rPb T K X Y x r) (fun u => mW a d T K X Y u O) := by
  refine mk_i (by decide) (Nat.le_of_ble_eq_true rfl) ?_
  intro p e s m below meth c A hx hb hml hr hlk hown hts hA hK hP hD hS ls hl
  have hown : s.vm.findClass RX1 = some m.cls := hown
  have hl : lv_has ls 4 [(0, .ref (a 0)), (1, .int (x))] := hl
  refine lv_aload_n hx hb dX1_pointedBy_0 rfl (lv_at hl 0 rfl) ?_
  refine cl_Vv (n := 0) (As := []) (rest := []) (ci := 1) (q0 := 0) hx hb hml hown hts (mX1_work l D a d T K X Y P O hW) (lw_V q202 q204 qs11 q16 q205) (by decide +kernel) rfl ⟨Nat.le_of_ble_eq_true rfl, Nat.le_of_ble_eq_true rfl⟩ ⟨Nat.le_refl _, Nat.le_refl _⟩ hK hP hD hS hA rfl rfl hl.1 rfl (Nat.le_of_ble_eq_true rfl) dX1_pointedBy_1 (fun P1 H locs hs hP hD hS => ?_)
  have hP : va_P D vwCl (mW a d T K X Y P1 O) H := hP
  have hD : va_D A (mW a d T K X Y P1 O) := hD
  have hs : zSol T K X Y P1 := hs
  refine lv_iconst (v := nI 0) hx hb dX1_pointedBy_4 (by decide) ?_
  refine lv_istore_n (lv' := [(2, .int (nI (0))), (0, .ref (a 0)), (1, .int (x))]) hx hb dX1_pointedBy_5 rfl hl (by decide) rfl (fun ls hl => ?_)
  refine lv_iconst (v := nI 0) hx hb dX1_pointedBy_6 (by decide) ?_
  refine lv_istore_n (lv' := [(3, .int (nI (0))), (2, .int (nI (0))), (0, .ref (a 0)), (1, .int (x))]) hx hb dX1_pointedBy_7 rfl hl (by decide) rfl (fun ls hl => ?_)
  rcases Bool.eq_false_or_eq_true (vr x) with c1 | c1
  · obtain ⟨j, hj, rfl⟩ := vr_of c1
    refine wl_up (pc := 8) 8 (fun i H locs ls => ∃ (n : Nat), (n = zcol (fun z => Nat.testBit (P1 z) j) i) ∧ va_P D vwCl (mW a d T K X Y P1 O) H ∧ va_D A (mW a d T K X Y P1 O) ∧ va_S A s.heap H locs ∧ lv_has ls 4 [(0, .ref (a 0)), (1, .int (nI (j))), (2, .int (nI (n))), (3, .int (nI (i)))]) ?_ ?_ 0 (by omega) _ _ _ ⟨0, rfl, hP, hD, hS, lv_sub hl [2, 3, 1, 0] rfl⟩
    · intro i hk H locs ls hI ih
      obtain ⟨n, e1, hP, hD, hS, hl⟩ := hI
      refine lv_iload_n hx hb dX1_pointedBy_8 rfl (lv_at hl 3 rfl) ?_
      refine lv_bipush (v := nI 8) hx hb dX1_pointedBy_9 (by decide) ?_
      refine nv_icmp_ge (tgt := 52) hx hb dX1_pointedBy_11 (by decide) (fun c0 => ?_) (fun c0 => ?_)
      · exfalso; omega
      · refine lv_aload_n hx hb dX1_pointedBy_14 rfl (lv_at hl 0 rfl) ?_
        refine lv_iload_n hx hb dX1_pointedBy_15 rfl (lv_at hl 1 rfl) ?_
        refine cl_Vi (n := 1) (As := [.int (nI (j))]) (rest := []) (ci := 1) (q0 := 0) hx hb hml hown hts (mX1_variable l D a d T K X Y P1 O (nI j)) (lw_V q182 q184 qs9 q16 q185) (by decide +kernel) rfl ⟨Nat.le_of_ble_eq_true rfl, Nat.le_of_ble_eq_true rfl⟩ ⟨Nat.le_refl _, Nat.le_refl _⟩ hK hP hD hS hA rfl rfl hl.1 rfl (Nat.le_of_ble_eq_true rfl) dX1_pointedBy_16 (fun r _ H locs hp hP hD hS => ?_)
        have hp : r = bI true := hp.trans (congrArg bI (vr_nt hj))
        subst hp
        refine nv_ifeq (tgt := 52) hx hb dX1_pointedBy_19 (by decide) (fun c9 => ?_) (fun c9 => ?_)
        · cases c9
        · refine lv_aload_n hx hb dX1_pointedBy_22 rfl (lv_at hl 0 rfl) ?_
          refine va_get (D := D) (ci := 1) (v := .ref (a 5)) (C := RX1) (T := TX1) (N := 6) hx hb hts in_X1 hown hK hP 0 rfl rfl 4 (by decide) (hts _ q157) (fun _ h9 => h9) rfl dX1_pointedBy_23 ?_
          refine lv_iload_n hx hb dX1_pointedBy_26 rfl (lv_at hl 3 rfl) ?_
          refine nv_iald hx hb hK hP 5 4 rfl rfl (by omega) dX1_pointedBy_27 ?_
          refine lv_iload_n hx hb dX1_pointedBy_28 rfl (lv_at hl 1 rfl) ?_
          refine nv_bit hx hb dX1_pointedBy_29 dX1_pointedBy_30 dX1_pointedBy_31 (by have := hs.1 i (by omega); omega) (by omega) ?_
          refine lv_iconst (v := nI 1) hx hb dX1_pointedBy_32 (by decide) ?_
          refine nv_icmp_ne1 (tgt := 44) hx hb dX1_pointedBy_33 (by decide) (fun c2 => ?_) (fun c2 => ?_)
          · refine lv_iload_n hx hb dX1_pointedBy_44 rfl (lv_at hl 2 rfl) ?_
            refine lv_istore_n (lv' := [(2, .int (nI (n))), (0, .ref (a 0)), (1, .int (nI (j))), (3, .int (nI (i)))]) hx hb dX1_pointedBy_45 rfl hl (by decide) rfl (fun ls hl => ?_)
            refine lv_iinc (v := nI (i + 1)) (lv' := [(3, .int (nI (i + 1))), (2, .int (nI (n))), (0, .ref (a 0)), (1, .int (nI (j)))]) hx hb dX1_pointedBy_46 hl (k := 3) rfl (by exact nI_1 _) (by decide) rfl (fun ls hl => ?_)
            refine lv_goto (tgt := 8) hx hb dX1_pointedBy_49 (by decide) ?_
            exact ih _ _ _ ⟨n, (zcol_f e1 c2), hP, hD, hS, lv_sub hl [2, 3, 1, 0] rfl⟩
          · refine lv_iload_n hx hb dX1_pointedBy_36 rfl (lv_at hl 2 rfl) ?_
            refine lv_iconst (v := nI 1) hx hb dX1_pointedBy_37 (by decide) ?_
            refine lv_iload_n hx hb dX1_pointedBy_38 rfl (lv_at hl 3 rfl) ?_
            refine nv_shl hx hb dX1_pointedBy_39 (by omega) ?_
            refine nv_ior hx hb dX1_pointedBy_40 ?_
            refine lv_goto (tgt := 45) hx hb dX1_pointedBy_41 (by decide) ?_
            refine lv_istore_n (lv' := [(2, .int (nI (n ||| (2 ^ i)))), (0, .ref (a 0)), (1, .int (nI (j))), (3, .int (nI (i)))]) hx hb dX1_pointedBy_45 rfl hl (by decide) rfl (fun ls hl => ?_)
            refine lv_iinc (v := nI (i + 1)) (lv' := [(3, .int (nI (i + 1))), (2, .int (nI (n ||| (2 ^ i)))), (0, .ref (a 0)), (1, .int (nI (j)))]) hx hb dX1_pointedBy_46 hl (k := 3) rfl (by exact nI_1 _) (by decide) rfl (fun ls hl => ?_)
            refine lv_goto (tgt := 8) hx hb dX1_pointedBy_49 (by decide) ?_
            exact ih _ _ _ ⟨(n ||| 2 ^ i), (zcol_t e1 c2), hP, hD, hS, lv_sub hl [2, 3, 1, 0] rfl⟩
    · intro H locs ls hI
      obtain ⟨n, e1, hP, hD, hS, hl⟩ := hI
      refine lv_iload_n hx hb dX1_pointedBy_8 rfl (lv_at hl 3 rfl) ?_
      refine lv_bipush (v := nI 8) hx hb dX1_pointedBy_9 (by decide) ?_
      refine nv_icmp_ge (tgt := 52) hx hb dX1_pointedBy_11 (by decide) (fun c0 => ?_) (fun c0 => ?_)
      · refine lv_iload_n hx hb dX1_pointedBy_52 rfl (lv_at hl 2 rfl) ?_
        exact rt_i (v := nI (n)) hx hb hr hlk P1 (Or.inr ⟨P1, j, hs, hj, rfl, congrArg nI e1⟩) hK hP hD hS dX1_pointedBy_53
      · exfalso; omega
  · refine lv_iload_n hx hb dX1_pointedBy_8 rfl (lv_at hl 0 rfl) ?_
    refine lv_bipush (v := nI 8) hx hb dX1_pointedBy_9 (by decide) ?_
    refine nv_icmp_ge (tgt := 52) hx hb dX1_pointedBy_11 (by decide) (fun c0 => ?_) (fun c0 => ?_)
    · exfalso; omega
    · refine lv_aload_n hx hb dX1_pointedBy_14 rfl (lv_at hl 2 rfl) ?_
      refine lv_iload_n hx hb dX1_pointedBy_15 rfl (lv_at hl 3 rfl) ?_
      refine cl_Vi (n := 1) (As := [.int (x)]) (rest := []) (ci := 1) (q0 := 0) hx hb hml hown hts (mX1_variable l D a d T K X Y P1 O (x)) (lw_V q182 q184 qs9 q16 q185) (by decide +kernel) rfl ⟨Nat.le_of_ble_eq_true rfl, Nat.le_of_ble_eq_true rfl⟩ ⟨Nat.le_refl _, Nat.le_refl _⟩ hK hP hD hS hA rfl rfl hl.1 rfl (Nat.le_of_ble_eq_true rfl) dX1_pointedBy_16 (fun r _ H locs hp hP hD hS => ?_)
      have hp : r = bI (vr (x)) := hp
      subst hp
      refine nv_ifeq (tgt := 52) hx hb dX1_pointedBy_19 (by decide) (fun c2 => ?_) (fun c2 => ?_)
      · refine lv_iload_n hx hb dX1_pointedBy_52 rfl (lv_at hl 1 rfl) ?_
        exact rt_i (v := nI (0)) hx hb hr hlk P1 (Or.inl ⟨c1, rfl⟩) hK hP hD hS dX1_pointedBy_53
      · rw [c1] at c2; cases c2
set_option maxHeartbeats 4000000 in
set_option maxRecDepth 100000 in
/-- twins(x) -/
theorem mX1_twins (l : Launch) (D : va_G) (a : Nat → Nat) (d : Nat → ClassId) (T : Nat → Bool) (K X Y P O : Nat → Nat) (hW : zWF K X Y) (x : Int32) : Ki l yX1_twins cX1_twins 4 (some .int) 2 51 D (mT d) (mW a d T K X Y P O) [.ref (a 0), .int x] (fun r (_ : Nat → Nat) => rTw T K X Y x r) (fun u => mW a d T K X Y u O) := by
  refine mk_i (by decide) (Nat.le_of_ble_eq_true rfl) ?_
  intro p e s m below meth c A hx hb hml hr hlk hown hts hA hK hP hD hS ls hl
  have hown : s.vm.findClass RX1 = some m.cls := hown
  have hl : lv_has ls 4 [(0, .ref (a 0)), (1, .int (x))] := hl
  refine lv_aload_n hx hb dX1_twins_0 rfl (lv_at hl 0 rfl) ?_
  refine cl_Vv (n := 0) (As := []) (rest := []) (ci := 1) (q0 := 0) hx hb hml hown hts (mX1_work l D a d T K X Y P O hW) (lw_V q202 q204 qs11 q16 q205) (by decide +kernel) rfl ⟨Nat.le_of_ble_eq_true rfl, Nat.le_of_ble_eq_true rfl⟩ ⟨Nat.le_refl _, Nat.le_refl _⟩ hK hP hD hS hA rfl rfl hl.1 rfl (Nat.le_of_ble_eq_true rfl) dX1_twins_1 (fun P1 H locs hs hP hD hS => ?_)
  have hP : va_P D vwCl (mW a d T K X Y P1 O) H := hP
  have hD : va_D A (mW a d T K X Y P1 O) := hD
  have hs : zSol T K X Y P1 := hs
  refine lv_iconst (v := nI 0) hx hb dX1_twins_4 (by decide) ?_
  refine lv_istore_n (lv' := [(2, .int (nI (0))), (0, .ref (a 0)), (1, .int (x))]) hx hb dX1_twins_5 rfl hl (by decide) rfl (fun ls hl => ?_)
  refine lv_iconst (v := nI 0) hx hb dX1_twins_6 (by decide) ?_
  refine lv_istore_n (lv' := [(3, .int (nI (0))), (2, .int (nI (0))), (0, .ref (a 0)), (1, .int (x))]) hx hb dX1_twins_7 rfl hl (by decide) rfl (fun ls hl => ?_)
  rcases Bool.eq_false_or_eq_true (vr x) with c1 | c1
  · obtain ⟨j, hj, rfl⟩ := vr_of c1
    refine wl_up (pc := 8) 8 (fun i H locs ls => ∃ (n : Nat), (n = zcol (fun z => decide (P1 z = P1 j)) i) ∧ va_P D vwCl (mW a d T K X Y P1 O) H ∧ va_D A (mW a d T K X Y P1 O) ∧ va_S A s.heap H locs ∧ lv_has ls 4 [(0, .ref (a 0)), (1, .int (nI (j))), (2, .int (nI (n))), (3, .int (nI (i)))]) ?_ ?_ 0 (by omega) _ _ _ ⟨0, rfl, hP, hD, hS, lv_sub hl [2, 3, 1, 0] rfl⟩
    · intro i hk H locs ls hI ih
      obtain ⟨n, e1, hP, hD, hS, hl⟩ := hI
      refine lv_iload_n hx hb dX1_twins_8 rfl (lv_at hl 3 rfl) ?_
      refine lv_bipush (v := nI 8) hx hb dX1_twins_9 (by decide) ?_
      refine nv_icmp_ge (tgt := 53) hx hb dX1_twins_11 (by decide) (fun c0 => ?_) (fun c0 => ?_)
      · exfalso; omega
      · refine lv_aload_n hx hb dX1_twins_14 rfl (lv_at hl 0 rfl) ?_
        refine lv_iload_n hx hb dX1_twins_15 rfl (lv_at hl 1 rfl) ?_
        refine cl_Vi (n := 1) (As := [.int (nI (j))]) (rest := []) (ci := 1) (q0 := 0) hx hb hml hown hts (mX1_variable l D a d T K X Y P1 O (nI j)) (lw_V q182 q184 qs9 q16 q185) (by decide +kernel) rfl ⟨Nat.le_of_ble_eq_true rfl, Nat.le_of_ble_eq_true rfl⟩ ⟨Nat.le_refl _, Nat.le_refl _⟩ hK hP hD hS hA rfl rfl hl.1 rfl (Nat.le_of_ble_eq_true rfl) dX1_twins_16 (fun r _ H locs hp hP hD hS => ?_)
        have hp : r = bI true := hp.trans (congrArg bI (vr_nt hj))
        subst hp
        refine nv_ifeq (tgt := 53) hx hb dX1_twins_19 (by decide) (fun c9 => ?_) (fun c9 => ?_)
        · cases c9
        · refine lv_aload_n hx hb dX1_twins_22 rfl (lv_at hl 0 rfl) ?_
          refine va_get (D := D) (ci := 1) (v := .ref (a 5)) (C := RX1) (T := TX1) (N := 6) hx hb hts in_X1 hown hK hP 0 rfl rfl 4 (by decide) (hts _ q157) (fun _ h9 => h9) rfl dX1_twins_23 ?_
          refine lv_iload_n hx hb dX1_twins_26 rfl (lv_at hl 3 rfl) ?_
          refine nv_iald hx hb hK hP 5 4 rfl rfl (by omega) dX1_twins_27 ?_
          refine lv_aload_n hx hb dX1_twins_28 rfl (lv_at hl 0 rfl) ?_
          refine va_get (D := D) (ci := 1) (v := .ref (a 5)) (C := RX1) (T := TX1) (N := 6) hx hb hts in_X1 hown hK hP 0 rfl rfl 4 (by decide) (hts _ q157) (fun _ h9 => h9) rfl dX1_twins_29 ?_
          refine lv_iload_n hx hb dX1_twins_32 rfl (lv_at hl 1 rfl) ?_
          refine nv_iald hx hb hK hP 5 4 rfl rfl (by omega) dX1_twins_33 ?_
          refine nv_icmp_ne (tgt := 45) hx hb dX1_twins_34 (by decide) (fun c2 => ?_) (fun c2 => ?_) (by have := hs.1 i (by omega); omega) (by have := hs.1 j hj; omega)
          · refine lv_iload_n hx hb dX1_twins_45 rfl (lv_at hl 2 rfl) ?_
            refine lv_istore_n (lv' := [(2, .int (nI (n))), (0, .ref (a 0)), (1, .int (nI (j))), (3, .int (nI (i)))]) hx hb dX1_twins_46 rfl hl (by decide) rfl (fun ls hl => ?_)
            refine lv_iinc (v := nI (i + 1)) (lv' := [(3, .int (nI (i + 1))), (2, .int (nI (n))), (0, .ref (a 0)), (1, .int (nI (j)))]) hx hb dX1_twins_47 hl (k := 3) rfl (by exact nI_1 _) (by decide) rfl (fun ls hl => ?_)
            refine lv_goto (tgt := 8) hx hb dX1_twins_50 (by decide) ?_
            exact ih _ _ _ ⟨n, (zcol_f e1 (decide_eq_false c2)), hP, hD, hS, lv_sub hl [2, 3, 1, 0] rfl⟩
          · refine lv_iload_n hx hb dX1_twins_37 rfl (lv_at hl 2 rfl) ?_
            refine lv_iconst (v := nI 1) hx hb dX1_twins_38 (by decide) ?_
            refine lv_iload_n hx hb dX1_twins_39 rfl (lv_at hl 3 rfl) ?_
            refine nv_shl hx hb dX1_twins_40 (by omega) ?_
            refine nv_ior hx hb dX1_twins_41 ?_
            refine lv_goto (tgt := 46) hx hb dX1_twins_42 (by decide) ?_
            refine lv_istore_n (lv' := [(2, .int (nI (n ||| (2 ^ i)))), (0, .ref (a 0)), (1, .int (nI (j))), (3, .int (nI (i)))]) hx hb dX1_twins_46 rfl hl (by decide) rfl (fun ls hl => ?_)
            refine lv_iinc (v := nI (i + 1)) (lv' := [(3, .int (nI (i + 1))), (2, .int (nI (n ||| (2 ^ i)))), (0, .ref (a 0)), (1, .int (nI (j)))]) hx hb dX1_twins_47 hl (k := 3) rfl (by exact nI_1 _) (by decide) rfl (fun ls hl => ?_)
            refine lv_goto (tgt := 8) hx hb dX1_twins_50 (by decide) ?_
            exact ih _ _ _ ⟨(n ||| 2 ^ i), (zcol_t e1 (decide_eq_true c2)), hP, hD, hS, lv_sub hl [2, 3, 1, 0] rfl⟩
    · intro H locs ls hI
      obtain ⟨n, e1, hP, hD, hS, hl⟩ := hI
      refine lv_iload_n hx hb dX1_twins_8 rfl (lv_at hl 3 rfl) ?_
      refine lv_bipush (v := nI 8) hx hb dX1_twins_9 (by decide) ?_
      refine nv_icmp_ge (tgt := 53) hx hb dX1_twins_11 (by decide) (fun c0 => ?_) (fun c0 => ?_)
      · refine lv_iload_n hx hb dX1_twins_53 rfl (lv_at hl 2 rfl) ?_
        exact rt_i (v := nI (n)) hx hb hr hlk P1 (Or.inr ⟨P1, j, hs, hj, rfl, congrArg nI e1⟩) hK hP hD hS dX1_twins_54
      · exfalso; omega
  · refine lv_iload_n hx hb dX1_twins_8 rfl (lv_at hl 0 rfl) ?_
    refine lv_bipush (v := nI 8) hx hb dX1_twins_9 (by decide) ?_
    refine nv_icmp_ge (tgt := 53) hx hb dX1_twins_11 (by decide) (fun c0 => ?_) (fun c0 => ?_)
    · exfalso; omega
    · refine lv_aload_n hx hb dX1_twins_14 rfl (lv_at hl 2 rfl) ?_
      refine lv_iload_n hx hb dX1_twins_15 rfl (lv_at hl 3 rfl) ?_
      refine cl_Vi (n := 1) (As := [.int (x)]) (rest := []) (ci := 1) (q0 := 0) hx hb hml hown hts (mX1_variable l D a d T K X Y P1 O (x)) (lw_V q182 q184 qs9 q16 q185) (by decide +kernel) rfl ⟨Nat.le_of_ble_eq_true rfl, Nat.le_of_ble_eq_true rfl⟩ ⟨Nat.le_refl _, Nat.le_refl _⟩ hK hP hD hS hA rfl rfl hl.1 rfl (Nat.le_of_ble_eq_true rfl) dX1_twins_16 (fun r _ H locs hp hP hD hS => ?_)
      have hp : r = bI (vr (x)) := hp
      subst hp
      refine nv_ifeq (tgt := 53) hx hb dX1_twins_19 (by decide) (fun c2 => ?_) (fun c2 => ?_)
      · refine lv_iload_n hx hb dX1_twins_53 rfl (lv_at hl 1 rfl) ?_
        exact rt_i (v := nI (0)) hx hb hr hlk P1 (Or.inl ⟨c1, rfl⟩) hK hP hD hS dX1_twins_54
      · rw [c1] at c2; cases c2
set_option maxHeartbeats 4000000 in
set_option maxRecDepth 100000 in
/-- alias(x, y) -/
theorem mX1_alias (l : Launch) (D : va_G) (a : Nat → Nat) (d : Nat → ClassId) (T : Nat → Bool) (K X Y P O : Nat → Nat) (hW : zWF K X Y) (x y : Int32) : Ki l yX1_alias cX1_alias 3 (some .boolean) 2 51 D (mT d) (mW a d T K X Y P O) [.ref (a 0), .int x, .int y] (fun r (_ : Nat → Nat) => rAl T K X Y x y r) (fun u => mW a d T K X Y u O) := by
  refine mk_i (by decide) (Nat.le_of_ble_eq_true rfl) ?_
  intro p e s m below meth c A hx hb hml hr hlk hown hts hA hK hP hD hS ls hl
  have hown : s.vm.findClass RX1 = some m.cls := hown
  have hl : lv_has ls 3 [(0, .ref (a 0)), (1, .int (x)), (2, .int (y))] := hl
  refine lv_aload_n hx hb dX1_alias_0 rfl (lv_at hl 0 rfl) ?_
  refine cl_Vv (n := 0) (As := []) (rest := []) (ci := 1) (q0 := 0) hx hb hml hown hts (mX1_work l D a d T K X Y P O hW) (lw_V q202 q204 qs11 q16 q205) (by decide +kernel) rfl ⟨Nat.le_of_ble_eq_true rfl, Nat.le_of_ble_eq_true rfl⟩ ⟨Nat.le_refl _, Nat.le_refl _⟩ hK hP hD hS hA rfl rfl hl.1 rfl (Nat.le_of_ble_eq_true rfl) dX1_alias_1 (fun P1 H locs hs hP hD hS => ?_)
  have hP : va_P D vwCl (mW a d T K X Y P1 O) H := hP
  have hD : va_D A (mW a d T K X Y P1 O) := hD
  have hs : zSol T K X Y P1 := hs
  refine lv_aload_n hx hb dX1_alias_4 rfl (lv_at hl 0 rfl) ?_
  refine lv_iload_n hx hb dX1_alias_5 rfl (lv_at hl 1 rfl) ?_
  refine cl_Vi (n := 1) (As := [.int (x)]) (rest := []) (ci := 1) (q0 := 0) hx hb hml hown hts (mX1_variable l D a d T K X Y P1 O (x)) (lw_V q182 q184 qs9 q16 q185) (by decide +kernel) rfl ⟨Nat.le_of_ble_eq_true rfl, Nat.le_of_ble_eq_true rfl⟩ ⟨Nat.le_refl _, Nat.le_refl _⟩ hK hP hD hS hA rfl rfl hl.1 rfl (Nat.le_of_ble_eq_true rfl) dX1_alias_6 (fun r _ H locs hp hP hD hS => ?_)
  have hp : r = bI (vr (x)) := hp
  subst hp
  refine nv_ifeq (tgt := 45) hx hb dX1_alias_9 (by decide) (fun c1 => ?_) (fun c1 => ?_)
  · refine lv_iconst (v := bI false) hx hb dX1_alias_45 (by decide) ?_
    exact rt_z (v := false) hx hb hr hlk P1 (Or.inl ⟨Or.inl c1, rfl⟩) hK hP hD hS dX1_alias_46
  · refine lv_aload_n hx hb dX1_alias_12 rfl (lv_at hl 0 rfl) ?_
    refine lv_iload_n hx hb dX1_alias_13 rfl (lv_at hl 2 rfl) ?_
    refine cl_Vi (n := 1) (As := [.int (y)]) (rest := []) (ci := 1) (q0 := 0) hx hb hml hown hts (mX1_variable l D a d T K X Y P1 O (y)) (lw_V q182 q184 qs9 q16 q185) (by decide +kernel) rfl ⟨Nat.le_of_ble_eq_true rfl, Nat.le_of_ble_eq_true rfl⟩ ⟨Nat.le_refl _, Nat.le_refl _⟩ hK hP hD hS hA rfl rfl hl.1 rfl (Nat.le_of_ble_eq_true rfl) dX1_alias_14 (fun r _ H locs hp hP hD hS => ?_)
    have hp : r = bI (vr (y)) := hp
    subst hp
    refine nv_ifeq (tgt := 45) hx hb dX1_alias_17 (by decide) (fun c2 => ?_) (fun c2 => ?_)
    · refine lv_iconst (v := bI false) hx hb dX1_alias_45 (by decide) ?_
      exact rt_z (v := false) hx hb hr hlk P1 (Or.inl ⟨Or.inr (Or.inl c2), rfl⟩) hK hP hD hS dX1_alias_46
    · obtain ⟨i, hi, rfl⟩ := vr_of c1
      obtain ⟨j, hj, rfl⟩ := vr_of c2
      refine lv_iload_n hx hb dX1_alias_20 rfl (lv_at hl 1 rfl) ?_
      refine lv_iload_n hx hb dX1_alias_21 rfl (lv_at hl 2 rfl) ?_
      refine nv_icmp_eq (tgt := 45) hx hb dX1_alias_22 (by decide) (fun c3 => ?_) (fun c3 => ?_)
      · subst c3
        refine lv_iconst (v := bI false) hx hb dX1_alias_45 (by decide) ?_
        exact rt_z (v := false) hx hb hr hlk P1 (Or.inl ⟨Or.inr (Or.inr rfl), rfl⟩) hK hP hD hS dX1_alias_46
      · refine lv_aload_n hx hb dX1_alias_25 rfl (lv_at hl 0 rfl) ?_
        refine va_get (D := D) (ci := 1) (v := .ref (a 5)) (C := RX1) (T := TX1) (N := 6) hx hb hts in_X1 hown hK hP 0 rfl rfl 4 (by decide) (hts _ q157) (fun _ h9 => h9) rfl dX1_alias_26 ?_
        refine lv_iload_n hx hb dX1_alias_29 rfl (lv_at hl 1 rfl) ?_
        refine nv_iald hx hb hK hP 5 4 rfl rfl (by omega) dX1_alias_30 ?_
        refine lv_aload_n hx hb dX1_alias_31 rfl (lv_at hl 0 rfl) ?_
        refine va_get (D := D) (ci := 1) (v := .ref (a 5)) (C := RX1) (T := TX1) (N := 6) hx hb hts in_X1 hown hK hP 0 rfl rfl 4 (by decide) (hts _ q157) (fun _ h9 => h9) rfl dX1_alias_32 ?_
        refine lv_iload_n hx hb dX1_alias_35 rfl (lv_at hl 2 rfl) ?_
        refine nv_iald hx hb hK hP 5 4 rfl rfl (by omega) dX1_alias_36 ?_
        refine nv_iand hx hb dX1_alias_37 ?_
        refine nv_ifeqn (tgt := 45) hx hb dX1_alias_38 (by decide) (fun c4 => ?_) (fun c4 => ?_) (by have := z_and (b := P1 j) (hs.1 i hi); omega)
        · refine lv_iconst (v := bI false) hx hb dX1_alias_45 (by decide) ?_
          exact rt_z (v := false) hx hb hr hlk P1 (Or.inr ⟨P1, i, j, hs, hi, hj, rfl, rfl, c3, congrArg bI (decide_eq_false (not_not_intro c4)).symm⟩) hK hP hD hS dX1_alias_46
        · refine lv_iconst (v := bI true) hx hb dX1_alias_41 (by decide) ?_
          refine lv_goto (tgt := 46) hx hb dX1_alias_42 (by decide) ?_
          exact rt_z (v := true) hx hb hr hlk P1 (Or.inr ⟨P1, i, j, hs, hi, hj, rfl, rfl, c3, congrArg bI (decide_eq_true c4).symm⟩) hK hP hD hS dX1_alias_46
set_option maxHeartbeats 4000000 in
set_option maxRecDepth 100000 in
/-- reached(j) -/
theorem mX1_reached (l : Launch) (D : va_G) (a : Nat → Nat) (d : Nat → ClassId) (T : Nat → Bool) (K X Y P O : Nat → Nat) (j : Nat) (hj : j < 8) (hB : zB8 P) : Ki l yX1_reached cX1_reached 5 (some .int) 0 0 D (mT d) (mW a d T K X Y P O) [.ref (a 0), .int (nI j)] (fun r (_ : Unit) => r = nI (zrch P (P j) 64)) (fun _ => mW a d T K X Y P O) := by
  refine mk_i (by decide) (Nat.le_of_ble_eq_true rfl) ?_
  intro p e s m below meth c A hx hb hml hr hlk hown hts hA hK hP hD hS ls hl
  have hown : s.vm.findClass RX1 = some m.cls := hown
  have hl : lv_has ls 5 [(0, .ref (a 0)), (1, .int (nI (j)))] := hl
  refine lv_aload_n hx hb dX1_reached_0 rfl (lv_at hl 0 rfl) ?_
  refine va_get (D := D) (ci := 1) (v := .ref (a 5)) (C := RX1) (T := TX1) (N := 6) hx hb hts in_X1 hown hK hP 0 rfl rfl 4 (by decide) (hts _ q157) (fun _ h9 => h9) rfl dX1_reached_1 ?_
  refine lv_iload_n hx hb dX1_reached_4 rfl (lv_at hl 1 rfl) ?_
  refine nv_iald hx hb hK hP 5 4 rfl rfl (by omega) dX1_reached_5 ?_
  refine lv_istore_n (lv' := [(2, .int (nI (P j))), (0, .ref (a 0)), (1, .int (nI (j)))]) hx hb dX1_reached_6 rfl hl (by decide) rfl (fun ls hl => ?_)
  refine lv_iconst (v := nI 0) hx hb dX1_reached_7 (by decide) ?_
  refine lv_istore_n (lv' := [(3, .int (nI (0))), (2, .int (nI (P j))), (0, .ref (a 0)), (1, .int (nI (j)))]) hx hb dX1_reached_8 rfl hl (by decide) rfl (fun ls hl => ?_)
  refine wl_up (pc := 9) 8 (fun q H locs ls => ∃ (n : Nat), (n = zrch P (P j) (8 * q)) ∧ va_P D vwCl (mW a d T K X Y P O) H ∧ va_D A (mW a d T K X Y P O) ∧ va_S A s.heap H locs ∧ lv_has ls 5 [(0, .ref (a 0)), (1, .int (nI (j))), (2, .int (nI (n))), (3, .int (nI (q)))]) ?_ ?_ 0 (by omega) _ _ _ ⟨(P j), rfl, hP, hD, hS, lv_sub hl [2, 3, 1, 0] rfl⟩
  · intro q hk H locs ls hI ih
    obtain ⟨n, e1, hP, hD, hS, hl⟩ := hI
    refine lv_iload_n hx hb dX1_reached_9 rfl (lv_at hl 3 rfl) ?_
    refine lv_bipush (v := nI 8) hx hb dX1_reached_10 (by decide) ?_
    refine nv_icmp_ge (tgt := 61) hx hb dX1_reached_12 (by decide) (fun c0 => ?_) (fun c0 => ?_)
    · exfalso; omega
    · refine lv_iconst (v := nI 0) hx hb dX1_reached_15 (by decide) ?_
      refine lv_istore (lv' := [(4, .int (nI (0))), (0, .ref (a 0)), (1, .int (nI (j))), (2, .int (nI (n))), (3, .int (nI (q)))]) hx hb dX1_reached_16 hl (by decide) rfl (fun ls hl => ?_)
      refine wl_up (pc := 18) 8 (fun y H locs ls => ∃ (n2 : Nat), (n2 = zrch P (P j) (8 * q + y)) ∧ va_P D vwCl (mW a d T K X Y P O) H ∧ va_D A (mW a d T K X Y P O) ∧ va_S A s.heap H locs ∧ lv_has ls 5 [(0, .ref (a 0)), (1, .int (nI (j))), (2, .int (nI (n2))), (3, .int (nI (q))), (4, .int (nI (y)))]) ?_ ?_ 0 (by omega) _ _ _ ⟨n, e1, hP, hD, hS, lv_sub hl [1, 2, 3, 4, 0] rfl⟩
      · intro y hk H locs ls hI ih
        obtain ⟨n2, e2, hP, hD, hS, hl⟩ := hI
        refine lv_iload hx hb dX1_reached_18 (lv_at hl 4 rfl) ?_
        refine lv_bipush (v := nI 8) hx hb dX1_reached_20 (by decide) ?_
        refine nv_icmp_ge (tgt := 55) hx hb dX1_reached_22 (by decide) (fun c0 => ?_) (fun c0 => ?_)
        · exfalso; omega
        · refine lv_iload_n hx hb dX1_reached_25 rfl (lv_at hl 2 rfl) ?_
          refine lv_iload hx hb dX1_reached_26 (lv_at hl 4 rfl) ?_
          refine nv_bit hx hb dX1_reached_28 dX1_reached_29 dX1_reached_30 (by rw [e2]; have := zrch_lt hB (hB j hj) (8 * q + y); omega) (by omega) ?_
          refine lv_iconst (v := nI 1) hx hb dX1_reached_31 (by decide) ?_
          refine nv_icmp_ne1 (tgt := 47) hx hb dX1_reached_32 (by decide) (fun c2 => ?_) (fun c2 => ?_)
          · refine lv_iload_n hx hb dX1_reached_47 rfl (lv_at hl 2 rfl) ?_
            refine lv_istore_n (lv' := [(2, .int (nI (n2))), (0, .ref (a 0)), (1, .int (nI (j))), (3, .int (nI (q))), (4, .int (nI (y)))]) hx hb dX1_reached_48 rfl hl (by decide) rfl (fun ls hl => ?_)
            refine lv_iinc (v := nI (y + 1)) (lv' := [(4, .int (nI (y + 1))), (2, .int (nI (n2))), (0, .ref (a 0)), (1, .int (nI (j))), (3, .int (nI (q)))]) hx hb dX1_reached_49 hl (k := 4) rfl (by exact nI_1 _) (by decide) rfl (fun ls hl => ?_)
            refine lv_goto (tgt := 18) hx hb dX1_reached_52 (by decide) ?_
            exact ih _ _ _ ⟨n2, (zrch_f (c := 8 * q + y) e2 (by omega) c2), hP, hD, hS, lv_sub hl [2, 3, 1, 4, 0] rfl⟩
          · refine lv_iload_n hx hb dX1_reached_35 rfl (lv_at hl 2 rfl) ?_
            refine lv_aload_n hx hb dX1_reached_36 rfl (lv_at hl 0 rfl) ?_
            refine va_get (D := D) (ci := 1) (v := .ref (a 5)) (C := RX1) (T := TX1) (N := 6) hx hb hts in_X1 hown hK hP 0 rfl rfl 4 (by decide) (hts _ q157) (fun _ h9 => h9) rfl dX1_reached_37 ?_
            refine lv_iload hx hb dX1_reached_40 (lv_at hl 4 rfl) ?_
            refine nv_iald hx hb hK hP 5 4 rfl rfl (by omega) dX1_reached_42 ?_
            refine nv_ior hx hb dX1_reached_43 ?_
            refine lv_goto (tgt := 48) hx hb dX1_reached_44 (by decide) ?_
            refine lv_istore_n (lv' := [(2, .int (nI (n2 ||| (P y)))), (0, .ref (a 0)), (1, .int (nI (j))), (3, .int (nI (q))), (4, .int (nI (y)))]) hx hb dX1_reached_48 rfl hl (by decide) rfl (fun ls hl => ?_)
            refine lv_iinc (v := nI (y + 1)) (lv' := [(4, .int (nI (y + 1))), (2, .int (nI (n2 ||| (P y)))), (0, .ref (a 0)), (1, .int (nI (j))), (3, .int (nI (q)))]) hx hb dX1_reached_49 hl (k := 4) rfl (by exact nI_1 _) (by decide) rfl (fun ls hl => ?_)
            refine lv_goto (tgt := 18) hx hb dX1_reached_52 (by decide) ?_
            exact ih _ _ _ ⟨(n2 ||| P y), (zrch_t (c := 8 * q + y) e2 (by omega) c2), hP, hD, hS, lv_sub hl [2, 3, 1, 4, 0] rfl⟩
      · intro H locs ls hI
        obtain ⟨n2, e2, hP, hD, hS, hl⟩ := hI
        refine lv_iload hx hb dX1_reached_18 (lv_at hl 4 rfl) ?_
        refine lv_bipush (v := nI 8) hx hb dX1_reached_20 (by decide) ?_
        refine nv_icmp_ge (tgt := 55) hx hb dX1_reached_22 (by decide) (fun c0 => ?_) (fun c0 => ?_)
        · refine lv_iinc (v := nI (q + 1)) (lv' := [(3, .int (nI (q + 1))), (0, .ref (a 0)), (1, .int (nI (j))), (2, .int (nI (n2))), (4, .int (nI (8)))]) hx hb dX1_reached_55 hl (k := 3) rfl (by exact nI_1 _) (by decide) rfl (fun ls hl => ?_)
          refine lv_goto (tgt := 9) hx hb dX1_reached_58 (by decide) ?_
          exact ih _ _ _ ⟨n2, (by rw [e2, show 8 * (q + 1) = 8 * q + 8 by omega]), hP, hD, hS, lv_sub hl [1, 2, 3, 0] rfl⟩
        · exfalso; omega
  · intro H locs ls hI
    obtain ⟨n, e1, hP, hD, hS, hl⟩ := hI
    refine lv_iload_n hx hb dX1_reached_9 rfl (lv_at hl 3 rfl) ?_
    refine lv_bipush (v := nI 8) hx hb dX1_reached_10 (by decide) ?_
    refine nv_icmp_ge (tgt := 61) hx hb dX1_reached_12 (by decide) (fun c0 => ?_) (fun c0 => ?_)
    · refine lv_iload_n hx hb dX1_reached_61 rfl (lv_at hl 2 rfl) ?_
      exact rt_i (v := nI (n)) hx hb hr hlk () (congrArg nI e1) hK hP hD hS dX1_reached_62
    · exfalso; omega
set_option maxHeartbeats 4000000 in
set_option maxRecDepth 100000 in
/-- reach(x) -/
theorem mX1_reach (l : Launch) (D : va_G) (a : Nat → Nat) (d : Nat → ClassId) (T : Nat → Bool) (K X Y P O : Nat → Nat) (hW : zWF K X Y) (x : Int32) : Ki l yX1_reach cX1_reach 2 (some .int) 2 51 D (mT d) (mW a d T K X Y P O) [.ref (a 0), .int x] (fun r (_ : Nat → Nat) => rRc T K X Y x r) (fun u => mW a d T K X Y u O) := by
  refine mk_i (by decide) (Nat.le_of_ble_eq_true rfl) ?_
  intro p e s m below meth c A hx hb hml hr hlk hown hts hA hK hP hD hS ls hl
  have hown : s.vm.findClass RX1 = some m.cls := hown
  have hl : lv_has ls 2 [(0, .ref (a 0)), (1, .int (x))] := hl
  refine lv_aload_n hx hb dX1_reach_0 rfl (lv_at hl 0 rfl) ?_
  refine cl_Vv (n := 0) (As := []) (rest := []) (ci := 1) (q0 := 0) hx hb hml hown hts (mX1_work l D a d T K X Y P O hW) (lw_V q202 q204 qs11 q16 q205) (by decide +kernel) rfl ⟨Nat.le_of_ble_eq_true rfl, Nat.le_of_ble_eq_true rfl⟩ ⟨Nat.le_refl _, Nat.le_refl _⟩ hK hP hD hS hA rfl rfl hl.1 rfl (Nat.le_of_ble_eq_true rfl) dX1_reach_1 (fun P1 H locs hs hP hD hS => ?_)
  have hP : va_P D vwCl (mW a d T K X Y P1 O) H := hP
  have hD : va_D A (mW a d T K X Y P1 O) := hD
  have hs : zSol T K X Y P1 := hs
  refine lv_aload_n hx hb dX1_reach_4 rfl (lv_at hl 0 rfl) ?_
  refine lv_iload_n hx hb dX1_reach_5 rfl (lv_at hl 1 rfl) ?_
  refine cl_Vi (n := 1) (As := [.int (x)]) (rest := []) (ci := 1) (q0 := 0) hx hb hml hown hts (mX1_variable l D a d T K X Y P1 O (x)) (lw_V q182 q184 qs9 q16 q185) (by decide +kernel) rfl ⟨Nat.le_of_ble_eq_true rfl, Nat.le_of_ble_eq_true rfl⟩ ⟨Nat.le_refl _, Nat.le_refl _⟩ hK hP hD hS hA rfl rfl hl.1 rfl (Nat.le_of_ble_eq_true rfl) dX1_reach_6 (fun r _ H locs hp hP hD hS => ?_)
  have hp : r = bI (vr (x)) := hp
  subst hp
  refine nv_ifeq (tgt := 20) hx hb dX1_reach_9 (by decide) (fun c1 => ?_) (fun c1 => ?_)
  · refine lv_iconst (v := nI 0) hx hb dX1_reach_20 (by decide) ?_
    exact rt_i (v := nI (0)) hx hb hr hlk P1 (Or.inl ⟨c1, rfl⟩) hK hP hD hS dX1_reach_21
  · obtain ⟨j, hj, rfl⟩ := vr_of c1
    refine lv_aload_n hx hb dX1_reach_12 rfl (lv_at hl 0 rfl) ?_
    refine lv_iload_n hx hb dX1_reach_13 rfl (lv_at hl 1 rfl) ?_
    refine cl_Vi (n := 1) (As := [.int (nI (j))]) (rest := []) (ci := 1) (q0 := 0) hx hb hml hown hts (mX1_reached l D a d T K X Y P1 O j hj hs.1) (lw_V q222 q224 qs13 q16 q225) (by decide +kernel) rfl ⟨Nat.le_of_ble_eq_true rfl, Nat.le_of_ble_eq_true rfl⟩ ⟨Nat.le_refl _, Nat.le_refl _⟩ hK hP hD hS hA rfl rfl hl.1 rfl (Nat.le_of_ble_eq_true rfl) dX1_reach_14 (fun r _ H locs hp hP hD hS => ?_)
    have hp : r = nI (zrch P1 (P1 j) 64) := hp
    subst hp
    refine lv_goto (tgt := 21) hx hb dX1_reach_17 (by decide) ?_
    exact rt_i (v := nI (zrch P1 (P1 j) 64)) hx hb hr hlk P1 (Or.inr ⟨P1, j, hs, hj, rfl, rfl⟩) hK hP hD hS dX1_reach_21
set_option maxHeartbeats 4000000 in
set_option maxRecDepth 100000 in
/-- flows(x, y) -/
theorem mX1_flows (l : Launch) (D : va_G) (a : Nat → Nat) (d : Nat → ClassId) (T : Nat → Bool) (K X Y P O : Nat → Nat) (hW : zWF K X Y) (x y : Int32) : Ki l yX1_flows cX1_flows 7 (some .boolean) 1 21 D (mT d) (mW a d T K X Y P O) [.ref (a 0), .int x, .int y] (fun r (_ : Unit) => rFl T K X Y x y r) (fun _ => mW a d T K X Y P O) := by
  refine mk_i (by decide) (Nat.le_of_ble_eq_true rfl) ?_
  intro p e s m below meth c A hx hb hml hr hlk hown hts hA hK hP hD hS ls hl
  have hown : s.vm.findClass RX1 = some m.cls := hown
  have hl : lv_has ls 7 [(0, .ref (a 0)), (1, .int (x)), (2, .int (y))] := hl
  obtain ⟨z, hz8, hz⟩ := fl_z x
  refine lv_aload_n hx hb dX1_flows_0 rfl (lv_at hl 0 rfl) ?_
  refine lv_iload_n hx hb dX1_flows_1 rfl (lv_at hl 1 rfl) ?_
  refine cl_Vi (n := 1) (As := [.int (x)]) (rest := []) (ci := 1) (q0 := 0) hx hb hml hown hts (mX1_variable l D a d T K X Y P O (x)) (lw_V q182 q184 qs9 q16 q185) (by decide +kernel) rfl ⟨Nat.le_of_ble_eq_true rfl, Nat.le_of_ble_eq_true rfl⟩ ⟨Nat.le_refl _, Nat.le_refl _⟩ hK hP hD hS hA rfl rfl hl.1 rfl (Nat.le_of_ble_eq_true rfl) dX1_flows_2 (fun r _ H locs hp hP hD hS => ?_)
  have hp : r = bI (vr (x)) := hp
  subst hp
  refine w_mg (pc2 := 15) (ls := ls) [.int (nI (z))] ?_ (fun hm => ?_)
  · refine lv_istore_n (lv' := [(3, .int (nI (z))), (0, .ref (a 0)), (1, .int (x)), (2, .int (y))]) hx hb dX1_flows_15 rfl hl (by decide) rfl (fun ls hl => ?_)
    refine lv_iconst (v := nI 0) hx hb dX1_flows_16 (by decide) ?_
    refine lv_istore (lv' := [(4, .int (nI (0))), (3, .int (nI (z))), (0, .ref (a 0)), (1, .int (x)), (2, .int (y))]) hx hb dX1_flows_17 hl (by decide) rfl (fun ls hl => ?_)
    have hzl : ∀ c, zfl (zon T K) X Y z c < 256 := zfl_lt (fun k hk => (hW k (by omega)).2.2) hz8
    refine wl_up (pc := 19) 8 (fun q H locs ls => ∃ (n : Nat), (n = zfl (zon T K) X Y z (12 * q)) ∧ va_P D vwCl (mW a d T K X Y P O) H ∧ va_D A (mW a d T K X Y P O) ∧ va_S A s.heap H locs ∧ lv_has ls 7 [(0, .ref (a 0)), (1, .int (x)), (2, .int (y)), (3, .int (nI (n))), (4, .int (nI (q)))]) ?_ ?_ 0 (by omega) _ _ _ ⟨z, rfl, hP, hD, hS, lv_sub hl [2, 3, 4, 1, 0] rfl⟩
    · intro q hk H locs ls hI ih
      obtain ⟨n, e1, hP, hD, hS, hl⟩ := hI
      refine lv_iload hx hb dX1_flows_19 (lv_at hl 4 rfl) ?_
      refine lv_bipush (v := nI 8) hx hb dX1_flows_21 (by decide) ?_
      refine nv_icmp_ge (tgt := 112) hx hb dX1_flows_23 (by decide) (fun c0 => ?_) (fun c0 => ?_)
      · exfalso; omega
      · refine lv_iconst (v := nI 0) hx hb dX1_flows_26 (by decide) ?_
        refine lv_istore (lv' := [(5, .int (nI (0))), (0, .ref (a 0)), (1, .int (x)), (2, .int (y)), (3, .int (nI (n))), (4, .int (nI (q)))]) hx hb dX1_flows_27 hl (by decide) rfl (fun ls hl => ?_)
        refine wl_up (pc := 29) 12 (fun k H locs ls => ∃ (n2 : Nat), (n2 = zfl (zon T K) X Y z (12 * q + k)) ∧ va_P D vwCl (mW a d T K X Y P O) H ∧ va_D A (mW a d T K X Y P O) ∧ va_S A s.heap H locs ∧ lv_has ls 7 [(0, .ref (a 0)), (1, .int (x)), (2, .int (y)), (3, .int (nI (n2))), (4, .int (nI (q))), (5, .int (nI (k)))]) ?_ ?_ 0 (by omega) _ _ _ ⟨n, e1, hP, hD, hS, lv_sub hl [1, 2, 3, 4, 5, 0] rfl⟩
        · intro k hk H locs ls hI ih
          obtain ⟨n2, e2, hP, hD, hS, hl⟩ := hI
          refine lv_iload hx hb dX1_flows_29 (lv_at hl 5 rfl) ?_
          refine lv_bipush (v := nI 12) hx hb dX1_flows_31 (by decide) ?_
          refine nv_icmp_ge (tgt := 106) hx hb dX1_flows_33 (by decide) (fun c0 => ?_) (fun c0 => ?_)
          · exfalso; omega
          · obtain ⟨w1, w2, w3⟩ := hW k (by omega)
            have hn2 : n2 < 256 := by rw [e2]; exact hzl _
            refine lv_aload_n hx hb dX1_flows_36 rfl (lv_at hl 0 rfl) ?_
            refine va_get (D := D) (ci := 1) (v := .ref (a 1)) (C := RX1) (T := TX1) (N := 6) hx hb hts in_X1 hown hK hP 0 rfl rfl 0 (by decide) (hts _ q153) (fun _ h9 => h9) rfl dX1_flows_37 ?_
            refine lv_iload hx hb dX1_flows_40 (lv_at hl 5 rfl) ?_
            refine nv_zald hx hb hK hP 1 0 rfl rfl (by omega) dX1_flows_42 ?_
            refine nv_ifeq (tgt := 76) hx hb dX1_flows_43 (by decide) (fun c3 => ?_) (fun c3 => ?_)
            · refine lv_iconst (v := bI false) hx hb dX1_flows_76 (by decide) ?_
              refine lv_istore (lv' := [(6, .int (bI (false))), (0, .ref (a 0)), (1, .int (x)), (2, .int (y)), (3, .int (nI (n2))), (4, .int (nI (q))), (5, .int (nI (k)))]) hx hb dX1_flows_77 hl (by decide) rfl (fun ls hl => ?_)
              refine lv_iload hx hb dX1_flows_79 (lv_at hl 0 rfl) ?_
              refine nv_ifeq (tgt := 98) hx hb dX1_flows_81 (by decide) (fun c9 => ?_) (fun c9 => ?_)
              · refine lv_iload_n hx hb dX1_flows_98 rfl (lv_at hl 4 rfl) ?_
                refine lv_istore_n (lv' := [(3, .int (nI (n2))), (6, .int (bI (false))), (0, .ref (a 0)), (1, .int (x)), (2, .int (y)), (4, .int (nI (q))), (5, .int (nI (k)))]) hx hb dX1_flows_99 rfl hl (by decide) rfl (fun ls hl => ?_)
                refine lv_iinc (v := nI (k + 1)) (lv' := [(5, .int (nI (k + 1))), (3, .int (nI (n2))), (6, .int (bI (false))), (0, .ref (a 0)), (1, .int (x)), (2, .int (y)), (4, .int (nI (q)))]) hx hb dX1_flows_100 hl (k := 6) rfl (by exact nI_1 _) (by decide) rfl (fun ls hl => ?_)
                refine lv_goto (tgt := 29) hx hb dX1_flows_103 (by decide) ?_
                exact ih _ _ _ ⟨n2, (zfl_f1 (c := 12 * q + k) e2 (by omega) (zon_f c3)), hP, hD, hS, lv_sub hl [3, 4, 5, 1, 6, 0] rfl⟩
              · cases c9
            · refine lv_aload_n hx hb dX1_flows_46 rfl (lv_at hl 0 rfl) ?_
              refine va_get (D := D) (ci := 1) (v := .ref (a 2)) (C := RX1) (T := TX1) (N := 6) hx hb hts in_X1 hown hK hP 0 rfl rfl 1 (by decide) (hts _ q154) (fun _ h9 => h9) rfl dX1_flows_47 ?_
              refine lv_iload hx hb dX1_flows_50 (lv_at hl 5 rfl) ?_
              refine nv_iald hx hb hK hP 2 1 rfl rfl (by omega) dX1_flows_52 ?_
              refine lv_iconst (v := nI 1) hx hb dX1_flows_53 (by decide) ?_
              refine nv_icmp_ne (tgt := 76) hx hb dX1_flows_54 (by decide) (fun c4 => ?_) (fun c4 => ?_)
              · refine lv_iconst (v := bI false) hx hb dX1_flows_76 (by decide) ?_
                refine lv_istore (lv' := [(6, .int (bI (false))), (0, .ref (a 0)), (1, .int (x)), (2, .int (y)), (3, .int (nI (n2))), (4, .int (nI (q))), (5, .int (nI (k)))]) hx hb dX1_flows_77 hl (by decide) rfl (fun ls hl => ?_)
                refine lv_iload hx hb dX1_flows_79 (lv_at hl 0 rfl) ?_
                refine nv_ifeq (tgt := 98) hx hb dX1_flows_81 (by decide) (fun c9 => ?_) (fun c9 => ?_)
                · refine lv_iload_n hx hb dX1_flows_98 rfl (lv_at hl 4 rfl) ?_
                  refine lv_istore_n (lv' := [(3, .int (nI (n2))), (6, .int (bI (false))), (0, .ref (a 0)), (1, .int (x)), (2, .int (y)), (4, .int (nI (q))), (5, .int (nI (k)))]) hx hb dX1_flows_99 rfl hl (by decide) rfl (fun ls hl => ?_)
                  refine lv_iinc (v := nI (k + 1)) (lv' := [(5, .int (nI (k + 1))), (3, .int (nI (n2))), (6, .int (bI (false))), (0, .ref (a 0)), (1, .int (x)), (2, .int (y)), (4, .int (nI (q)))]) hx hb dX1_flows_100 hl (k := 6) rfl (by exact nI_1 _) (by decide) rfl (fun ls hl => ?_)
                  refine lv_goto (tgt := 29) hx hb dX1_flows_103 (by decide) ?_
                  exact ih _ _ _ ⟨n2, (zfl_f1 (c := 12 * q + k) e2 (by omega) (zon_f2 c4)), hP, hD, hS, lv_sub hl [3, 4, 5, 1, 6, 0] rfl⟩
                · cases c9
              · refine lv_iload_n hx hb dX1_flows_57 rfl (lv_at hl 3 rfl) ?_
                refine lv_aload_n hx hb dX1_flows_58 rfl (lv_at hl 0 rfl) ?_
                refine va_get (D := D) (ci := 1) (v := .ref (a 3)) (C := RX1) (T := TX1) (N := 6) hx hb hts in_X1 hown hK hP 0 rfl rfl 2 (by decide) (hts _ q155) (fun _ h9 => h9) rfl dX1_flows_59 ?_
                refine lv_iload hx hb dX1_flows_62 (lv_at hl 5 rfl) ?_
                refine nv_iald hx hb hK hP 3 2 rfl rfl (by omega) dX1_flows_64 ?_
                refine nv_bit hx hb dX1_flows_65 dX1_flows_66 dX1_flows_67 (by omega) (by omega) ?_
                refine lv_iconst (v := nI 1) hx hb dX1_flows_68 (by decide) ?_
                refine nv_icmp_ne1 (tgt := 76) hx hb dX1_flows_69 (by decide) (fun c5 => ?_) (fun c5 => ?_)
                · refine lv_iconst (v := bI false) hx hb dX1_flows_76 (by decide) ?_
                  refine lv_istore (lv' := [(6, .int (bI (false))), (0, .ref (a 0)), (1, .int (x)), (2, .int (y)), (3, .int (nI (n2))), (4, .int (nI (q))), (5, .int (nI (k)))]) hx hb dX1_flows_77 hl (by decide) rfl (fun ls hl => ?_)
                  refine lv_iload hx hb dX1_flows_79 (lv_at hl 0 rfl) ?_
                  refine nv_ifeq (tgt := 98) hx hb dX1_flows_81 (by decide) (fun c9 => ?_) (fun c9 => ?_)
                  · refine lv_iload_n hx hb dX1_flows_98 rfl (lv_at hl 4 rfl) ?_
                    refine lv_istore_n (lv' := [(3, .int (nI (n2))), (6, .int (bI (false))), (0, .ref (a 0)), (1, .int (x)), (2, .int (y)), (4, .int (nI (q))), (5, .int (nI (k)))]) hx hb dX1_flows_99 rfl hl (by decide) rfl (fun ls hl => ?_)
                    refine lv_iinc (v := nI (k + 1)) (lv' := [(5, .int (nI (k + 1))), (3, .int (nI (n2))), (6, .int (bI (false))), (0, .ref (a 0)), (1, .int (x)), (2, .int (y)), (4, .int (nI (q)))]) hx hb dX1_flows_100 hl (k := 6) rfl (by exact nI_1 _) (by decide) rfl (fun ls hl => ?_)
                    refine lv_goto (tgt := 29) hx hb dX1_flows_103 (by decide) ?_
                    exact ih _ _ _ ⟨n2, (zfl_f2 (c := 12 * q + k) e2 (by omega) c5), hP, hD, hS, lv_sub hl [3, 4, 5, 1, 6, 0] rfl⟩
                  · cases c9
                · refine lv_iconst (v := bI true) hx hb dX1_flows_72 (by decide) ?_
                  refine lv_goto (tgt := 77) hx hb dX1_flows_73 (by decide) ?_
                  refine lv_istore (lv' := [(6, .int (bI (true))), (0, .ref (a 0)), (1, .int (x)), (2, .int (y)), (3, .int (nI (n2))), (4, .int (nI (q))), (5, .int (nI (k)))]) hx hb dX1_flows_77 hl (by decide) rfl (fun ls hl => ?_)
                  refine lv_iload hx hb dX1_flows_79 (lv_at hl 0 rfl) ?_
                  refine nv_ifeq (tgt := 98) hx hb dX1_flows_81 (by decide) (fun c9 => ?_) (fun c9 => ?_)
                  · cases c9
                  · refine lv_iload_n hx hb dX1_flows_84 rfl (lv_at hl 4 rfl) ?_
                    refine lv_iconst (v := nI 1) hx hb dX1_flows_85 (by decide) ?_
                    refine lv_aload_n hx hb dX1_flows_86 rfl (lv_at hl 1 rfl) ?_
                    refine va_get (D := D) (ci := 1) (v := .ref (a 4)) (C := RX1) (T := TX1) (N := 6) hx hb hts in_X1 hown hK hP 0 rfl rfl 3 (by decide) (hts _ q156) (fun _ h9 => h9) rfl dX1_flows_87 ?_
                    refine lv_iload hx hb dX1_flows_90 (lv_at hl 6 rfl) ?_
                    refine nv_iald hx hb hK hP 4 3 rfl rfl (by omega) dX1_flows_92 ?_
                    refine nv_shl hx hb dX1_flows_93 (by omega) ?_
                    refine nv_ior hx hb dX1_flows_94 ?_
                    refine lv_goto (tgt := 99) hx hb dX1_flows_95 (by decide) ?_
                    refine lv_istore_n (lv' := [(3, .int (nI (n2 ||| (2 ^ (Y k))))), (6, .int (bI (true))), (0, .ref (a 0)), (1, .int (x)), (2, .int (y)), (4, .int (nI (q))), (5, .int (nI (k)))]) hx hb dX1_flows_99 rfl hl (by decide) rfl (fun ls hl => ?_)
                    refine lv_iinc (v := nI (k + 1)) (lv' := [(5, .int (nI (k + 1))), (3, .int (nI (n2 ||| (2 ^ (Y k))))), (6, .int (bI (true))), (0, .ref (a 0)), (1, .int (x)), (2, .int (y)), (4, .int (nI (q)))]) hx hb dX1_flows_100 hl (k := 6) rfl (by exact nI_1 _) (by decide) rfl (fun ls hl => ?_)
                    refine lv_goto (tgt := 29) hx hb dX1_flows_103 (by decide) ?_
                    exact ih _ _ _ ⟨(n2 ||| 2 ^ Y k), (zfl_t (c := 12 * q + k) e2 (by omega) (zon_t c3 c4) c5), hP, hD, hS, lv_sub hl [3, 4, 5, 1, 6, 0] rfl⟩
        · intro H locs ls hI
          obtain ⟨n2, e2, hP, hD, hS, hl⟩ := hI
          refine lv_iload hx hb dX1_flows_29 (lv_at hl 5 rfl) ?_
          refine lv_bipush (v := nI 12) hx hb dX1_flows_31 (by decide) ?_
          refine nv_icmp_ge (tgt := 106) hx hb dX1_flows_33 (by decide) (fun c0 => ?_) (fun c0 => ?_)
          · refine lv_iinc (v := nI (q + 1)) (lv' := [(4, .int (nI (q + 1))), (0, .ref (a 0)), (1, .int (x)), (2, .int (y)), (3, .int (nI (n2))), (5, .int (nI (12)))]) hx hb dX1_flows_106 hl (k := 4) rfl (by exact nI_1 _) (by decide) rfl (fun ls hl => ?_)
            refine lv_goto (tgt := 19) hx hb dX1_flows_109 (by decide) ?_
            exact ih _ _ _ ⟨n2, (by rw [e2, show 12 * (q + 1) = 12 * q + 12 by omega]), hP, hD, hS, lv_sub hl [1, 2, 3, 4, 0] rfl⟩
          · exfalso; omega
    · intro H locs ls hI
      obtain ⟨n, e1, hP, hD, hS, hl⟩ := hI
      refine lv_iload hx hb dX1_flows_19 (lv_at hl 4 rfl) ?_
      refine lv_bipush (v := nI 8) hx hb dX1_flows_21 (by decide) ?_
      refine nv_icmp_ge (tgt := 112) hx hb dX1_flows_23 (by decide) (fun c0 => ?_) (fun c0 => ?_)
      · refine lv_aload_n hx hb dX1_flows_112 rfl (lv_at hl 0 rfl) ?_
        refine lv_iload_n hx hb dX1_flows_113 rfl (lv_at hl 2 rfl) ?_
        refine cl_Vi (n := 1) (As := [.int (y)]) (rest := []) (ci := 1) (q0 := 0) hx hb hml hown hts (mX1_variable l D a d T K X Y P O (y)) (lw_V q182 q184 qs9 q16 q185) (by decide +kernel) rfl ⟨Nat.le_of_ble_eq_true rfl, Nat.le_of_ble_eq_true rfl⟩ ⟨Nat.le_refl _, Nat.le_refl _⟩ hK hP hD hS hA rfl rfl hl.1 rfl (Nat.le_of_ble_eq_true rfl) dX1_flows_114 (fun r _ H locs hp hP hD hS => ?_)
        have hp : r = bI (vr (y)) := hp
        subst hp
        refine nv_ifeq (tgt := 133) hx hb dX1_flows_117 (by decide) (fun c1 => ?_) (fun c1 => ?_)
        · refine lv_iconst (v := bI false) hx hb dX1_flows_133 (by decide) ?_
          exact rt_z (v := false) hx hb hr hlk () (Or.inl ⟨Or.inr c1, rfl⟩) hK hP hD hS dX1_flows_134
        · obtain ⟨j, hj, rfl⟩ := vr_of c1
          refine lv_iload_n hx hb dX1_flows_120 rfl (lv_at hl 3 rfl) ?_
          refine lv_iload_n hx hb dX1_flows_121 rfl (lv_at hl 2 rfl) ?_
          refine nv_bit hx hb dX1_flows_122 dX1_flows_123 dX1_flows_124 (by rw [e1]; have := hzl (12 * 8); omega) (by omega) ?_
          refine lv_iconst (v := nI 1) hx hb dX1_flows_125 (by decide) ?_
          refine nv_icmp_ne1 (tgt := 133) hx hb dX1_flows_126 (by decide) (fun c2 => ?_) (fun c2 => ?_)
          · refine lv_iconst (v := bI false) hx hb dX1_flows_133 (by decide) ?_
            exact rt_z (v := false) hx hb hr hlk () (by have h := fl_fin (T := T) hW hz hj e1; rw [c2] at h; exact h) hK hP hD hS dX1_flows_134
          · refine lv_iconst (v := bI true) hx hb dX1_flows_129 (by decide) ?_
            refine lv_goto (tgt := 134) hx hb dX1_flows_130 (by decide) ?_
            exact rt_z (v := true) hx hb hr hlk () (by have h := fl_fin (T := T) hW hz hj e1; rw [c2] at h; exact h) hK hP hD hS dX1_flows_134
      · exfalso; omega
  · refine nv_ifeq (tgt := 14) hx hb dX1_flows_5 (by decide) (fun c1 => ?_) (fun c1 => ?_)
    · refine lv_iconst (v := nI 0) hx hb dX1_flows_14 (by decide) ?_
      have q9 : z = 0 := by
        rcases hz with ⟨-, h⟩ | ⟨i, hi, h, -⟩
        · exact h
        · exact (vr_no c1 hi h).elim
      rw [q9] at hm
      exact hm
    · obtain ⟨i, hi, rfl, q9⟩ : ∃ i, i < 8 ∧ x = nI i ∧ z = 2 ^ i := by
        rcases hz with ⟨h, -⟩ | h
        · rw [c1] at h; cases h
        · exact h
      refine lv_iconst (v := nI 1) hx hb dX1_flows_8 (by decide) ?_
      refine lv_iload_n hx hb dX1_flows_9 rfl (lv_at hl 1 rfl) ?_
      refine nv_shl hx hb dX1_flows_10 (by omega) ?_
      refine lv_goto (tgt := 15) hx hb dX1_flows_11 (by decide) ?_
      rw [q9] at hm
      exact hm
set_option maxHeartbeats 4000000 in
set_option maxRecDepth 100000 in
/-- total() -/
theorem mX1_total (l : Launch) (D : va_G) (a : Nat → Nat) (d : Nat → ClassId) (T : Nat → Bool) (K X Y P O : Nat → Nat) (hW : zWF K X Y) : Ki l yX1_total cX1_total 3 (some .int) 2 51 D (mT d) (mW a d T K X Y P O) [.ref (a 0)] (fun r (u : Nat → Nat) => zSol T K X Y u ∧ r = nI (ztot u)) (fun u => mW a d T K X Y u O) := by
  refine mk_i (by decide) (Nat.le_of_ble_eq_true rfl) ?_
  intro p e s m below meth c A hx hb hml hr hlk hown hts hA hK hP hD hS ls hl
  have hown : s.vm.findClass RX1 = some m.cls := hown
  have hl : lv_has ls 3 [(0, .ref (a 0))] := hl
  refine lv_aload_n hx hb dX1_total_0 rfl (lv_at hl 0 rfl) ?_
  refine cl_Vv (n := 0) (As := []) (rest := []) (ci := 1) (q0 := 0) hx hb hml hown hts (mX1_work l D a d T K X Y P O hW) (lw_V q202 q204 qs11 q16 q205) (by decide +kernel) rfl ⟨Nat.le_of_ble_eq_true rfl, Nat.le_of_ble_eq_true rfl⟩ ⟨Nat.le_refl _, Nat.le_refl _⟩ hK hP hD hS hA rfl rfl hl.1 rfl (Nat.le_of_ble_eq_true rfl) dX1_total_1 (fun P1 H locs hs hP hD hS => ?_)
  have hP : va_P D vwCl (mW a d T K X Y P1 O) H := hP
  have hD : va_D A (mW a d T K X Y P1 O) := hD
  have hs : zSol T K X Y P1 := hs
  refine lv_iconst (v := nI 0) hx hb dX1_total_4 (by decide) ?_
  refine lv_istore_n (lv' := [(1, .int (nI (0))), (0, .ref (a 0))]) hx hb dX1_total_5 rfl hl (by decide) rfl (fun ls hl => ?_)
  refine lv_iconst (v := nI 0) hx hb dX1_total_6 (by decide) ?_
  refine lv_istore_n (lv' := [(2, .int (nI (0))), (1, .int (nI (0))), (0, .ref (a 0))]) hx hb dX1_total_7 rfl hl (by decide) rfl (fun ls hl => ?_)
  refine wl_up (pc := 8) 64 (fun i H locs ls => ∃ (n : Nat), (n = zcnt (zpair P1) i) ∧ va_P D vwCl (mW a d T K X Y P1 O) H ∧ va_D A (mW a d T K X Y P1 O) ∧ va_S A s.heap H locs ∧ lv_has ls 3 [(0, .ref (a 0)), (1, .int (nI (n))), (2, .int (nI (i)))]) ?_ ?_ 0 (by omega) _ _ _ ⟨0, rfl, hP, hD, hS, lv_sub hl [2, 1, 0] rfl⟩
  · intro i hk H locs ls hI ih
    obtain ⟨n, e1, hP, hD, hS, hl⟩ := hI
    refine lv_iload_n hx hb dX1_total_8 rfl (lv_at hl 2 rfl) ?_
    refine lv_bipush (v := nI 64) hx hb dX1_total_9 (by decide) ?_
    refine nv_icmp_ge (tgt := 39) hx hb dX1_total_11 (by decide) (fun c0 => ?_) (fun c0 => ?_)
    · exfalso; omega
    · refine lv_iload_n hx hb dX1_total_14 rfl (lv_at hl 1 rfl) ?_
      refine lv_aload_n hx hb dX1_total_15 rfl (lv_at hl 0 rfl) ?_
      refine va_get (D := D) (ci := 1) (v := .ref (a 5)) (C := RX1) (T := TX1) (N := 6) hx hb hts in_X1 hown hK hP 0 rfl rfl 4 (by decide) (hts _ q157) (fun _ h9 => h9) rfl dX1_total_16 ?_
      refine lv_iload_n hx hb dX1_total_19 rfl (lv_at hl 2 rfl) ?_
      refine lv_bipush (v := nI 8) hx hb dX1_total_20 (by decide) ?_
      refine nv_idiv hx hb dX1_total_22 (by omega) (by decide) (by decide) ?_
      refine nv_iald hx hb hK hP 5 4 rfl rfl (by omega) dX1_total_23 ?_
      refine lv_iload_n hx hb dX1_total_24 rfl (lv_at hl 2 rfl) ?_
      refine lv_bipush (v := nI 8) hx hb dX1_total_25 (by decide) ?_
      refine nv_irem hx hb dX1_total_27 (by omega) (by decide) (by decide) ?_
      refine nv_bit hx hb dX1_total_28 dX1_total_29 dX1_total_30 (by have := hs.1 (i / 8) (by omega); omega) (by omega) ?_
      refine nv_iaddb hx hb dX1_total_31 ?_
      refine lv_istore_n (lv' := [(1, .int (nI (n + (Nat.testBit (P1 (i / 8)) (i % 8)).toNat))), (0, .ref (a 0)), (2, .int (nI (i)))]) hx hb dX1_total_32 rfl hl (by decide) rfl (fun ls hl => ?_)
      refine lv_iinc (v := nI (i + 1)) (lv' := [(2, .int (nI (i + 1))), (1, .int (nI (n + (Nat.testBit (P1 (i / 8)) (i % 8)).toNat))), (0, .ref (a 0))]) hx hb dX1_total_33 hl (k := 2) rfl (by exact nI_1 _) (by decide) rfl (fun ls hl => ?_)
      refine lv_goto (tgt := 8) hx hb dX1_total_36 (by decide) ?_
      exact ih _ _ _ ⟨(n + (Nat.testBit (P1 (i / 8)) (i % 8)).toNat), (by show _ = zcnt (zpair P1) i + (zpair P1 i).toNat; rw [← e1]; rfl), hP, hD, hS, lv_sub hl [2, 1, 0] rfl⟩
  · intro H locs ls hI
    obtain ⟨n, e1, hP, hD, hS, hl⟩ := hI
    refine lv_iload_n hx hb dX1_total_8 rfl (lv_at hl 2 rfl) ?_
    refine lv_bipush (v := nI 64) hx hb dX1_total_9 (by decide) ?_
    refine nv_icmp_ge (tgt := 39) hx hb dX1_total_11 (by decide) (fun c0 => ?_) (fun c0 => ?_)
    · refine lv_iload_n hx hb dX1_total_39 rfl (lv_at hl 1 rfl) ?_
      exact rt_i (v := nI (n)) hx hb hr hlk P1 ⟨hs, congrArg nI e1⟩ hK hP hD hS dX1_total_40
    · exfalso; omega
set_option maxHeartbeats 4000000 in
set_option maxRecDepth 100000 in
/-- redundant(k) -/
theorem mX1_redundant (l : Launch) (D : va_G) (a : Nat → Nat) (d : Nat → ClassId) (T : Nat → Bool) (K X Y P O : Nat → Nat) (hW : zWF K X Y) (k : Int32) : Ki l yX1_redundant cX1_redundant 4 (some .boolean) 2 51 D (mT d) (mW a d T K X Y P O) [.ref (a 0), .int k] (fun r (_ : (Nat → Nat) × (Nat → Nat)) => rRd T K X Y k r) (fun u => mW a d T K X Y u.1 u.2) := by
  refine mk_i (by decide) (Nat.le_of_ble_eq_true rfl) ?_
  intro p e s m below meth c A hx hb hml hr hlk hown hts hA hK hP hD hS ls hl
  have hown : s.vm.findClass RX1 = some m.cls := hown
  have hl : lv_has ls 4 [(0, .ref (a 0)), (1, .int (k))] := hl
  refine lv_iload_n hx hb dX1_redundant_0 rfl (lv_at hl 1 rfl) ?_
  refine lv_if_lt (tgt := 19) hx hb dX1_redundant_1 (by decide) (fun c1 => ?_) (fun c1 => ?_)
  · refine lv_iconst (v := bI false) hx hb dX1_redundant_19 (by decide) ?_
    exact rt_z (v := false) hx hb hr hlk (P, O) (Or.inl ⟨hsb_f (tr_lt c1), rfl⟩) hK hP hD hS dX1_redundant_20
  · refine lv_iload_n hx hb dX1_redundant_4 rfl (lv_at hl 1 rfl) ?_
    refine lv_bipush (v := nI 11) hx hb dX1_redundant_5 (by decide) ?_
    refine lv_icmp_gt (tgt := 19) hx hb dX1_redundant_7 (by decide) (fun c2 => ?_) (fun c2 => ?_)
    · refine lv_iconst (v := bI false) hx hb dX1_redundant_19 (by decide) ?_
      exact rt_z (v := false) hx hb hr hlk (P, O) (Or.inl ⟨hsb_f (tr_gt c2), rfl⟩) hK hP hD hS dX1_redundant_20
    · obtain ⟨j, hj, rfl⟩ := tr_of (tr_in' c1 c2)
      refine lv_aload_n hx hb dX1_redundant_10 rfl (lv_at hl 0 rfl) ?_
      refine va_get (D := D) (ci := 1) (v := .ref (a 1)) (C := RX1) (T := TX1) (N := 6) hx hb hts in_X1 hown hK hP 0 rfl rfl 0 (by decide) (hts _ q153) (fun _ h9 => h9) rfl dX1_redundant_11 ?_
      refine lv_iload_n hx hb dX1_redundant_14 rfl (lv_at hl 1 rfl) ?_
      refine nv_zald hx hb hK hP 1 0 rfl rfl (by omega) dX1_redundant_15 ?_
      refine nv_ifne (tgt := 21) hx hb dX1_redundant_16 (by decide) (fun c3 => ?_) (fun c3 => ?_)
      · refine lv_aload_n hx hb dX1_redundant_21 rfl (lv_at hl 0 rfl) ?_
        refine cl_Vv (n := 0) (As := []) (rest := []) (ci := 1) (q0 := 0) hx hb hml hown hts (mX1_work l D a d T K X Y P O hW) (lw_V q202 q204 qs11 q16 q205) (by decide +kernel) rfl ⟨Nat.le_of_ble_eq_true rfl, Nat.le_of_ble_eq_true rfl⟩ ⟨Nat.le_refl _, Nat.le_refl _⟩ hK hP hD hS hA rfl rfl hl.1 rfl (Nat.le_of_ble_eq_true rfl) dX1_redundant_22 (fun P1 H locs hs hP hD hS => ?_)
        have hP : va_P D vwCl (mW a d T K X Y P1 O) H := hP
        have hD : va_D A (mW a d T K X Y P1 O) := hD
        have hs : zSol T K X Y P1 := hs
        refine lv_iconst (v := nI 0) hx hb dX1_redundant_25 (by decide) ?_
        refine lv_istore_n (lv' := [(2, .int (nI (0))), (0, .ref (a 0)), (1, .int (nI (j)))]) hx hb dX1_redundant_26 rfl hl (by decide) rfl (fun ls hl => ?_)
        refine wl_up (pc := 27) 8 (fun x H locs ls => ∃ (O1 : Nat → Nat), (∀ i, i < x → O1 i = P1 i) ∧ va_P D vwCl (mW a d T K X Y P1 O1) H ∧ va_D A (mW a d T K X Y P1 O1) ∧ va_S A s.heap H locs ∧ lv_has ls 4 [(0, .ref (a 0)), (1, .int (nI (j))), (2, .int (nI (x)))]) ?_ ?_ 0 (by omega) _ _ _ ⟨O, (fun i h => absurd h (Nat.not_lt_zero i)), hP, hD, hS, lv_sub hl [1, 2, 0] rfl⟩
        · intro x hk H locs ls hI ih
          obtain ⟨O1, e1, hP, hD, hS, hl⟩ := hI
          refine lv_iload_n hx hb dX1_redundant_27 rfl (lv_at hl 2 rfl) ?_
          refine lv_bipush (v := nI 8) hx hb dX1_redundant_28 (by decide) ?_
          refine nv_icmp_ge (tgt := 51) hx hb dX1_redundant_30 (by decide) (fun c0 => ?_) (fun c0 => ?_)
          · exfalso; omega
          · refine lv_aload_n hx hb dX1_redundant_33 rfl (lv_at hl 0 rfl) ?_
            refine va_get (D := D) (ci := 1) (v := .ref (a 6)) (C := RX1) (T := TX1) (N := 6) hx hb hts in_X1 hown hK hP 0 rfl rfl 5 (by decide) (hts _ q158) (fun _ h9 => h9) rfl dX1_redundant_34 ?_
            refine lv_iload_n hx hb dX1_redundant_37 rfl (lv_at hl 2 rfl) ?_
            refine lv_aload_n hx hb dX1_redundant_38 rfl (lv_at hl 0 rfl) ?_
            refine va_get (D := D) (ci := 1) (v := .ref (a 5)) (C := RX1) (T := TX1) (N := 6) hx hb hts in_X1 hown hK hP 0 rfl rfl 4 (by decide) (hts _ q157) (fun _ h9 => h9) rfl dX1_redundant_39 ?_
            refine lv_iload_n hx hb dX1_redundant_42 rfl (lv_at hl 2 rfl) ?_
            refine nv_iald hx hb hK hP 5 4 rfl rfl (by omega) dX1_redundant_43 ?_
            refine nv_iast hx hb hK hP hD hS 6 5 rfl rfl (by omega) dX1_redundant_44 (fun H locs hP hD hS => ?_)
            have hP : va_P D vwCl (mW a d T K X Y P1 (va_up O1 x (P1 x))) H := hP
            have hD : va_D A (mW a d T K X Y P1 (va_up O1 x (P1 x))) := hD
            refine lv_iinc (v := nI (x + 1)) (lv' := [(2, .int (nI (x + 1))), (0, .ref (a 0)), (1, .int (nI (j)))]) hx hb dX1_redundant_45 hl (k := 2) rfl (by exact nI_1 _) (by decide) rfl (fun ls hl => ?_)
            refine lv_goto (tgt := 27) hx hb dX1_redundant_48 (by decide) ?_
            exact ih _ _ _ ⟨(va_up O1 x (P1 x)), (cp_up e1), hP, hD, hS, lv_sub hl [1, 2, 0] rfl⟩
        · intro H locs ls hI
          obtain ⟨O1, e1, hP, hD, hS, hl⟩ := hI
          refine lv_iload_n hx hb dX1_redundant_27 rfl (lv_at hl 2 rfl) ?_
          refine lv_bipush (v := nI 8) hx hb dX1_redundant_28 (by decide) ?_
          refine nv_icmp_ge (tgt := 51) hx hb dX1_redundant_30 (by decide) (fun c0 => ?_) (fun c0 => ?_)
          · refine lv_aload_n hx hb dX1_redundant_51 rfl (lv_at hl 0 rfl) ?_
            refine va_get (D := D) (ci := 1) (v := .ref (a 1)) (C := RX1) (T := TX1) (N := 6) hx hb hts in_X1 hown hK hP 0 rfl rfl 0 (by decide) (hts _ q153) (fun _ h9 => h9) rfl dX1_redundant_52 ?_
            refine lv_iload_n hx hb dX1_redundant_55 rfl (lv_at hl 1 rfl) ?_
            refine lv_iconst (v := bI false) hx hb dX1_redundant_56 (by decide) ?_
            refine nv_zast hx hb hK hP hD hS 1 0 rfl rfl (by omega) dX1_redundant_57 (fun H locs hP hD hS => ?_)
            have hP : va_P D vwCl (mW a d (va_up T j false) K X Y P1 O1) H := hP
            have hD : va_D A (mW a d (va_up T j false) K X Y P1 O1) := hD
            refine lv_aload_n hx hb dX1_redundant_58 rfl (lv_at hl 0 rfl) ?_
            refine cl_Vv (n := 0) (As := []) (rest := []) (ci := 1) (q0 := 0) hx hb hml hown hts (mX1_work l D a d (va_up T j false) K X Y P1 O1 hW) (lw_V q202 q204 qs11 q16 q205) (by decide +kernel) rfl ⟨Nat.le_of_ble_eq_true rfl, Nat.le_of_ble_eq_true rfl⟩ ⟨Nat.le_refl _, Nat.le_refl _⟩ hK hP hD hS hA rfl rfl hl.1 rfl (Nat.le_of_ble_eq_true rfl) dX1_redundant_59 (fun P2 H locs hs2 hP hD hS => ?_)
            have hP : va_P D vwCl (mW a d (va_up T j false) K X Y P2 O1) H := hP
            have hD : va_D A (mW a d (va_up T j false) K X Y P2 O1) := hD
            have hs2 : zSol (va_up T j false) K X Y P2 := hs2
            refine lv_aload_n hx hb dX1_redundant_62 rfl (lv_at hl 0 rfl) ?_
            refine va_get (D := D) (ci := 1) (v := .ref (a 1)) (C := RX1) (T := TX1) (N := 6) hx hb hts in_X1 hown hK hP 0 rfl rfl 0 (by decide) (hts _ q153) (fun _ h9 => h9) rfl dX1_redundant_63 ?_
            refine lv_iload_n hx hb dX1_redundant_66 rfl (lv_at hl 1 rfl) ?_
            refine lv_iconst (v := bI true) hx hb dX1_redundant_67 (by decide) ?_
            refine nv_zast hx hb hK hP hD hS 1 0 rfl rfl (by omega) dX1_redundant_68 (fun H locs hP hD hS => ?_)
            have hP : va_P D vwCl (mW a d (va_up (va_up T j false) j true) K X Y P2 O1) H := hP
            have hD : va_D A (mW a d (va_up (va_up T j false) j true) K X Y P2 O1) := hD
            rw [up_tt c3] at hP hD
            refine lv_iconst (v := bI true) hx hb dX1_redundant_69 (by decide) ?_
            refine lv_istore_n (lv' := [(2, .int (bI (true))), (0, .ref (a 0)), (1, .int (nI (j)))]) hx hb dX1_redundant_70 rfl hl (by decide) rfl (fun ls hl => ?_)
            refine lv_iconst (v := nI 0) hx hb dX1_redundant_71 (by decide) ?_
            refine lv_istore_n (lv' := [(3, .int (nI (0))), (2, .int (bI (true))), (0, .ref (a 0)), (1, .int (nI (j)))]) hx hb dX1_redundant_72 rfl hl (by decide) rfl (fun ls hl => ?_)
            refine wl_up (pc := 73) 8 (fun x H locs ls => ∃ (b1 : Bool), (b1 = true ↔ ∀ i, i < x → O1 i = P2 i) ∧ va_P D vwCl (mW a d T K X Y P2 O1) H ∧ va_D A (mW a d T K X Y P2 O1) ∧ va_S A s.heap H locs ∧ lv_has ls 4 [(0, .ref (a 0)), (1, .int (nI (j))), (2, .int (bI (b1))), (3, .int (nI (x)))]) ?_ ?_ 0 (by omega) _ _ _ ⟨true, ⟨fun _ i h => absurd h (Nat.not_lt_zero i), fun _ => rfl⟩, hP, hD, hS, lv_sub hl [2, 3, 1, 0] rfl⟩
            · intro x hk H locs ls hI ih
              obtain ⟨b1, e2, hP, hD, hS, hl⟩ := hI
              refine lv_iload_n hx hb dX1_redundant_73 rfl (lv_at hl 3 rfl) ?_
              refine lv_bipush (v := nI 8) hx hb dX1_redundant_74 (by decide) ?_
              refine nv_icmp_ge (tgt := 110) hx hb dX1_redundant_76 (by decide) (fun c0 => ?_) (fun c0 => ?_)
              · exfalso; omega
              · refine lv_iload_n hx hb dX1_redundant_79 rfl (lv_at hl 2 rfl) ?_
                refine nv_ifeq (tgt := 102) hx hb dX1_redundant_80 (by decide) (fun c4 => ?_) (fun c4 => ?_)
                · refine lv_iconst (v := bI false) hx hb dX1_redundant_102 (by decide) ?_
                  refine lv_istore_n (lv' := [(2, .int (bI (false))), (0, .ref (a 0)), (1, .int (nI (j))), (3, .int (nI (x)))]) hx hb dX1_redundant_103 rfl hl (by decide) rfl (fun ls hl => ?_)
                  refine lv_iinc (v := nI (x + 1)) (lv' := [(3, .int (nI (x + 1))), (2, .int (bI (false))), (0, .ref (a 0)), (1, .int (nI (j)))]) hx hb dX1_redundant_104 hl (k := 3) rfl (by exact nI_1 _) (by decide) rfl (fun ls hl => ?_)
                  refine lv_goto (tgt := 73) hx hb dX1_redundant_107 (by decide) ?_
                  exact ih _ _ _ ⟨false, (eq_f0 e2 c4), hP, hD, hS, lv_sub hl [2, 3, 1, 0] rfl⟩
                · refine lv_aload_n hx hb dX1_redundant_83 rfl (lv_at hl 0 rfl) ?_
                  refine va_get (D := D) (ci := 1) (v := .ref (a 6)) (C := RX1) (T := TX1) (N := 6) hx hb hts in_X1 hown hK hP 0 rfl rfl 5 (by decide) (hts _ q158) (fun _ h9 => h9) rfl dX1_redundant_84 ?_
                  refine lv_iload_n hx hb dX1_redundant_87 rfl (lv_at hl 3 rfl) ?_
                  refine nv_iald hx hb hK hP 6 5 rfl rfl (by omega) dX1_redundant_88 ?_
                  refine lv_aload_n hx hb dX1_redundant_89 rfl (lv_at hl 0 rfl) ?_
                  refine va_get (D := D) (ci := 1) (v := .ref (a 5)) (C := RX1) (T := TX1) (N := 6) hx hb hts in_X1 hown hK hP 0 rfl rfl 4 (by decide) (hts _ q157) (fun _ h9 => h9) rfl dX1_redundant_90 ?_
                  refine lv_iload_n hx hb dX1_redundant_93 rfl (lv_at hl 3 rfl) ?_
                  refine nv_iald hx hb hK hP 5 4 rfl rfl (by omega) dX1_redundant_94 ?_
                  refine nv_icmp_ne (tgt := 102) hx hb dX1_redundant_95 (by decide) (fun c5 => ?_) (fun c5 => ?_) (by have := e1 x (by omega); have := hs.1 x (by omega); omega) (by have := hs2.1 x (by omega); omega)
                  · refine lv_iconst (v := bI false) hx hb dX1_redundant_102 (by decide) ?_
                    refine lv_istore_n (lv' := [(2, .int (bI (false))), (0, .ref (a 0)), (1, .int (nI (j))), (3, .int (nI (x)))]) hx hb dX1_redundant_103 rfl hl (by decide) rfl (fun ls hl => ?_)
                    refine lv_iinc (v := nI (x + 1)) (lv' := [(3, .int (nI (x + 1))), (2, .int (bI (false))), (0, .ref (a 0)), (1, .int (nI (j)))]) hx hb dX1_redundant_104 hl (k := 3) rfl (by exact nI_1 _) (by decide) rfl (fun ls hl => ?_)
                    refine lv_goto (tgt := 73) hx hb dX1_redundant_107 (by decide) ?_
                    exact ih _ _ _ ⟨false, (eq_f c5), hP, hD, hS, lv_sub hl [2, 3, 1, 0] rfl⟩
                  · refine lv_iconst (v := bI true) hx hb dX1_redundant_98 (by decide) ?_
                    refine lv_goto (tgt := 103) hx hb dX1_redundant_99 (by decide) ?_
                    refine lv_istore_n (lv' := [(2, .int (bI (true))), (0, .ref (a 0)), (1, .int (nI (j))), (3, .int (nI (x)))]) hx hb dX1_redundant_103 rfl hl (by decide) rfl (fun ls hl => ?_)
                    refine lv_iinc (v := nI (x + 1)) (lv' := [(3, .int (nI (x + 1))), (2, .int (bI (true))), (0, .ref (a 0)), (1, .int (nI (j)))]) hx hb dX1_redundant_104 hl (k := 3) rfl (by exact nI_1 _) (by decide) rfl (fun ls hl => ?_)
                    refine lv_goto (tgt := 73) hx hb dX1_redundant_107 (by decide) ?_
                    exact ih _ _ _ ⟨true, (eq_t e2 c4 c5), hP, hD, hS, lv_sub hl [2, 3, 1, 0] rfl⟩
            · intro H locs ls hI
              obtain ⟨b1, e2, hP, hD, hS, hl⟩ := hI
              refine lv_iload_n hx hb dX1_redundant_73 rfl (lv_at hl 3 rfl) ?_
              refine lv_bipush (v := nI 8) hx hb dX1_redundant_74 (by decide) ?_
              refine nv_icmp_ge (tgt := 110) hx hb dX1_redundant_76 (by decide) (fun c0 => ?_) (fun c0 => ?_)
              · refine lv_iload_n hx hb dX1_redundant_110 rfl (lv_at hl 2 rfl) ?_
                exact rt_z (v := b1) hx hb hr hlk (P2, O1) (Or.inr ⟨j, P1, P2, hj, rfl, c3, hs, hs2, congrArg bI (rd_fin up_sub hs hs2 e1 e2)⟩) hK hP hD hS dX1_redundant_111
              · exfalso; omega
          · exfalso; omega
      · refine lv_iconst (v := bI false) hx hb dX1_redundant_19 (by decide) ?_
        exact rt_z (v := false) hx hb hr hlk (P, O) (Or.inl ⟨(hsb_n hj).trans c3, rfl⟩) hK hP hD hS dX1_redundant_20
set_option maxHeartbeats 4000000 in
set_option maxRecDepth 100000 in
/-- gain(kd, x, y) -/
theorem mX1_gain (l : Launch) (D : va_G) (a : Nat → Nat) (d : Nat → ClassId) (T : Nat → Bool) (K X Y P O : Nat → Nat) (hW : zWF K X Y) (hT : T 12 = false) (kd x y : Int32) : Ki l yX1_gain cX1_gain 6 (some .int) 3 73 D (mT d) (mW a d T K X Y P O) [.ref (a 0), .int kd, .int x, .int y] (fun r (u : Option (Nat × Nat × Nat) × (Nat → Nat)) => rGn T K X Y kd x y r u.1) (fun u => mGn a d T K X Y u.2 O u.1) := by
  refine mk_i (by decide) (Nat.le_of_ble_eq_true rfl) ?_
  intro p e s m below meth c A hx hb hml hr hlk hown hts hA hK hP hD hS ls hl
  have hown : s.vm.findClass RX1 = some m.cls := hown
  have hl : lv_has ls 6 [(0, .ref (a 0)), (1, .int (kd)), (2, .int (x)), (3, .int (y))] := hl
  refine lv_aload_n hx hb dX1_gain_0 rfl (lv_at hl 0 rfl) ?_
  refine lv_iload_n hx hb dX1_gain_1 rfl (lv_at hl 1 rfl) ?_
  refine lv_iload_n hx hb dX1_gain_2 rfl (lv_at hl 2 rfl) ?_
  refine lv_iload_n hx hb dX1_gain_3 rfl (lv_at hl 3 rfl) ?_
  refine cl_Vi (n := 3) (As := [.int (kd), .int (x), .int (y)]) (rest := []) (ci := 1) (q0 := 0) hx hb hml hown hts (mX1_good l D a d T K X Y P O kd x y) (lw_V q178 q180 qs8 q16 q181) (by decide +kernel) rfl ⟨Nat.le_of_ble_eq_true rfl, Nat.le_of_ble_eq_true rfl⟩ ⟨Nat.le_refl _, Nat.le_refl _⟩ hK hP hD hS hA rfl rfl hl.1 rfl (Nat.le_of_ble_eq_true rfl) dX1_gain_4 (fun r _ H locs hp hP hD hS => ?_)
  have hp : r = bI (sok kd x y) := hp
  subst hp
  refine nv_ifne (tgt := 12) hx hb dX1_gain_7 (by decide) (fun c1 => ?_) (fun c1 => ?_)
  · obtain ⟨⟨n1, w1, rfl⟩, ⟨n2, w2, rfl⟩, ⟨n3, w3, rfl⟩⟩ := sok_of c1
    refine lv_aload_n hx hb dX1_gain_12 rfl (lv_at hl 0 rfl) ?_
    refine cl_Vi (n := 0) (As := []) (rest := []) (ci := 1) (q0 := 0) hx hb hml hown hts (mX1_total l D a d T K X Y P O hW) (lw_V q242 q231 q232 q16 q233) (by decide +kernel) rfl ⟨Nat.le_of_ble_eq_true rfl, Nat.le_of_ble_eq_true rfl⟩ ⟨Nat.le_refl _, Nat.le_refl _⟩ hK hP hD hS hA rfl rfl hl.1 rfl (Nat.le_of_ble_eq_true rfl) dX1_gain_13 (fun r P1 H locs hp hP hD hS => ?_)
    obtain ⟨hs, hp⟩ : zSol T K X Y P1 ∧ r = nI (ztot P1) := hp
    subst hp
    have hP : va_P D vwCl (mW a d T K X Y P1 O) H := hP
    have hD : va_D A (mW a d T K X Y P1 O) := hD
    refine lv_istore (lv' := [(4, .int (nI (ztot P1))), (0, .ref (a 0)), (1, .int (nI (n1))), (2, .int (nI (n2))), (3, .int (nI (n3)))]) hx hb dX1_gain_16 hl (by decide) rfl (fun ls hl => ?_)
    refine lv_aload_n hx hb dX1_gain_18 rfl (lv_at hl 1 rfl) ?_
    refine lv_bipush (v := nI 12) hx hb dX1_gain_19 (by decide) ?_
    refine lv_iload_n hx hb dX1_gain_21 rfl (lv_at hl 2 rfl) ?_
    refine lv_iload_n hx hb dX1_gain_22 rfl (lv_at hl 3 rfl) ?_
    refine lv_iload_n hx hb dX1_gain_23 rfl (lv_at hl 4 rfl) ?_
    refine cl_Vv (n := 4) (As := [.int (nI (12)), .int (nI (n1)), .int (nI (n2)), .int (nI (n3))]) (rest := []) (ci := 1) (q0 := 0) hx hb hml hown hts (mX1_hold l D a d T K X Y P1 O 12 n1 n2 n3 (by omega)) (lw_V q186 q188 qs10 q16 q189) (by decide +kernel) rfl ⟨Nat.le_of_ble_eq_true rfl, Nat.le_of_ble_eq_true rfl⟩ ⟨Nat.le_refl _, Nat.le_refl _⟩ hK hP hD hS hA rfl rfl hl.1 rfl (Nat.le_of_ble_eq_true rfl) dX1_gain_24 (fun _ H locs hp hP hD hS => ?_)
    have hP : va_P D vwCl (mW a d (va_up T 12 true) (va_up K 12 n1) (va_up X 12 n2) (va_up Y 12 n3) P1 O) H := hP
    have hD : va_D A (mW a d (va_up T 12 true) (va_up K 12 n1) (va_up X 12 n2) (va_up Y 12 n3) P1 O) := hD
    refine lv_aload_n hx hb dX1_gain_27 rfl (lv_at hl 1 rfl) ?_
    refine cl_Vi (n := 0) (As := []) (rest := []) (ci := 1) (q0 := 0) hx hb hml hown hts (mX1_total l D a d (va_up T 12 true) (va_up K 12 n1) (va_up X 12 n2) (va_up Y 12 n3) P1 O (zWF_up hW w1 w2 w3)) (lw_V q242 q231 q232 q16 q233) (by decide +kernel) rfl ⟨Nat.le_of_ble_eq_true rfl, Nat.le_of_ble_eq_true rfl⟩ ⟨Nat.le_refl _, Nat.le_refl _⟩ hK hP hD hS hA rfl rfl hl.1 rfl (Nat.le_of_ble_eq_true rfl) dX1_gain_28 (fun r P2 H locs hp hP hD hS => ?_)
    obtain ⟨hs2, hp⟩ : zSol (va_up T 12 true) (va_up K 12 n1) (va_up X 12 n2) (va_up Y 12 n3) P2 ∧ r = nI (ztot P2) := hp
    subst hp
    have hP : va_P D vwCl (mW a d (va_up T 12 true) (va_up K 12 n1) (va_up X 12 n2) (va_up Y 12 n3) P2 O) H := hP
    have hD : va_D A (mW a d (va_up T 12 true) (va_up K 12 n1) (va_up X 12 n2) (va_up Y 12 n3) P2 O) := hD
    refine lv_istore (lv' := [(5, .int (nI (ztot P2))), (4, .int (nI (ztot P1))), (0, .ref (a 0)), (1, .int (nI (n1))), (2, .int (nI (n2))), (3, .int (nI (n3)))]) hx hb dX1_gain_31 hl (by decide) rfl (fun ls hl => ?_)
    refine lv_aload_n hx hb dX1_gain_33 rfl (lv_at hl 2 rfl) ?_
    refine va_get (D := D) (ci := 1) (v := .ref (a 1)) (C := RX1) (T := TX1) (N := 6) hx hb hts in_X1 hown hK hP 0 rfl rfl 0 (by decide) (hts _ q153) (fun _ h9 => h9) rfl dX1_gain_34 ?_
    refine lv_bipush (v := nI 12) hx hb dX1_gain_37 (by decide) ?_
    refine lv_iconst (v := bI false) hx hb dX1_gain_39 (by decide) ?_
    refine nv_zast hx hb hK hP hD hS 1 0 rfl rfl (by omega) dX1_gain_40 (fun H locs hP hD hS => ?_)
    have hP : va_P D vwCl (mW a d (va_up (va_up T 12 true) 12 false) (va_up K 12 n1) (va_up X 12 n2) (va_up Y 12 n3) P2 O) H := hP
    have hD : va_D A (mW a d (va_up (va_up T 12 true) 12 false) (va_up K 12 n1) (va_up X 12 n2) (va_up Y 12 n3) P2 O) := hD
    rw [up_ff hT] at hP hD
    refine lv_iload hx hb dX1_gain_41 (lv_at hl 0 rfl) ?_
    refine lv_iload hx hb dX1_gain_43 (lv_at hl 1 rfl) ?_
    refine lv_isub hx hb dX1_gain_45 ?_
    exact rt_i (v := nI (ztot P2) - nI (ztot P1)) hx hb hr hlk (some (n1, n2, n3), P2) (Or.inr ⟨n1, n2, n3, P1, P2, w1, w2, w3, rfl, rfl, rfl, c1, hs, hs2, rfl, rfl⟩) hK hP hD hS dX1_gain_46
  · refine lv_iconst (v := -1) hx hb dX1_gain_10 (by decide) ?_
    exact rt_i (v := -1) hx hb hr hlk (none, P) (Or.inl ⟨c1, rfl, rfl⟩) hK hP hD hS dX1_gain_11
set_option maxHeartbeats 4000000 in
set_option maxRecDepth 100000 in
/-- cyclic() -/
theorem mX1_cyclic (l : Launch) (D : va_G) (a : Nat → Nat) (d : Nat → ClassId) (T : Nat → Bool) (K X Y P O : Nat → Nat) (hW : zWF K X Y) : Ki l yX1_cyclic cX1_cyclic 3 (some .int) 2 51 D (mT d) (mW a d T K X Y P O) [.ref (a 0)] (fun r (_ : Nat → Nat) => rCy T K X Y r) (fun u => mW a d T K X Y u O) := by
  refine mk_i (by decide) (Nat.le_of_ble_eq_true rfl) ?_
  intro p e s m below meth c A hx hb hml hr hlk hown hts hA hK hP hD hS ls hl
  have hown : s.vm.findClass RX1 = some m.cls := hown
  have hl : lv_has ls 3 [(0, .ref (a 0))] := hl
  refine lv_aload_n hx hb dX1_cyclic_0 rfl (lv_at hl 0 rfl) ?_
  refine cl_Vv (n := 0) (As := []) (rest := []) (ci := 1) (q0 := 0) hx hb hml hown hts (mX1_work l D a d T K X Y P O hW) (lw_V q202 q204 qs11 q16 q205) (by decide +kernel) rfl ⟨Nat.le_of_ble_eq_true rfl, Nat.le_of_ble_eq_true rfl⟩ ⟨Nat.le_refl _, Nat.le_refl _⟩ hK hP hD hS hA rfl rfl hl.1 rfl (Nat.le_of_ble_eq_true rfl) dX1_cyclic_1 (fun P1 H locs hs hP hD hS => ?_)
  have hP : va_P D vwCl (mW a d T K X Y P1 O) H := hP
  have hD : va_D A (mW a d T K X Y P1 O) := hD
  have hs : zSol T K X Y P1 := hs
  refine lv_iconst (v := nI 0) hx hb dX1_cyclic_4 (by decide) ?_
  refine lv_istore_n (lv' := [(1, .int (nI (0))), (0, .ref (a 0))]) hx hb dX1_cyclic_5 rfl hl (by decide) rfl (fun ls hl => ?_)
  refine lv_iconst (v := nI 0) hx hb dX1_cyclic_6 (by decide) ?_
  refine lv_istore_n (lv' := [(2, .int (nI (0))), (1, .int (nI (0))), (0, .ref (a 0))]) hx hb dX1_cyclic_7 rfl hl (by decide) rfl (fun ls hl => ?_)
  refine wl_up (pc := 8) 8 (fun i H locs ls => ∃ (n : Nat), (n = zcol (fun z => Nat.testBit (zrch P1 (P1 z) 64) z) i) ∧ va_P D vwCl (mW a d T K X Y P1 O) H ∧ va_D A (mW a d T K X Y P1 O) ∧ va_S A s.heap H locs ∧ lv_has ls 3 [(0, .ref (a 0)), (1, .int (nI (n))), (2, .int (nI (i)))]) ?_ ?_ 0 (by omega) _ _ _ ⟨0, rfl, hP, hD, hS, lv_sub hl [2, 1, 0] rfl⟩
  · intro i hk H locs ls hI ih
    obtain ⟨n, e1, hP, hD, hS, hl⟩ := hI
    refine lv_iload_n hx hb dX1_cyclic_8 rfl (lv_at hl 2 rfl) ?_
    refine lv_bipush (v := nI 8) hx hb dX1_cyclic_9 (by decide) ?_
    refine nv_icmp_ge (tgt := 43) hx hb dX1_cyclic_11 (by decide) (fun c0 => ?_) (fun c0 => ?_)
    · exfalso; omega
    · refine lv_aload_n hx hb dX1_cyclic_14 rfl (lv_at hl 0 rfl) ?_
      refine lv_iload_n hx hb dX1_cyclic_15 rfl (lv_at hl 2 rfl) ?_
      refine cl_Vi (n := 1) (As := [.int (nI (i))]) (rest := []) (ci := 1) (q0 := 0) hx hb hml hown hts (mX1_reached l D a d T K X Y P1 O i (by omega) hs.1) (lw_V q222 q224 qs13 q16 q225) (by decide +kernel) rfl ⟨Nat.le_of_ble_eq_true rfl, Nat.le_of_ble_eq_true rfl⟩ ⟨Nat.le_refl _, Nat.le_refl _⟩ hK hP hD hS hA rfl rfl hl.1 rfl (Nat.le_of_ble_eq_true rfl) dX1_cyclic_16 (fun r _ H locs hp hP hD hS => ?_)
      have hp : r = nI (zrch P1 (P1 i) 64) := hp
      subst hp
      refine lv_iload_n hx hb dX1_cyclic_19 rfl (lv_at hl 2 rfl) ?_
      refine nv_bit hx hb dX1_cyclic_20 dX1_cyclic_21 dX1_cyclic_22 (by have := zrch_lt hs.1 (hs.1 i (by omega)) 64; omega) (by omega) ?_
      refine lv_iconst (v := nI 1) hx hb dX1_cyclic_23 (by decide) ?_
      refine nv_icmp_ne1 (tgt := 35) hx hb dX1_cyclic_24 (by decide) (fun c2 => ?_) (fun c2 => ?_)
      · refine lv_iload_n hx hb dX1_cyclic_35 rfl (lv_at hl 1 rfl) ?_
        refine lv_istore_n (lv' := [(1, .int (nI (n))), (0, .ref (a 0)), (2, .int (nI (i)))]) hx hb dX1_cyclic_36 rfl hl (by decide) rfl (fun ls hl => ?_)
        refine lv_iinc (v := nI (i + 1)) (lv' := [(2, .int (nI (i + 1))), (1, .int (nI (n))), (0, .ref (a 0))]) hx hb dX1_cyclic_37 hl (k := 2) rfl (by exact nI_1 _) (by decide) rfl (fun ls hl => ?_)
        refine lv_goto (tgt := 8) hx hb dX1_cyclic_40 (by decide) ?_
        exact ih _ _ _ ⟨n, (zcol_f e1 c2), hP, hD, hS, lv_sub hl [2, 1, 0] rfl⟩
      · refine lv_iload_n hx hb dX1_cyclic_27 rfl (lv_at hl 1 rfl) ?_
        refine lv_iconst (v := nI 1) hx hb dX1_cyclic_28 (by decide) ?_
        refine lv_iload_n hx hb dX1_cyclic_29 rfl (lv_at hl 2 rfl) ?_
        refine nv_shl hx hb dX1_cyclic_30 (by omega) ?_
        refine nv_ior hx hb dX1_cyclic_31 ?_
        refine lv_goto (tgt := 36) hx hb dX1_cyclic_32 (by decide) ?_
        refine lv_istore_n (lv' := [(1, .int (nI (n ||| (2 ^ i)))), (0, .ref (a 0)), (2, .int (nI (i)))]) hx hb dX1_cyclic_36 rfl hl (by decide) rfl (fun ls hl => ?_)
        refine lv_iinc (v := nI (i + 1)) (lv' := [(2, .int (nI (i + 1))), (1, .int (nI (n ||| (2 ^ i)))), (0, .ref (a 0))]) hx hb dX1_cyclic_37 hl (k := 2) rfl (by exact nI_1 _) (by decide) rfl (fun ls hl => ?_)
        refine lv_goto (tgt := 8) hx hb dX1_cyclic_40 (by decide) ?_
        exact ih _ _ _ ⟨(n ||| 2 ^ i), (zcol_t e1 c2), hP, hD, hS, lv_sub hl [2, 1, 0] rfl⟩
  · intro H locs ls hI
    obtain ⟨n, e1, hP, hD, hS, hl⟩ := hI
    refine lv_iload_n hx hb dX1_cyclic_8 rfl (lv_at hl 2 rfl) ?_
    refine lv_bipush (v := nI 8) hx hb dX1_cyclic_9 (by decide) ?_
    refine nv_icmp_ge (tgt := 43) hx hb dX1_cyclic_11 (by decide) (fun c0 => ?_) (fun c0 => ?_)
    · refine lv_iload_n hx hb dX1_cyclic_43 rfl (lv_at hl 1 rfl) ?_
      exact rt_i (v := nI (n)) hx hb hr hlk P1 ⟨P1, hs, congrArg nI e1⟩ hK hP hD hS dX1_cyclic_44
    · exfalso; omega
end
section
set_option maxRecDepth 100000
def pk7 {α : Type} (x0 x1 x2 x3 x4 x5 x6 : α) : Nat → α := fun i => match i with
  | 0 => x0
  | 1 => x1
  | 2 => x2
  | 3 => x3
  | 4 => x4
  | 5 => x5
  | _ => x6
abbrev nz : Nat → Nat := fun _ => 0
set_option maxHeartbeats 4000000 in
set_option maxRecDepth 100000 in
/-- the constructor -/
theorem mX0_init (l : Launch) (D : va_G) (h0 sz : Nat) : Met l yX0_init (ws_ yX0_init cX0_init 1 none) ({ frames := 1, cells := 6, slots := 63, locals := 12 }) (va_Pc [.ref h0] (fun U => U.heap.size = sz ∧ va_P D vwCl [(h0, .inr (0, [.int (nI 0), .null, .null, .null, .int (bI false), .null, .null, .null]))] U.heap ∧ va_K D vwCl [] U ∧ va_D (fun _ => True) [(h0, .inr (0, [.int (nI 0), .null, .null, .null, .int (bI false), .null, .null, .null]))])) (va_Qv (fun u : (Nat → Nat) × (Nat → ClassId) => u.1 0 = h0) (fun u t => va_P D vwCl (xW u.1 u.2 0 false (fun _ => 0) (fun _ => 0) (fun _ => 0) (fun _ => 0) (fun _ => 0) (fun _ => 0)) t.heap ∧ va_K D vwCl (xT u.2) t ∧ va_D (va_A [(h0, .inr (0, [.int (nI 0), .null, .null, .null, .int (bI false), .null, .null, .null]))] sz) (xW u.1 u.2 0 false (fun _ => 0) (fun _ => 0) (fun _ => 0) (fun _ => 0) (fun _ => 0) (fun _ => 0))) (va_A [(h0, .inr (0, [.int (nI 0), .null, .null, .null, .int (bI false), .null, .null, .null]))] sz)) 6 63 (va_A [(h0, .inr (0, [.int (nI 0), .null, .null, .null, .int (bI false), .null, .null, .null]))] sz) := by
  refine Met.ofW (cc := cX0_init) (maxL := 1) (ret := none) (by decide) rfl ?_
  intro p e s m args below meth c s₁ B hml hv
  obtain ⟨rfl, hsz, hP, hK, hD0⟩ := hv
  have hx := B.exec
  have hb := B.bytes
  have hr := B.returns
  have hts := atoms_spec (ws := ws_ yX0_init cX0_init 1 none) B.pre
  have hts : ∀ w ∈ lw_all, w.before _ s = true := fun w h => hts w (List.mem_cons_of_mem _ h)
  have hown : s.vm.findClass RX0 = some m.cls := findClass_of_methodNamed B.named
  have hlocks := B.notSynchronized
  have hin : meth.name = "<init>" := (name_of_methodNamed B.named B.method).1
  subst hsz
  have hD := hD0.self (sz := s.heap.size)
  generalize hAe : va_A [(h0, .inr (0, [.int (nI 0), .null, .null, .null, .int (bI false), .null, .null, .null]))] s.heap.size = A at hD ⊢
  have hA : ∀ q : Nat, s.heap.size ≤ q → A q := fun q h => by rw [← hAe]; exact Or.inr h
  have hS : va_S A s.heap s.heap [] := va_S.rf
  have hP : va_P D vwCl [(h0, .inr (0, [.int (nI 0), .null, .null, .null, .int (bI false), .null, .null, .null]))] s.heap := hP
  have hl := lv_entry ([.ref h0]) (n := 1) (Nat.le_of_ble_eq_true rfl)
  rw [lg_entry_eq]
  generalize (lg_sl ([.ref h0]) ++ List.replicate (1 - (lg_sl ([.ref h0])).length) Slot.unset).toArray = ls at hl ⊢
  have hl : lv_has ls 1 [(0, .ref h0)] := hl
  refine lv_aload_n hx hb dX0_init_0 rfl (lv_at hl 0 rfl) ?_
  refine W.objInit hx hb hown (hts _ q22) (hts _ q23) (hts _ q24) rfl (by rw [hml]; exact hl.1) rfl dX0_init_1 (Nat.le_of_ble_eq_true rfl) (Nat.le_of_ble_eq_true rfl) ?_
  refine W.eq (g2 := F0 m 4 ls []) rfl ?_
  refine lv_aload_n hx hb dX0_init_4 rfl (lv_at hl 0 rfl) ?_
  refine lv_bipush (v := nI 13) hx hb dX0_init_5 (by decide) ?_
  refine va_newa (atype := .byte) (ty := .byte) (N' := 13) (a0 := (13, .inl (nf (fun _ => 0)))) hx hb (hts _ q50) rfl hK hP hD hS hA (fun _ => rfl) (by decide) (by decide) (by decide) (Nat.le_of_ble_eq_true rfl) (Nat.le_of_ble_eq_true rfl) dX0_init_7 (fun q1 d1 H hK hP hD hS => ?_)
  have hK : va_K D vwCl [(d1, .byte)] s := hK
  have hP : va_P D vwCl [(h0, .inr (0, [.int (nI 0), .null, .null, .null, .int (bI false), .null, .null, .null])), (q1, .inl (d1, 13, .inl (nf (fun _ => 0))))] H := hP
  have hD : va_D A [(h0, .inr (0, [.int (nI 0), .null, .null, .null, .int (bI false), .null, .null, .null])), (q1, .inl (d1, 13, .inl (nf (fun _ => 0))))] := hD
  refine va_putF (D := D) (ci := 0) (v := .ref q1) (ty := .array .byte) (C := RX0) (T := TX0) (N := 8) hx hb hts in_X0 tyX0 tyX0_ok nmX0 hown hK hP hD hS 0 rfl rfl 1 (by decide) (hts _ q26) (fun _ h9 => h9) rfl hin rfl (by decide +kernel) rfl rfl (Nat.le_of_ble_eq_true rfl) dX0_init_9 (fun H locs hP hD hS => ?_)
  have hP : va_P D vwCl [(h0, .inr (0, [.int (nI 0), .ref q1, .null, .null, .int (bI false), .null, .null, .null])), (q1, .inl (d1, 13, .inl (nf (fun _ => 0))))] H := hP
  have hD : va_D A [(h0, .inr (0, [.int (nI 0), .ref q1, .null, .null, .int (bI false), .null, .null, .null])), (q1, .inl (d1, 13, .inl (nf (fun _ => 0))))] := hD
  refine lv_aload_n hx hb dX0_init_12 rfl (lv_at hl 0 rfl) ?_
  refine lv_bipush (v := nI 13) hx hb dX0_init_13 (by decide) ?_
  refine va_newa (atype := .byte) (ty := .byte) (N' := 13) (a0 := (13, .inl (nf (fun _ => 0)))) hx hb (hts _ q50) rfl hK hP hD hS hA (fun _ => rfl) (by decide) (by decide) (by decide) (Nat.le_of_ble_eq_true rfl) (Nat.le_of_ble_eq_true rfl) dX0_init_15 (fun q2 d2 H hK hP hD hS => ?_)
  have hK : va_K D vwCl [(d1, .byte), (d2, .byte)] s := hK
  have hP : va_P D vwCl [(h0, .inr (0, [.int (nI 0), .ref q1, .null, .null, .int (bI false), .null, .null, .null])), (q1, .inl (d1, 13, .inl (nf (fun _ => 0)))), (q2, .inl (d2, 13, .inl (nf (fun _ => 0))))] H := hP
  have hD : va_D A [(h0, .inr (0, [.int (nI 0), .ref q1, .null, .null, .int (bI false), .null, .null, .null])), (q1, .inl (d1, 13, .inl (nf (fun _ => 0)))), (q2, .inl (d2, 13, .inl (nf (fun _ => 0))))] := hD
  refine va_putF (D := D) (ci := 0) (v := .ref q2) (ty := .array .byte) (C := RX0) (T := TX0) (N := 8) hx hb hts in_X0 tyX0 tyX0_ok nmX0 hown hK hP hD hS 0 rfl rfl 2 (by decide) (hts _ q27) (fun _ h9 => h9) rfl hin rfl (by decide +kernel) rfl rfl (Nat.le_of_ble_eq_true rfl) dX0_init_17 (fun H locs hP hD hS => ?_)
  have hP : va_P D vwCl [(h0, .inr (0, [.int (nI 0), .ref q1, .ref q2, .null, .int (bI false), .null, .null, .null])), (q1, .inl (d1, 13, .inl (nf (fun _ => 0)))), (q2, .inl (d2, 13, .inl (nf (fun _ => 0))))] H := hP
  have hD : va_D A [(h0, .inr (0, [.int (nI 0), .ref q1, .ref q2, .null, .int (bI false), .null, .null, .null])), (q1, .inl (d1, 13, .inl (nf (fun _ => 0)))), (q2, .inl (d2, 13, .inl (nf (fun _ => 0))))] := hD
  refine lv_aload_n hx hb dX0_init_20 rfl (lv_at hl 0 rfl) ?_
  refine lv_bipush (v := nI 13) hx hb dX0_init_21 (by decide) ?_
  refine va_newa (atype := .byte) (ty := .byte) (N' := 13) (a0 := (13, .inl (nf (fun _ => 0)))) hx hb (hts _ q50) rfl hK hP hD hS hA (fun _ => rfl) (by decide) (by decide) (by decide) (Nat.le_of_ble_eq_true rfl) (Nat.le_of_ble_eq_true rfl) dX0_init_23 (fun q3 d3 H hK hP hD hS => ?_)
  have hK : va_K D vwCl [(d1, .byte), (d2, .byte), (d3, .byte)] s := hK
  have hP : va_P D vwCl [(h0, .inr (0, [.int (nI 0), .ref q1, .ref q2, .null, .int (bI false), .null, .null, .null])), (q1, .inl (d1, 13, .inl (nf (fun _ => 0)))), (q2, .inl (d2, 13, .inl (nf (fun _ => 0)))), (q3, .inl (d3, 13, .inl (nf (fun _ => 0))))] H := hP
  have hD : va_D A [(h0, .inr (0, [.int (nI 0), .ref q1, .ref q2, .null, .int (bI false), .null, .null, .null])), (q1, .inl (d1, 13, .inl (nf (fun _ => 0)))), (q2, .inl (d2, 13, .inl (nf (fun _ => 0)))), (q3, .inl (d3, 13, .inl (nf (fun _ => 0))))] := hD
  refine va_putF (D := D) (ci := 0) (v := .ref q3) (ty := .array .byte) (C := RX0) (T := TX0) (N := 8) hx hb hts in_X0 tyX0 tyX0_ok nmX0 hown hK hP hD hS 0 rfl rfl 3 (by decide) (hts _ q28) (fun _ h9 => h9) rfl hin rfl (by decide +kernel) rfl rfl (Nat.le_of_ble_eq_true rfl) dX0_init_25 (fun H locs hP hD hS => ?_)
  have hP : va_P D vwCl [(h0, .inr (0, [.int (nI 0), .ref q1, .ref q2, .ref q3, .int (bI false), .null, .null, .null])), (q1, .inl (d1, 13, .inl (nf (fun _ => 0)))), (q2, .inl (d2, 13, .inl (nf (fun _ => 0)))), (q3, .inl (d3, 13, .inl (nf (fun _ => 0))))] H := hP
  have hD : va_D A [(h0, .inr (0, [.int (nI 0), .ref q1, .ref q2, .ref q3, .int (bI false), .null, .null, .null])), (q1, .inl (d1, 13, .inl (nf (fun _ => 0)))), (q2, .inl (d2, 13, .inl (nf (fun _ => 0)))), (q3, .inl (d3, 13, .inl (nf (fun _ => 0))))] := hD
  refine lv_aload_n hx hb dX0_init_28 rfl (lv_at hl 0 rfl) ?_
  refine lv_bipush (v := nI 8) hx hb dX0_init_29 (by decide) ?_
  refine va_newa (atype := .short) (ty := .short) (N' := 8) (a0 := (8, .inl (nf (fun _ => 0)))) hx hb (hts _ q51) rfl hK hP hD hS hA (fun _ => rfl) (by decide) (by decide) (by decide) (Nat.le_of_ble_eq_true rfl) (Nat.le_of_ble_eq_true rfl) dX0_init_31 (fun q4 d4 H hK hP hD hS => ?_)
  have hK : va_K D vwCl [(d1, .byte), (d2, .byte), (d3, .byte), (d4, .short)] s := hK
  have hP : va_P D vwCl [(h0, .inr (0, [.int (nI 0), .ref q1, .ref q2, .ref q3, .int (bI false), .null, .null, .null])), (q1, .inl (d1, 13, .inl (nf (fun _ => 0)))), (q2, .inl (d2, 13, .inl (nf (fun _ => 0)))), (q3, .inl (d3, 13, .inl (nf (fun _ => 0)))), (q4, .inl (d4, 8, .inl (nf (fun _ => 0))))] H := hP
  have hD : va_D A [(h0, .inr (0, [.int (nI 0), .ref q1, .ref q2, .ref q3, .int (bI false), .null, .null, .null])), (q1, .inl (d1, 13, .inl (nf (fun _ => 0)))), (q2, .inl (d2, 13, .inl (nf (fun _ => 0)))), (q3, .inl (d3, 13, .inl (nf (fun _ => 0)))), (q4, .inl (d4, 8, .inl (nf (fun _ => 0))))] := hD
  refine va_putF (D := D) (ci := 0) (v := .ref q4) (ty := .array .short) (C := RX0) (T := TX0) (N := 8) hx hb hts in_X0 tyX0 tyX0_ok nmX0 hown hK hP hD hS 0 rfl rfl 5 (by decide) (hts _ q30) (fun _ h9 => h9) rfl hin rfl (by decide +kernel) rfl rfl (Nat.le_of_ble_eq_true rfl) dX0_init_33 (fun H locs hP hD hS => ?_)
  have hP : va_P D vwCl [(h0, .inr (0, [.int (nI 0), .ref q1, .ref q2, .ref q3, .int (bI false), .ref q4, .null, .null])), (q1, .inl (d1, 13, .inl (nf (fun _ => 0)))), (q2, .inl (d2, 13, .inl (nf (fun _ => 0)))), (q3, .inl (d3, 13, .inl (nf (fun _ => 0)))), (q4, .inl (d4, 8, .inl (nf (fun _ => 0))))] H := hP
  have hD : va_D A [(h0, .inr (0, [.int (nI 0), .ref q1, .ref q2, .ref q3, .int (bI false), .ref q4, .null, .null])), (q1, .inl (d1, 13, .inl (nf (fun _ => 0)))), (q2, .inl (d2, 13, .inl (nf (fun _ => 0)))), (q3, .inl (d3, 13, .inl (nf (fun _ => 0)))), (q4, .inl (d4, 8, .inl (nf (fun _ => 0))))] := hD
  refine lv_aload_n hx hb dX0_init_36 rfl (lv_at hl 0 rfl) ?_
  refine lv_bipush (v := nI 8) hx hb dX0_init_37 (by decide) ?_
  refine va_newa (atype := .short) (ty := .short) (N' := 8) (a0 := (8, .inl (nf (fun _ => 0)))) hx hb (hts _ q51) rfl hK hP hD hS hA (fun _ => rfl) (by decide) (by decide) (by decide) (Nat.le_of_ble_eq_true rfl) (Nat.le_of_ble_eq_true rfl) dX0_init_39 (fun q5 d5 H hK hP hD hS => ?_)
  have hK : va_K D vwCl [(d1, .byte), (d2, .byte), (d3, .byte), (d4, .short), (d5, .short)] s := hK
  have hP : va_P D vwCl [(h0, .inr (0, [.int (nI 0), .ref q1, .ref q2, .ref q3, .int (bI false), .ref q4, .null, .null])), (q1, .inl (d1, 13, .inl (nf (fun _ => 0)))), (q2, .inl (d2, 13, .inl (nf (fun _ => 0)))), (q3, .inl (d3, 13, .inl (nf (fun _ => 0)))), (q4, .inl (d4, 8, .inl (nf (fun _ => 0)))), (q5, .inl (d5, 8, .inl (nf (fun _ => 0))))] H := hP
  have hD : va_D A [(h0, .inr (0, [.int (nI 0), .ref q1, .ref q2, .ref q3, .int (bI false), .ref q4, .null, .null])), (q1, .inl (d1, 13, .inl (nf (fun _ => 0)))), (q2, .inl (d2, 13, .inl (nf (fun _ => 0)))), (q3, .inl (d3, 13, .inl (nf (fun _ => 0)))), (q4, .inl (d4, 8, .inl (nf (fun _ => 0)))), (q5, .inl (d5, 8, .inl (nf (fun _ => 0))))] := hD
  refine va_putF (D := D) (ci := 0) (v := .ref q5) (ty := .array .short) (C := RX0) (T := TX0) (N := 8) hx hb hts in_X0 tyX0 tyX0_ok nmX0 hown hK hP hD hS 0 rfl rfl 6 (by decide) (hts _ q31) (fun _ h9 => h9) rfl hin rfl (by decide +kernel) rfl rfl (Nat.le_of_ble_eq_true rfl) dX0_init_41 (fun H locs hP hD hS => ?_)
  have hP : va_P D vwCl [(h0, .inr (0, [.int (nI 0), .ref q1, .ref q2, .ref q3, .int (bI false), .ref q4, .ref q5, .null])), (q1, .inl (d1, 13, .inl (nf (fun _ => 0)))), (q2, .inl (d2, 13, .inl (nf (fun _ => 0)))), (q3, .inl (d3, 13, .inl (nf (fun _ => 0)))), (q4, .inl (d4, 8, .inl (nf (fun _ => 0)))), (q5, .inl (d5, 8, .inl (nf (fun _ => 0))))] H := hP
  have hD : va_D A [(h0, .inr (0, [.int (nI 0), .ref q1, .ref q2, .ref q3, .int (bI false), .ref q4, .ref q5, .null])), (q1, .inl (d1, 13, .inl (nf (fun _ => 0)))), (q2, .inl (d2, 13, .inl (nf (fun _ => 0)))), (q3, .inl (d3, 13, .inl (nf (fun _ => 0)))), (q4, .inl (d4, 8, .inl (nf (fun _ => 0)))), (q5, .inl (d5, 8, .inl (nf (fun _ => 0))))] := hD
  refine lv_aload_n hx hb dX0_init_44 rfl (lv_at hl 0 rfl) ?_
  refine lv_bipush (v := nI 8) hx hb dX0_init_45 (by decide) ?_
  refine va_newa (atype := .short) (ty := .short) (N' := 8) (a0 := (8, .inl (nf (fun _ => 0)))) hx hb (hts _ q51) rfl hK hP hD hS hA (fun _ => rfl) (by decide) (by decide) (by decide) (Nat.le_of_ble_eq_true rfl) (Nat.le_of_ble_eq_true rfl) dX0_init_47 (fun q6 d6 H hK hP hD hS => ?_)
  have hK : va_K D vwCl [(d1, .byte), (d2, .byte), (d3, .byte), (d4, .short), (d5, .short), (d6, .short)] s := hK
  have hP : va_P D vwCl [(h0, .inr (0, [.int (nI 0), .ref q1, .ref q2, .ref q3, .int (bI false), .ref q4, .ref q5, .null])), (q1, .inl (d1, 13, .inl (nf (fun _ => 0)))), (q2, .inl (d2, 13, .inl (nf (fun _ => 0)))), (q3, .inl (d3, 13, .inl (nf (fun _ => 0)))), (q4, .inl (d4, 8, .inl (nf (fun _ => 0)))), (q5, .inl (d5, 8, .inl (nf (fun _ => 0)))), (q6, .inl (d6, 8, .inl (nf (fun _ => 0))))] H := hP
  have hD : va_D A [(h0, .inr (0, [.int (nI 0), .ref q1, .ref q2, .ref q3, .int (bI false), .ref q4, .ref q5, .null])), (q1, .inl (d1, 13, .inl (nf (fun _ => 0)))), (q2, .inl (d2, 13, .inl (nf (fun _ => 0)))), (q3, .inl (d3, 13, .inl (nf (fun _ => 0)))), (q4, .inl (d4, 8, .inl (nf (fun _ => 0)))), (q5, .inl (d5, 8, .inl (nf (fun _ => 0)))), (q6, .inl (d6, 8, .inl (nf (fun _ => 0))))] := hD
  refine va_putF (D := D) (ci := 0) (v := .ref q6) (ty := .array .short) (C := RX0) (T := TX0) (N := 8) hx hb hts in_X0 tyX0 tyX0_ok nmX0 hown hK hP hD hS 0 rfl rfl 7 (by decide) (hts _ q32) (fun _ h9 => h9) rfl hin rfl (by decide +kernel) rfl rfl (Nat.le_of_ble_eq_true rfl) dX0_init_49 (fun H locs hP hD hS => ?_)
  have hP : va_P D vwCl [(h0, .inr (0, [.int (nI 0), .ref q1, .ref q2, .ref q3, .int (bI false), .ref q4, .ref q5, .ref q6])), (q1, .inl (d1, 13, .inl (nf (fun _ => 0)))), (q2, .inl (d2, 13, .inl (nf (fun _ => 0)))), (q3, .inl (d3, 13, .inl (nf (fun _ => 0)))), (q4, .inl (d4, 8, .inl (nf (fun _ => 0)))), (q5, .inl (d5, 8, .inl (nf (fun _ => 0)))), (q6, .inl (d6, 8, .inl (nf (fun _ => 0))))] H := hP
  have hD : va_D A [(h0, .inr (0, [.int (nI 0), .ref q1, .ref q2, .ref q3, .int (bI false), .ref q4, .ref q5, .ref q6])), (q1, .inl (d1, 13, .inl (nf (fun _ => 0)))), (q2, .inl (d2, 13, .inl (nf (fun _ => 0)))), (q3, .inl (d3, 13, .inl (nf (fun _ => 0)))), (q4, .inl (d4, 8, .inl (nf (fun _ => 0)))), (q5, .inl (d5, 8, .inl (nf (fun _ => 0)))), (q6, .inl (d6, 8, .inl (nf (fun _ => 0))))] := hD
  refine W.widen (k := 6) (n := 63) (Nat.le_of_ble_eq_true rfl) (Nat.le_of_ble_eq_true rfl) ?_
  exact W.vret hx hb hr (fun t ht hW => ⟨⟨(pk7 h0 q1 q2 q3 q4 q5 q6, pk7 d1 d1 d2 d3 d4 d5 d6), rfl, rfl, by rw [ht]; exact hP, va_K.moved hW.alike hK, hD⟩, hS.F ht⟩) hS.2.2 dX0_init_52
set_option maxHeartbeats 4000000 in
set_option maxRecDepth 100000 in
/-- the constructor -/
theorem mX1_init (l : Launch) (D : va_G) (h0 sz : Nat) : Met l yX1_init (ws_ yX1_init cX1_init 1 none) ({ frames := 1, cells := 6, slots := 68, locals := 12 }) (va_Pc [.ref h0] (fun U => U.heap.size = sz ∧ va_P D vwCl [(h0, .inr (1, [.null, .null, .null, .null, .null, .null]))] U.heap ∧ va_K D vwCl [] U ∧ va_D (fun _ => True) [(h0, .inr (1, [.null, .null, .null, .null, .null, .null]))])) (va_Qv (fun u : (Nat → Nat) × (Nat → ClassId) => u.1 0 = h0) (fun u t => va_P D vwCl (mW u.1 u.2 (fun _ => false) (fun _ => 0) (fun _ => 0) (fun _ => 0) (fun _ => 0) (fun _ => 0)) t.heap ∧ va_K D vwCl (mT u.2) t ∧ va_D (va_A [(h0, .inr (1, [.null, .null, .null, .null, .null, .null]))] sz) (mW u.1 u.2 (fun _ => false) (fun _ => 0) (fun _ => 0) (fun _ => 0) (fun _ => 0) (fun _ => 0))) (va_A [(h0, .inr (1, [.null, .null, .null, .null, .null, .null]))] sz)) 6 68 (va_A [(h0, .inr (1, [.null, .null, .null, .null, .null, .null]))] sz) := by
  refine Met.ofW (cc := cX1_init) (maxL := 1) (ret := none) (by decide) rfl ?_
  intro p e s m args below meth c s₁ B hml hv
  obtain ⟨rfl, hsz, hP, hK, hD0⟩ := hv
  have hx := B.exec
  have hb := B.bytes
  have hr := B.returns
  have hts := atoms_spec (ws := ws_ yX1_init cX1_init 1 none) B.pre
  have hts : ∀ w ∈ lw_all, w.before _ s = true := fun w h => hts w (List.mem_cons_of_mem _ h)
  have hown : s.vm.findClass RX1 = some m.cls := findClass_of_methodNamed B.named
  have hlocks := B.notSynchronized
  have hin : meth.name = "<init>" := (name_of_methodNamed B.named B.method).1
  subst hsz
  have hD := hD0.self (sz := s.heap.size)
  generalize hAe : va_A [(h0, .inr (1, [.null, .null, .null, .null, .null, .null]))] s.heap.size = A at hD ⊢
  have hA : ∀ q : Nat, s.heap.size ≤ q → A q := fun q h => by rw [← hAe]; exact Or.inr h
  have hS : va_S A s.heap s.heap [] := va_S.rf
  have hP : va_P D vwCl [(h0, .inr (1, [.null, .null, .null, .null, .null, .null]))] s.heap := hP
  have hl := lv_entry ([.ref h0]) (n := 1) (Nat.le_of_ble_eq_true rfl)
  rw [lg_entry_eq]
  generalize (lg_sl ([.ref h0]) ++ List.replicate (1 - (lg_sl ([.ref h0])).length) Slot.unset).toArray = ls at hl ⊢
  have hl : lv_has ls 1 [(0, .ref h0)] := hl
  refine lv_aload_n hx hb dX1_init_0 rfl (lv_at hl 0 rfl) ?_
  refine W.objInit hx hb hown (hts _ q152) (hts _ q23) (hts _ q24) rfl (by rw [hml]; exact hl.1) rfl dX1_init_1 (Nat.le_of_ble_eq_true rfl) (Nat.le_of_ble_eq_true rfl) ?_
  refine W.eq (g2 := F0 m 4 ls []) rfl ?_
  refine lv_aload_n hx hb dX1_init_4 rfl (lv_at hl 0 rfl) ?_
  refine lv_bipush (v := nI 13) hx hb dX1_init_5 (by decide) ?_
  refine va_newa (atype := .boolean) (ty := .boolean) (N' := 13) (a0 := (13, .inl (bf (fun _ => false)))) hx hb (hts _ q172) rfl hK hP hD hS hA (fun _ => rfl) (by decide) (by decide) (by decide) (Nat.le_of_ble_eq_true rfl) (Nat.le_of_ble_eq_true rfl) dX1_init_7 (fun q1 d1 H hK hP hD hS => ?_)
  have hK : va_K D vwCl [(d1, .boolean)] s := hK
  have hP : va_P D vwCl [(h0, .inr (1, [.null, .null, .null, .null, .null, .null])), (q1, .inl (d1, 13, .inl (bf (fun _ => false))))] H := hP
  have hD : va_D A [(h0, .inr (1, [.null, .null, .null, .null, .null, .null])), (q1, .inl (d1, 13, .inl (bf (fun _ => false))))] := hD
  refine va_put (D := D) (ci := 1) (v := .ref q1) (ty := .array .boolean) (C := RX1) (T := TX1) (N := 6) hx hb hts in_X1 tyX1 tyX1_ok nmX1 hown hK hP hD hS 0 rfl rfl 0 (by decide) (hts _ q153) (fun _ h9 => h9) rfl (by decide +kernel) rfl rfl (Nat.le_of_ble_eq_true rfl) dX1_init_9 (fun H locs hP hD hS => ?_)
  have hP : va_P D vwCl [(h0, .inr (1, [.ref q1, .null, .null, .null, .null, .null])), (q1, .inl (d1, 13, .inl (bf (fun _ => false))))] H := hP
  have hD : va_D A [(h0, .inr (1, [.ref q1, .null, .null, .null, .null, .null])), (q1, .inl (d1, 13, .inl (bf (fun _ => false))))] := hD
  refine lv_aload_n hx hb dX1_init_12 rfl (lv_at hl 0 rfl) ?_
  refine lv_bipush (v := nI 13) hx hb dX1_init_13 (by decide) ?_
  refine va_newa (atype := .int) (ty := .int) (N' := 13) (a0 := (13, .inl (nf (fun _ => 0)))) hx hb (hts _ q173) rfl hK hP hD hS hA (fun _ => rfl) (by decide) (by decide) (by decide) (Nat.le_of_ble_eq_true rfl) (Nat.le_of_ble_eq_true rfl) dX1_init_15 (fun q2 d2 H hK hP hD hS => ?_)
  have hK : va_K D vwCl [(d1, .boolean), (d2, .int)] s := hK
  have hP : va_P D vwCl [(h0, .inr (1, [.ref q1, .null, .null, .null, .null, .null])), (q1, .inl (d1, 13, .inl (bf (fun _ => false)))), (q2, .inl (d2, 13, .inl (nf (fun _ => 0))))] H := hP
  have hD : va_D A [(h0, .inr (1, [.ref q1, .null, .null, .null, .null, .null])), (q1, .inl (d1, 13, .inl (bf (fun _ => false)))), (q2, .inl (d2, 13, .inl (nf (fun _ => 0))))] := hD
  refine va_put (D := D) (ci := 1) (v := .ref q2) (ty := .array .int) (C := RX1) (T := TX1) (N := 6) hx hb hts in_X1 tyX1 tyX1_ok nmX1 hown hK hP hD hS 0 rfl rfl 1 (by decide) (hts _ q154) (fun _ h9 => h9) rfl (by decide +kernel) rfl rfl (Nat.le_of_ble_eq_true rfl) dX1_init_17 (fun H locs hP hD hS => ?_)
  have hP : va_P D vwCl [(h0, .inr (1, [.ref q1, .ref q2, .null, .null, .null, .null])), (q1, .inl (d1, 13, .inl (bf (fun _ => false)))), (q2, .inl (d2, 13, .inl (nf (fun _ => 0))))] H := hP
  have hD : va_D A [(h0, .inr (1, [.ref q1, .ref q2, .null, .null, .null, .null])), (q1, .inl (d1, 13, .inl (bf (fun _ => false)))), (q2, .inl (d2, 13, .inl (nf (fun _ => 0))))] := hD
  refine lv_aload_n hx hb dX1_init_20 rfl (lv_at hl 0 rfl) ?_
  refine lv_bipush (v := nI 13) hx hb dX1_init_21 (by decide) ?_
  refine va_newa (atype := .int) (ty := .int) (N' := 13) (a0 := (13, .inl (nf (fun _ => 0)))) hx hb (hts _ q173) rfl hK hP hD hS hA (fun _ => rfl) (by decide) (by decide) (by decide) (Nat.le_of_ble_eq_true rfl) (Nat.le_of_ble_eq_true rfl) dX1_init_23 (fun q3 d3 H hK hP hD hS => ?_)
  have hK : va_K D vwCl [(d1, .boolean), (d2, .int), (d3, .int)] s := hK
  have hP : va_P D vwCl [(h0, .inr (1, [.ref q1, .ref q2, .null, .null, .null, .null])), (q1, .inl (d1, 13, .inl (bf (fun _ => false)))), (q2, .inl (d2, 13, .inl (nf (fun _ => 0)))), (q3, .inl (d3, 13, .inl (nf (fun _ => 0))))] H := hP
  have hD : va_D A [(h0, .inr (1, [.ref q1, .ref q2, .null, .null, .null, .null])), (q1, .inl (d1, 13, .inl (bf (fun _ => false)))), (q2, .inl (d2, 13, .inl (nf (fun _ => 0)))), (q3, .inl (d3, 13, .inl (nf (fun _ => 0))))] := hD
  refine va_put (D := D) (ci := 1) (v := .ref q3) (ty := .array .int) (C := RX1) (T := TX1) (N := 6) hx hb hts in_X1 tyX1 tyX1_ok nmX1 hown hK hP hD hS 0 rfl rfl 2 (by decide) (hts _ q155) (fun _ h9 => h9) rfl (by decide +kernel) rfl rfl (Nat.le_of_ble_eq_true rfl) dX1_init_25 (fun H locs hP hD hS => ?_)
  have hP : va_P D vwCl [(h0, .inr (1, [.ref q1, .ref q2, .ref q3, .null, .null, .null])), (q1, .inl (d1, 13, .inl (bf (fun _ => false)))), (q2, .inl (d2, 13, .inl (nf (fun _ => 0)))), (q3, .inl (d3, 13, .inl (nf (fun _ => 0))))] H := hP
  have hD : va_D A [(h0, .inr (1, [.ref q1, .ref q2, .ref q3, .null, .null, .null])), (q1, .inl (d1, 13, .inl (bf (fun _ => false)))), (q2, .inl (d2, 13, .inl (nf (fun _ => 0)))), (q3, .inl (d3, 13, .inl (nf (fun _ => 0))))] := hD
  refine lv_aload_n hx hb dX1_init_28 rfl (lv_at hl 0 rfl) ?_
  refine lv_bipush (v := nI 13) hx hb dX1_init_29 (by decide) ?_
  refine va_newa (atype := .int) (ty := .int) (N' := 13) (a0 := (13, .inl (nf (fun _ => 0)))) hx hb (hts _ q173) rfl hK hP hD hS hA (fun _ => rfl) (by decide) (by decide) (by decide) (Nat.le_of_ble_eq_true rfl) (Nat.le_of_ble_eq_true rfl) dX1_init_31 (fun q4 d4 H hK hP hD hS => ?_)
  have hK : va_K D vwCl [(d1, .boolean), (d2, .int), (d3, .int), (d4, .int)] s := hK
  have hP : va_P D vwCl [(h0, .inr (1, [.ref q1, .ref q2, .ref q3, .null, .null, .null])), (q1, .inl (d1, 13, .inl (bf (fun _ => false)))), (q2, .inl (d2, 13, .inl (nf (fun _ => 0)))), (q3, .inl (d3, 13, .inl (nf (fun _ => 0)))), (q4, .inl (d4, 13, .inl (nf (fun _ => 0))))] H := hP
  have hD : va_D A [(h0, .inr (1, [.ref q1, .ref q2, .ref q3, .null, .null, .null])), (q1, .inl (d1, 13, .inl (bf (fun _ => false)))), (q2, .inl (d2, 13, .inl (nf (fun _ => 0)))), (q3, .inl (d3, 13, .inl (nf (fun _ => 0)))), (q4, .inl (d4, 13, .inl (nf (fun _ => 0))))] := hD
  refine va_put (D := D) (ci := 1) (v := .ref q4) (ty := .array .int) (C := RX1) (T := TX1) (N := 6) hx hb hts in_X1 tyX1 tyX1_ok nmX1 hown hK hP hD hS 0 rfl rfl 3 (by decide) (hts _ q156) (fun _ h9 => h9) rfl (by decide +kernel) rfl rfl (Nat.le_of_ble_eq_true rfl) dX1_init_33 (fun H locs hP hD hS => ?_)
  have hP : va_P D vwCl [(h0, .inr (1, [.ref q1, .ref q2, .ref q3, .ref q4, .null, .null])), (q1, .inl (d1, 13, .inl (bf (fun _ => false)))), (q2, .inl (d2, 13, .inl (nf (fun _ => 0)))), (q3, .inl (d3, 13, .inl (nf (fun _ => 0)))), (q4, .inl (d4, 13, .inl (nf (fun _ => 0))))] H := hP
  have hD : va_D A [(h0, .inr (1, [.ref q1, .ref q2, .ref q3, .ref q4, .null, .null])), (q1, .inl (d1, 13, .inl (bf (fun _ => false)))), (q2, .inl (d2, 13, .inl (nf (fun _ => 0)))), (q3, .inl (d3, 13, .inl (nf (fun _ => 0)))), (q4, .inl (d4, 13, .inl (nf (fun _ => 0))))] := hD
  refine lv_aload_n hx hb dX1_init_36 rfl (lv_at hl 0 rfl) ?_
  refine lv_bipush (v := nI 8) hx hb dX1_init_37 (by decide) ?_
  refine va_newa (atype := .int) (ty := .int) (N' := 8) (a0 := (8, .inl (nf (fun _ => 0)))) hx hb (hts _ q173) rfl hK hP hD hS hA (fun _ => rfl) (by decide) (by decide) (by decide) (Nat.le_of_ble_eq_true rfl) (Nat.le_of_ble_eq_true rfl) dX1_init_39 (fun q5 d5 H hK hP hD hS => ?_)
  have hK : va_K D vwCl [(d1, .boolean), (d2, .int), (d3, .int), (d4, .int), (d5, .int)] s := hK
  have hP : va_P D vwCl [(h0, .inr (1, [.ref q1, .ref q2, .ref q3, .ref q4, .null, .null])), (q1, .inl (d1, 13, .inl (bf (fun _ => false)))), (q2, .inl (d2, 13, .inl (nf (fun _ => 0)))), (q3, .inl (d3, 13, .inl (nf (fun _ => 0)))), (q4, .inl (d4, 13, .inl (nf (fun _ => 0)))), (q5, .inl (d5, 8, .inl (nf (fun _ => 0))))] H := hP
  have hD : va_D A [(h0, .inr (1, [.ref q1, .ref q2, .ref q3, .ref q4, .null, .null])), (q1, .inl (d1, 13, .inl (bf (fun _ => false)))), (q2, .inl (d2, 13, .inl (nf (fun _ => 0)))), (q3, .inl (d3, 13, .inl (nf (fun _ => 0)))), (q4, .inl (d4, 13, .inl (nf (fun _ => 0)))), (q5, .inl (d5, 8, .inl (nf (fun _ => 0))))] := hD
  refine va_put (D := D) (ci := 1) (v := .ref q5) (ty := .array .int) (C := RX1) (T := TX1) (N := 6) hx hb hts in_X1 tyX1 tyX1_ok nmX1 hown hK hP hD hS 0 rfl rfl 4 (by decide) (hts _ q157) (fun _ h9 => h9) rfl (by decide +kernel) rfl rfl (Nat.le_of_ble_eq_true rfl) dX1_init_41 (fun H locs hP hD hS => ?_)
  have hP : va_P D vwCl [(h0, .inr (1, [.ref q1, .ref q2, .ref q3, .ref q4, .ref q5, .null])), (q1, .inl (d1, 13, .inl (bf (fun _ => false)))), (q2, .inl (d2, 13, .inl (nf (fun _ => 0)))), (q3, .inl (d3, 13, .inl (nf (fun _ => 0)))), (q4, .inl (d4, 13, .inl (nf (fun _ => 0)))), (q5, .inl (d5, 8, .inl (nf (fun _ => 0))))] H := hP
  have hD : va_D A [(h0, .inr (1, [.ref q1, .ref q2, .ref q3, .ref q4, .ref q5, .null])), (q1, .inl (d1, 13, .inl (bf (fun _ => false)))), (q2, .inl (d2, 13, .inl (nf (fun _ => 0)))), (q3, .inl (d3, 13, .inl (nf (fun _ => 0)))), (q4, .inl (d4, 13, .inl (nf (fun _ => 0)))), (q5, .inl (d5, 8, .inl (nf (fun _ => 0))))] := hD
  refine lv_aload_n hx hb dX1_init_44 rfl (lv_at hl 0 rfl) ?_
  refine lv_bipush (v := nI 8) hx hb dX1_init_45 (by decide) ?_
  refine va_newa (atype := .int) (ty := .int) (N' := 8) (a0 := (8, .inl (nf (fun _ => 0)))) hx hb (hts _ q173) rfl hK hP hD hS hA (fun _ => rfl) (by decide) (by decide) (by decide) (Nat.le_of_ble_eq_true rfl) (Nat.le_of_ble_eq_true rfl) dX1_init_47 (fun q6 d6 H hK hP hD hS => ?_)
  have hK : va_K D vwCl [(d1, .boolean), (d2, .int), (d3, .int), (d4, .int), (d5, .int), (d6, .int)] s := hK
  have hP : va_P D vwCl [(h0, .inr (1, [.ref q1, .ref q2, .ref q3, .ref q4, .ref q5, .null])), (q1, .inl (d1, 13, .inl (bf (fun _ => false)))), (q2, .inl (d2, 13, .inl (nf (fun _ => 0)))), (q3, .inl (d3, 13, .inl (nf (fun _ => 0)))), (q4, .inl (d4, 13, .inl (nf (fun _ => 0)))), (q5, .inl (d5, 8, .inl (nf (fun _ => 0)))), (q6, .inl (d6, 8, .inl (nf (fun _ => 0))))] H := hP
  have hD : va_D A [(h0, .inr (1, [.ref q1, .ref q2, .ref q3, .ref q4, .ref q5, .null])), (q1, .inl (d1, 13, .inl (bf (fun _ => false)))), (q2, .inl (d2, 13, .inl (nf (fun _ => 0)))), (q3, .inl (d3, 13, .inl (nf (fun _ => 0)))), (q4, .inl (d4, 13, .inl (nf (fun _ => 0)))), (q5, .inl (d5, 8, .inl (nf (fun _ => 0)))), (q6, .inl (d6, 8, .inl (nf (fun _ => 0))))] := hD
  refine va_put (D := D) (ci := 1) (v := .ref q6) (ty := .array .int) (C := RX1) (T := TX1) (N := 6) hx hb hts in_X1 tyX1 tyX1_ok nmX1 hown hK hP hD hS 0 rfl rfl 5 (by decide) (hts _ q158) (fun _ h9 => h9) rfl (by decide +kernel) rfl rfl (Nat.le_of_ble_eq_true rfl) dX1_init_49 (fun H locs hP hD hS => ?_)
  have hP : va_P D vwCl [(h0, .inr (1, [.ref q1, .ref q2, .ref q3, .ref q4, .ref q5, .ref q6])), (q1, .inl (d1, 13, .inl (bf (fun _ => false)))), (q2, .inl (d2, 13, .inl (nf (fun _ => 0)))), (q3, .inl (d3, 13, .inl (nf (fun _ => 0)))), (q4, .inl (d4, 13, .inl (nf (fun _ => 0)))), (q5, .inl (d5, 8, .inl (nf (fun _ => 0)))), (q6, .inl (d6, 8, .inl (nf (fun _ => 0))))] H := hP
  have hD : va_D A [(h0, .inr (1, [.ref q1, .ref q2, .ref q3, .ref q4, .ref q5, .ref q6])), (q1, .inl (d1, 13, .inl (bf (fun _ => false)))), (q2, .inl (d2, 13, .inl (nf (fun _ => 0)))), (q3, .inl (d3, 13, .inl (nf (fun _ => 0)))), (q4, .inl (d4, 13, .inl (nf (fun _ => 0)))), (q5, .inl (d5, 8, .inl (nf (fun _ => 0)))), (q6, .inl (d6, 8, .inl (nf (fun _ => 0))))] := hD
  refine W.widen (k := 6) (n := 68) (Nat.le_of_ble_eq_true rfl) (Nat.le_of_ble_eq_true rfl) ?_
  exact W.vret hx hb hr (fun t ht hW => ⟨⟨(pk7 h0 q1 q2 q3 q4 q5 q6, pk7 d1 d1 d2 d3 d4 d5 d6), rfl, rfl, by rw [ht]; exact hP, va_K.moved hW.alike hK, hD⟩, hS.F ht⟩) hS.2.2 dX1_init_52
end
section
set_option maxRecDepth 100000
/-! THE CLAIM OUT OF ONE WALK OF THE LAW'S BODY. Your part is whole_start (and what it stands on); all else here is the same for every law, but numbers. -/
def R_law : String := "PointerSetsLaw"
def lw_P (b : Addr) (xs : List Int32) (args : Array Value) (s : State) : Prop := args = #[.ref b] ∧ s.IntsAt b xs ∧ xs.length ≤ 256 ∧ (Jvm.Cond.and given_1 narrow_1).before args s = true
def lw_Q (_ : Array Value) (s : State) (o : Outcome) (t : State) : Prop := o = .returned (some (.int 1)) ∧ Framed s o t [] 600000 7290000
def lw_Z (below : List Frame) (a : Array Value) (s : State) : State → Prop := fun t => ∃ o, t.status = .running ∧ Ended t below o ∧ lw_Q a s o t
/-- the law's own end, with 1 on the stack, nothing written that was there before, its room as the claim has it -/
theorem lw_ret {p : Program} {l : Launch} {e : Env} {s : State} {m : MethodId} {below : List Frame} {meth : Method} {c : Code} {b : Nat} (hx : p.tables.exec = Jvm.exec) (hb : c.code = code) (hr : meth.sig.returnType = ret) (hlocks : meth.locks = false) {pc : Nat} {H : Heap} {ls : Array Slot} (hdg : decode code pc = .ok (.ireturn, 1)) : W p l e room_1 s m #[Value.ref b] below meth c H [] 600000 7290000 (lw_Z below #[Value.ref b] s) (F0 m pc ls [.int 1]) := by
  intro T hT X
  obtain ⟨fs, hret, hrun, hended, hW, hframe⟩ := X.leave (v := some (.int 1)) (hlocks := hlocks) (fun h => by rw [hr] at h; cases h)
  have hmeth' : T.vm.method? m = some meth := X.method'
  refine ⟨T.setFrames fs, ?_, .returned (some (.int 1)), hrun, hended, rfl, ⟨_, rfl⟩, hW, hframe⟩
  jvm_step X.here [X.here.top, hx, hb, hdg, hmeth', hr, ret, narrow_b1]
  (try refine ⟨rfl, ?_⟩); (try refine ⟨rfl, ?_⟩)
  first | (intro acts; rw [hret _ acts rfl rfl rfl]) | rw [hret _ _ rfl rfl rfl]
  exact Steps.refl _
/-- what holds at the law's entry: the machine, the code, the tables' words (any of lw_tbl by 'hts w (by decide +kernel)'), the script of L ints xs at the cell b, what the Statement gives of the start (any of its parts by flat_of_before) -/
def lw_At (p : Program) (s : State) (m : MethodId) (meth : Method) (c : Code) (b L : Nat) (xs : Nat → Int32) : Prop :=
  p.tables.exec = Jvm.exec ∧ c.code = code ∧ meth.sig.returnType = ret ∧ c.maxLocals = 4 ∧ s.vm.findClass R_law = some m.cls ∧ (∀ w ∈ lw_tbl, w.before #[Value.ref b] s = true) ∧ va_X b L xs s s.heap ∧ b < s.heap.size ∧ meth.locks = false ∧ (Jvm.Cond.and given_1 narrow_1).before #[Value.ref b] s = true
/-! the law's own kit: two worlds side by side -/
def gD (A : Nat → Prop) (w1 w2 : va_W) : Prop := va_D A w1 ∧ va_D A w2 ∧ ∀ (i j : Nat) (p q : Nat × va_E), w1[i]? = some p → w2[j]? = some q → p.1 ≠ q.1
theorem gD.symm {A : Nat → Prop} {w1 w2 : va_W} (h : gD A w1 w2) : gD A w2 w1 := ⟨h.2.1, h.1, fun i j p q hp hq e => h.2.2 j i q p hq hp e.symm⟩
theorem gD_out {A : Nat → Prop} {D : va_G} {w1 w2 : va_W} {H : Heap} (hG : gD A w1 w2) (hP2 : va_P D vwCl w2 H) {j : Nat} {q : Nat × va_E} (hq : w2[j]? = some q) : q.1 < H.size ∧ ¬ va_A w1 H.size q.1 := by
  have hl := (hP2 j q hq).lt
  refine ⟨hl, fun h => ?_⟩
  rcases h with ⟨k, e, h⟩ | h
  · exact hG.2.2 k j (q.1, e) q h hq rfl
  · exact absurd hl (Nat.not_lt.mpr h)
section NL
variable {p : Program} {l : Launch} {e : Env} {R : Room} {s : State} {m : MethodId} {args : Array Value} {below : List Frame} {meth : Method} {c : Code} {H : Heap} {locs : List Loc} {cells slots : Nat} {Q : State → Prop}
variable {cc : ByteArray} {pc : Nat} {ls : Array Slot} {rest : List Value} {D : va_G} {A : Nat → Prop} {tys : List (ClassId × FieldType)} {w1 w2 : va_W} {H0 : Heap}
variable {S : Type} {y : MethodName} {b : ByteArray} {L fr lo nL index n : Nat} {r : Option FieldType} {own C : String} {As : List Value} {bb ci q0 : Nat} {fs : List Value} {TT : u_T} {NN : Nat}
theorem cl2_Vi {post : Int32 → S → Prop} {w' : S → va_W} (hexec : p.tables.exec = Jvm.exec) (hb : c.code = cc) (hml : c.maxLocals = nL) (hown : s.vm.findClass own = some m.cls) (hts : ∀ w ∈ lw_all, w.before args s = true) (hM : Ki l y b L r fr lo D tys w1 (.ref bb :: As) post w') (hg : GoodIn lw_all (wsV own index C y (ws_ y b L r))) (hd : y.cls = C ∧ y.cls ≠ "java/lang/invoke/MethodHandle" ∧ y.cls ≠ "java/lang/invoke/VarHandle" ∧ (parseMethodDescriptor y.desc).map (fun d => d.parameters.length) = some n) (hn : As.length = n) (hR : fr + 1 ≤ R.frames ∧ 8 + (L + 11) + lo ≤ R.locals) (hf : cells + 0 ≤ R.cells ∧ slots + 0 ≤ R.slots) (hK : va_K D vwCl tys s) (hP1 : va_P D vwCl w1 H) (hP2 : va_P D vwCl w2 H) (hG : gD A w1 w2) (hS : va_S A H0 H locs) (hA : ∀ q, H0.size ≤ q → A q) (hc : vwCl[ci]? = some (C, TT, NN)) (he : w1[q0]? = some (bb, .inr (ci, fs))) (hls : ls.size = nL) {st0 : List Value} (hst : st0 = As.reverse ++ .ref bb :: rest) (hrs : (rest.map fun v => v.category).sum ≤ 8) (hdg : decode cc pc = .ok (.invokevirtual index, 3))
    (kk : ∀ (r : Int32) (u : S) (H1 : Heap) (locs1 : List Loc), post r u → va_P D vwCl (w' u) H1 → va_P D vwCl w2 H1 → gD A (w' u) w2 → va_S A H0 H1 locs1 → W p l e R s m args below meth c H1 locs1 cells slots Q (F0 m (pc + 3) ls (.int r :: rest))) : W p l e R s m args below meth c H locs cells slots Q (F0 m pc ls st0) := by
  have hF := fr_all hG.1 hS hA
  refine va_calli (va_runV (As := As) (rest := rest) ⟨hexec, hb, hml, hown, hts⟩ (hM H.size) (cwV n hts hg rfl rfl rfl hd hR) ⟨gU_blind _ _ _ _ _, va_recv hK hP1 hc he, fun U hU hW => ⟨rfl, by rw [hU], by rw [hU]; exact hP1, va_K.moved hW.alike hK, hG.1.weaken (fun _ _ _ _ => trivial)⟩⟩ rfl hn hls hst (lv_room hrs) hdg hf) hS (fun q _ h => hF q h) hF (fun r1 u t H1 locs1 ht hvm hp hB hz1 hk1 hS1 => ?_)
  obtain ⟨hP3, hK1, hD1⟩ := hB
  rw [ht] at hP3
  refine kk r1 u H1 locs1 hp hP3 (hP2.kept (fun k q hq => ?_)) ⟨hD1.weaken (fun k q _ h => hF q.1 h), hG.2.1, fun i j x q hx hq e => ?_⟩ hS1
  · obtain ⟨g1, g2⟩ := gD_out hG hP2 hq
    exact hk1 q.1 g1 g2
  · obtain ⟨g1, g2⟩ := gD_out hG hP2 hq
    exact g2 (by rw [← e]; exact hD1.2 i x hx)
theorem nv_iadd (hexec : p.tables.exec = Jvm.exec) (hb : c.code = cc) {x y : Nat} (hdg : decode cc pc = .ok (.iadd, 1)) (k : W p l e R s m args below meth c H locs cells slots Q (F0 m (pc + 1) ls (.int (nI (x + y)) :: rest))) : W p l e R s m args below meth c H locs cells slots Q (F0 m pc ls (.int (nI y) :: .int (nI x) :: rest)) := lv_iadd hexec hb hdg (by rw [nI_add]; exact k)
theorem nv_sld (hexec : p.tables.exec = Jvm.exec) (hb : c.code = cc) {b L : Nat} {xs : Nat → Int32} (hX : va_X b L xs s H0) (hbl : b < H0.size) (hbA : ¬ A b) (hS : va_S A H0 H locs) {i : Nat} (hi : i < L) (hL : L ≤ 256) (hdg : decode cc pc = .ok (.iaload, 1)) (kk : W p l e R s m args below meth c H locs cells slots Q (F0 m (pc + 1) ls (.int (xs i) :: rest))) : W p l e R s m args below meth c H locs cells slots Q (F0 m pc ls (.int (nI i) :: .ref b :: rest)) :=
  va_sld hexec hb hX hbl hbA hS (vp_in_nI hi (by omega)) hdg (by rw [nI_clamp (by omega)]; exact kk)
end NL
theorem lw_cmp {L i : Nat} (hL : L ≤ 256) (hi : i < 2 ^ 30) (h : ¬ nI L - nI 4 < nI i) : i + 4 ≤ L := by
  rw [Int32.lt_iff_toInt_lt, pk_sub_toInt (by omega) (by decide), nI_toInt (by omega)] at h
  omega
theorem ad_some {T : Nat → Bool} {a b c r : Int32} {k n1 n2 n3 : Nat} (h : adR T a b c r (some (k, n1, n2, n3))) : k < 12 ∧ n1 < 4 ∧ n2 < 8 ∧ n3 < 8 := by
  rcases h with ⟨-, -, h⟩ | ⟨-, -, -, h⟩ | ⟨k2, m1, m2, m3, h1, h2, h3, h4, -, -, -, -, -, -, -, h⟩
  · cases h
  · cases h
  · cases h
    exact ⟨h1, h2, h3, h4⟩
theorem rm_some {T : Nat → Bool} {k r : Int32} {j : Nat} (h : rmR T k r (some j)) : j < 12 := by
  rcases h with ⟨-, -, h⟩ | ⟨j2, h1, -, -, -, h⟩
  · cases h
  · cases h
    exact h1
theorem gn_some {T : Nat → Bool} {K X Y : Nat → Nat} {a b c r : Int32} {n1 n2 n3 : Nat} (h : rGn T K X Y a b c r (some (n1, n2, n3))) : n1 < 4 ∧ n2 < 8 ∧ n3 < 8 := by
  rcases h with ⟨-, -, h⟩ | ⟨m1, m2, m3, P, P2, h1, h2, h3, -, -, -, -, -, -, -, h⟩
  · cases h
  · cases h
    exact ⟨h1, h2, h3⟩
/-- between the two objects, at the law's loop: the same statements -/
def lwI (D : va_G) (a : Nat → Nat) (d : Nat → ClassId) (a2 : Nat → Nat) (d2 : Nat → ClassId) (A : Nat → Prop) (H0 : Heap) (b q : Nat) (H : Heap) (locs : List Loc) (ls : Array Slot) : Prop := ∃ (pr : Nat) (kn : Bool) (K X Y : Nat → Nat) (σ : Sg) (P O : Nat → Nat), pr < 4096 ∧ zWF K X Y ∧ xOK pr K X Y kn σ ∧ va_P D vwCl (xW a d pr kn K X Y σ.1 σ.2.1 σ.2.2) H ∧ va_P D vwCl (mW a2 d2 (Nat.testBit pr) K X Y P O) H ∧ gD A (xW a d pr kn K X Y σ.1 σ.2.1 σ.2.2) (mW a2 d2 (Nat.testBit pr) K X Y P O) ∧ va_S A H0 H locs ∧ lv_has ls 4 [(0, .ref b), (1, .ref (a 0)), (2, .ref (a2 0)), (3, .int (nI (4 * q)))]
end
section
set_option maxRecDepth 100000
set_option maxHeartbeats 4000000 in
set_option maxRecDepth 100000 in
/-- the law asks both: add -/
theorem law_add {p : Program} {l : Launch} {e : Env} {s : State} {m : MethodId} {below : List Frame} {meth : Method} {c : Code} {b L : Nat} {xs : Nat → Int32} (hL : L ≤ 256) (C0 : lw_At p s m meth c b L xs) (D : va_G) (a : Nat → Nat) (d : Nat → ClassId) (a2 : Nat → Nat) (d2 : Nat → ClassId) (hK1 : va_K D vwCl (xT d) s) (hK2 : va_K D vwCl (mT d2) s) (q : Nat) (hlt : 4 * q + 4 ≤ L) (H : Heap) (locs : List Loc) (ls : Array Slot) (hI : lwI D a d a2 d2 (fun q : Nat => s.heap.size ≤ q) s.heap b q H locs ls) (ih : ∀ (H' : Heap) (locs' : List Loc) (ls' : Array Slot), lwI D a d a2 d2 (fun q : Nat => s.heap.size ≤ q) s.heap b (q + 1) H' locs' ls' → W p l e room_1 s m #[Value.ref b] below meth c H' locs' 14 145 (lw_Z below #[Value.ref b] s) (F0 m 18 ls' [])) : W p l e room_1 s m #[Value.ref b] below meth c H locs 14 145 (lw_Z below #[Value.ref b] s) (F0 m 100 ls []) := by
  obtain ⟨hx, hb, hr, hml, hown, hts0, hX, hbl, hlocks, hgv⟩ := id C0
  have hts : ∀ w ∈ lw_all, w.before #[Value.ref b] s = true := fun w h => hts0 w (lw_all_tbl h)
  have hA : ∀ q : Nat, s.heap.size ≤ q → (fun q : Nat => s.heap.size ≤ q) q := fun _ h => h
  have hbA : ¬ (fun q : Nat => s.heap.size ≤ q) b := Nat.not_le.mpr hbl
  obtain ⟨pr, kn, K, X, Y, σ, P, O, hpr, hW, hO, hP1, hP2, hG, hS, hl⟩ := hI
  refine lv_aload_n hx hb dL_law_100 rfl (lv_at hl 1 rfl) ?_
  refine lv_aload_n hx hb dL_law_101 rfl (lv_at hl 0 rfl) ?_
  refine lv_iload_n hx hb dL_law_102 rfl (lv_at hl 3 rfl) ?_
  refine lv_iconst (v := nI 1) hx hb dL_law_103 (by decide) ?_
  refine nv_iadd hx hb dL_law_104 ?_
  refine nv_sld hx hb hX hbl hbA hS (by omega) hL dL_law_105 ?_
  refine lv_aload_n hx hb dL_law_106 rfl (lv_at hl 0 rfl) ?_
  refine lv_iload_n hx hb dL_law_107 rfl (lv_at hl 3 rfl) ?_
  refine lv_iconst (v := nI 2) hx hb dL_law_108 (by decide) ?_
  refine nv_iadd hx hb dL_law_109 ?_
  refine nv_sld hx hb hX hbl hbA hS (by omega) hL dL_law_110 ?_
  refine lv_aload_n hx hb dL_law_111 rfl (lv_at hl 0 rfl) ?_
  refine lv_iload_n hx hb dL_law_112 rfl (lv_at hl 3 rfl) ?_
  refine lv_iconst (v := nI 3) hx hb dL_law_113 (by decide) ?_
  refine nv_iadd hx hb dL_law_114 ?_
  refine nv_sld hx hb hX hbl hbA hS (by omega) hL dL_law_115 ?_
  refine cl2_Vi (n := 3) (As := [.int (xs (4 * q + 1)), .int (xs (4 * q + 2)), .int (xs (4 * q + 3))]) (rest := []) (ci := 0) (q0 := 0) hx hb hml hown hts (mX0_add l D a d pr kn K X Y σ.1 σ.2.1 σ.2.2 (xs (4 * q + 1)) (xs (4 * q + 2)) (xs (4 * q + 3)) (by omega)) (lw_V q52 q53 q54 q15 q55) (by decide +kernel) rfl ⟨Nat.le_of_ble_eq_true rfl, Nat.le_of_ble_eq_true rfl⟩ ⟨Nat.le_of_ble_eq_true rfl, Nat.le_of_ble_eq_true rfl⟩ hK1 hP1 hP2 hG hS hA rfl rfl hl.1 rfl (Nat.le_of_ble_eq_true rfl) dL_law_116 (fun r1 u1 H locs hp1 hP1 hP2 hG hS => ?_)
  refine lv_aload_n hx hb dL_law_119 rfl (lv_at hl 2 rfl) ?_
  refine lv_aload_n hx hb dL_law_120 rfl (lv_at hl 0 rfl) ?_
  refine lv_iload_n hx hb dL_law_121 rfl (lv_at hl 3 rfl) ?_
  refine lv_iconst (v := nI 1) hx hb dL_law_122 (by decide) ?_
  refine nv_iadd hx hb dL_law_123 ?_
  refine nv_sld hx hb hX hbl hbA hS (by omega) hL dL_law_124 ?_
  refine lv_aload_n hx hb dL_law_125 rfl (lv_at hl 0 rfl) ?_
  refine lv_iload_n hx hb dL_law_126 rfl (lv_at hl 3 rfl) ?_
  refine lv_iconst (v := nI 2) hx hb dL_law_127 (by decide) ?_
  refine nv_iadd hx hb dL_law_128 ?_
  refine nv_sld hx hb hX hbl hbA hS (by omega) hL dL_law_129 ?_
  refine lv_aload_n hx hb dL_law_130 rfl (lv_at hl 0 rfl) ?_
  refine lv_iload_n hx hb dL_law_131 rfl (lv_at hl 3 rfl) ?_
  refine lv_iconst (v := nI 3) hx hb dL_law_132 (by decide) ?_
  refine nv_iadd hx hb dL_law_133 ?_
  refine nv_sld hx hb hX hbl hbA hS (by omega) hL dL_law_134 ?_
  refine cl2_Vi (n := 3) (As := [.int (xs (4 * q + 1)), .int (xs (4 * q + 2)), .int (xs (4 * q + 3))]) (rest := [.int r1]) (ci := 1) (q0 := 0) hx hb hml hown hts (mX1_add l D a2 d2 (Nat.testBit pr) K X Y P O (xs (4 * q + 1)) (xs (4 * q + 2)) (xs (4 * q + 3))) (lw_V q174 q175 q176 q16 q177) (by decide +kernel) rfl ⟨Nat.le_of_ble_eq_true rfl, Nat.le_of_ble_eq_true rfl⟩ ⟨Nat.le_of_ble_eq_true rfl, Nat.le_of_ble_eq_true rfl⟩ hK2 hP2 hP1 hG.symm hS hA rfl rfl hl.1 rfl (Nat.le_of_ble_eq_true rfl) dL_law_135 (fun r2 u2 H locs hp2 hP2 hP1 hG hS => ?_)
  obtain ⟨he, hu⟩ := u_Ad hp1 hp2
  subst hu
  refine lv_icmp_eq (tgt := 429) hx hb dL_law_138 (by decide) (fun _ => ?_) (fun c1 => absurd he c1)
  refine lv_iinc (v := nI (4 * (q + 1))) (lv' := [(3, .int (nI (4 * (q + 1)))), (0, .ref b), (1, .ref (a 0)), (2, .ref (a2 0))]) hx hb dL_law_429 hl (k := 3) rfl (by rw [show 4 * (q + 1) = 4 * q + 4 by omega]; exact nI_add _ 4) (by decide) rfl (fun ls hl => ?_)
  refine lv_goto (tgt := 18) hx hb dL_law_432 (by decide) ?_
  rcases u1 with _ | ⟨k, n1, n2, n3⟩
  · exact ih _ _ _ ⟨pr, kn, K, X, Y, σ, P, O, hpr, hW, hO, hP1, hP2, hG.symm, hS, lv_sub hl [1, 2, 3, 0] rfl⟩
  · obtain ⟨w0, w1, w2, w3⟩ := ad_some hp1
    have hP2 : va_P D vwCl (mW a2 d2 (va_up (Nat.testBit pr) k true) (va_up K k n1) (va_up X k n2) (va_up Y k n3) P O) H := hP2
    have hG : gD _ (mW a2 d2 (va_up (Nat.testBit pr) k true) (va_up K k n1) (va_up X k n2) (va_up Y k n3) P O) (xW a d (pr ||| 2 ^ k) false (va_up K k n1) (va_up X k n2) (va_up Y k n3) σ.1 σ.2.1 σ.2.2) := hG
    rw [tb_or] at hP2 hG
    exact ih _ _ _ ⟨pr ||| 2 ^ k, false, va_up K k n1, va_up X k n2, va_up Y k n3, σ, P, O, pr_or (n := 12) hpr w0, zWF_up hW w1 w2 w3, ⟨hO.1, fun h => by cases h⟩, hP1, hP2, hG.symm, hS, lv_sub hl [1, 2, 3, 0] rfl⟩
set_option maxHeartbeats 4000000 in
set_option maxRecDepth 100000 in
/-- the law asks both: remove -/
theorem law_remove {p : Program} {l : Launch} {e : Env} {s : State} {m : MethodId} {below : List Frame} {meth : Method} {c : Code} {b L : Nat} {xs : Nat → Int32} (hL : L ≤ 256) (C0 : lw_At p s m meth c b L xs) (D : va_G) (a : Nat → Nat) (d : Nat → ClassId) (a2 : Nat → Nat) (d2 : Nat → ClassId) (hK1 : va_K D vwCl (xT d) s) (hK2 : va_K D vwCl (mT d2) s) (q : Nat) (hlt : 4 * q + 4 ≤ L) (H : Heap) (locs : List Loc) (ls : Array Slot) (hI : lwI D a d a2 d2 (fun q : Nat => s.heap.size ≤ q) s.heap b q H locs ls) (ih : ∀ (H' : Heap) (locs' : List Loc) (ls' : Array Slot), lwI D a d a2 d2 (fun q : Nat => s.heap.size ≤ q) s.heap b (q + 1) H' locs' ls' → W p l e room_1 s m #[Value.ref b] below meth c H' locs' 14 145 (lw_Z below #[Value.ref b] s) (F0 m 18 ls' [])) : W p l e room_1 s m #[Value.ref b] below meth c H locs 14 145 (lw_Z below #[Value.ref b] s) (F0 m 143 ls []) := by
  obtain ⟨hx, hb, hr, hml, hown, hts0, hX, hbl, hlocks, hgv⟩ := id C0
  have hts : ∀ w ∈ lw_all, w.before #[Value.ref b] s = true := fun w h => hts0 w (lw_all_tbl h)
  have hA : ∀ q : Nat, s.heap.size ≤ q → (fun q : Nat => s.heap.size ≤ q) q := fun _ h => h
  have hbA : ¬ (fun q : Nat => s.heap.size ≤ q) b := Nat.not_le.mpr hbl
  obtain ⟨pr, kn, K, X, Y, σ, P, O, hpr, hW, hO, hP1, hP2, hG, hS, hl⟩ := hI
  refine lv_aload_n hx hb dL_law_143 rfl (lv_at hl 1 rfl) ?_
  refine lv_aload_n hx hb dL_law_144 rfl (lv_at hl 0 rfl) ?_
  refine lv_iload_n hx hb dL_law_145 rfl (lv_at hl 3 rfl) ?_
  refine lv_iconst (v := nI 1) hx hb dL_law_146 (by decide) ?_
  refine nv_iadd hx hb dL_law_147 ?_
  refine nv_sld hx hb hX hbl hbA hS (by omega) hL dL_law_148 ?_
  refine cl2_Vi (n := 1) (As := [.int (xs (4 * q + 1))]) (rest := []) (ci := 0) (q0 := 0) hx hb hml hown hts (mX0_remove l D a d pr kn K X Y σ.1 σ.2.1 σ.2.2 (xs (4 * q + 1)) (by omega)) (lw_V q70 q71 q72 q15 q73) (by decide +kernel) rfl ⟨Nat.le_of_ble_eq_true rfl, Nat.le_of_ble_eq_true rfl⟩ ⟨Nat.le_of_ble_eq_true rfl, Nat.le_of_ble_eq_true rfl⟩ hK1 hP1 hP2 hG hS hA rfl rfl hl.1 rfl (Nat.le_of_ble_eq_true rfl) dL_law_149 (fun r1 u1 H locs hp1 hP1 hP2 hG hS => ?_)
  refine lv_aload_n hx hb dL_law_152 rfl (lv_at hl 2 rfl) ?_
  refine lv_aload_n hx hb dL_law_153 rfl (lv_at hl 0 rfl) ?_
  refine lv_iload_n hx hb dL_law_154 rfl (lv_at hl 3 rfl) ?_
  refine lv_iconst (v := nI 1) hx hb dL_law_155 (by decide) ?_
  refine nv_iadd hx hb dL_law_156 ?_
  refine nv_sld hx hb hX hbl hbA hS (by omega) hL dL_law_157 ?_
  refine cl2_Vi (n := 1) (As := [.int (xs (4 * q + 1))]) (rest := [.int r1]) (ci := 1) (q0 := 0) hx hb hml hown hts (mX1_remove l D a2 d2 (Nat.testBit pr) K X Y P O (xs (4 * q + 1))) (lw_V q190 q191 q192 q16 q193) (by decide +kernel) rfl ⟨Nat.le_of_ble_eq_true rfl, Nat.le_of_ble_eq_true rfl⟩ ⟨Nat.le_of_ble_eq_true rfl, Nat.le_of_ble_eq_true rfl⟩ hK2 hP2 hP1 hG.symm hS hA rfl rfl hl.1 rfl (Nat.le_of_ble_eq_true rfl) dL_law_158 (fun r2 u2 H locs hp2 hP2 hP1 hG hS => ?_)
  obtain ⟨he, hu⟩ := u_Rm hp1 hp2
  subst hu
  refine lv_icmp_eq (tgt := 429) hx hb dL_law_161 (by decide) (fun _ => ?_) (fun c1 => absurd he c1)
  refine lv_iinc (v := nI (4 * (q + 1))) (lv' := [(3, .int (nI (4 * (q + 1)))), (0, .ref b), (1, .ref (a 0)), (2, .ref (a2 0))]) hx hb dL_law_429 hl (k := 3) rfl (by rw [show 4 * (q + 1) = 4 * q + 4 by omega]; exact nI_add _ 4) (by decide) rfl (fun ls hl => ?_)
  refine lv_goto (tgt := 18) hx hb dL_law_432 (by decide) ?_
  rcases u1 with _ | j
  · exact ih _ _ _ ⟨pr, kn, K, X, Y, σ, P, O, hpr, hW, hO, hP1, hP2, hG.symm, hS, lv_sub hl [1, 2, 3, 0] rfl⟩
  · have hP2 : va_P D vwCl (mW a2 d2 (va_up (Nat.testBit pr) j false) K X Y P O) H := hP2
    have hG : gD _ (mW a2 d2 (va_up (Nat.testBit pr) j false) K X Y P O) (xW a d (ndf pr (2 ^ j)) false K X Y σ.1 σ.2.1 σ.2.2) := hG
    rw [tb_ndf] at hP2 hG
    exact ih _ _ _ ⟨ndf pr (2 ^ j), false, K, X, Y, σ, P, O, Nat.lt_of_le_of_lt (ndf_le _ _) hpr, hW, ⟨hO.1, fun h => by cases h⟩, hP1, hP2, hG.symm, hS, lv_sub hl [1, 2, 3, 0] rfl⟩
set_option maxHeartbeats 4000000 in
set_option maxRecDepth 100000 in
/-- the law asks both: statements -/
theorem law_statements {p : Program} {l : Launch} {e : Env} {s : State} {m : MethodId} {below : List Frame} {meth : Method} {c : Code} {b L : Nat} {xs : Nat → Int32} (hL : L ≤ 256) (C0 : lw_At p s m meth c b L xs) (D : va_G) (a : Nat → Nat) (d : Nat → ClassId) (a2 : Nat → Nat) (d2 : Nat → ClassId) (hK1 : va_K D vwCl (xT d) s) (hK2 : va_K D vwCl (mT d2) s) (q : Nat) (hlt : 4 * q + 4 ≤ L) (H : Heap) (locs : List Loc) (ls : Array Slot) (hI : lwI D a d a2 d2 (fun q : Nat => s.heap.size ≤ q) s.heap b q H locs ls) (ih : ∀ (H' : Heap) (locs' : List Loc) (ls' : Array Slot), lwI D a d a2 d2 (fun q : Nat => s.heap.size ≤ q) s.heap b (q + 1) H' locs' ls' → W p l e room_1 s m #[Value.ref b] below meth c H' locs' 14 145 (lw_Z below #[Value.ref b] s) (F0 m 18 ls' [])) : W p l e room_1 s m #[Value.ref b] below meth c H locs 14 145 (lw_Z below #[Value.ref b] s) (F0 m 166 ls []) := by
  obtain ⟨hx, hb, hr, hml, hown, hts0, hX, hbl, hlocks, hgv⟩ := id C0
  have hts : ∀ w ∈ lw_all, w.before #[Value.ref b] s = true := fun w h => hts0 w (lw_all_tbl h)
  have hA : ∀ q : Nat, s.heap.size ≤ q → (fun q : Nat => s.heap.size ≤ q) q := fun _ h => h
  have hbA : ¬ (fun q : Nat => s.heap.size ≤ q) b := Nat.not_le.mpr hbl
  obtain ⟨pr, kn, K, X, Y, σ, P, O, hpr, hW, hO, hP1, hP2, hG, hS, hl⟩ := hI
  refine lv_aload_n hx hb dL_law_166 rfl (lv_at hl 1 rfl) ?_
  refine cl2_Vi (n := 0) (As := []) (rest := []) (ci := 0) (q0 := 0) hx hb hml hown hts (mX0_statements l D a d pr kn K X Y σ.1 σ.2.1 σ.2.2) (lw_V q74 q75 q76 q15 q77) (by decide +kernel) rfl ⟨Nat.le_of_ble_eq_true rfl, Nat.le_of_ble_eq_true rfl⟩ ⟨Nat.le_of_ble_eq_true rfl, Nat.le_of_ble_eq_true rfl⟩ hK1 hP1 hP2 hG hS hA rfl rfl hl.1 rfl (Nat.le_of_ble_eq_true rfl) dL_law_167 (fun r1 u1 H locs hp1 hP1 hP2 hG hS => ?_)
  refine lv_aload_n hx hb dL_law_170 rfl (lv_at hl 2 rfl) ?_
  refine cl2_Vi (n := 0) (As := []) (rest := [.int r1]) (ci := 1) (q0 := 0) hx hb hml hown hts (mX1_statements l D a2 d2 (Nat.testBit pr) K X Y P O) (lw_V q194 q195 q196 q16 q197) (by decide +kernel) rfl ⟨Nat.le_of_ble_eq_true rfl, Nat.le_of_ble_eq_true rfl⟩ ⟨Nat.le_of_ble_eq_true rfl, Nat.le_of_ble_eq_true rfl⟩ hK2 hP2 hP1 hG.symm hS hA rfl rfl hl.1 rfl (Nat.le_of_ble_eq_true rfl) dL_law_171 (fun r2 u2 H locs hp2 hP2 hP1 hG hS => ?_)
  have he : r1 = r2 := hp1.trans ((congrArg nI (zcol_self (a := pr) (n := 12) (show pr < 2 ^ 12 from hpr)).symm).trans hp2.symm)
  refine lv_icmp_eq (tgt := 429) hx hb dL_law_174 (by decide) (fun _ => ?_) (fun c1 => absurd he c1)
  refine lv_iinc (v := nI (4 * (q + 1))) (lv' := [(3, .int (nI (4 * (q + 1)))), (0, .ref b), (1, .ref (a 0)), (2, .ref (a2 0))]) hx hb dL_law_429 hl (k := 3) rfl (by rw [show 4 * (q + 1) = 4 * q + 4 by omega]; exact nI_add _ 4) (by decide) rfl (fun ls hl => ?_)
  refine lv_goto (tgt := 18) hx hb dL_law_432 (by decide) ?_
  exact ih _ _ _ ⟨pr, kn, K, X, Y, σ, P, O, hpr, hW, hO, hP1, hP2, hG.symm, hS, lv_sub hl [1, 2, 3, 0] rfl⟩
set_option maxHeartbeats 4000000 in
set_option maxRecDepth 100000 in
/-- the law asks both: pointsTo -/
theorem law_pointsTo {p : Program} {l : Launch} {e : Env} {s : State} {m : MethodId} {below : List Frame} {meth : Method} {c : Code} {b L : Nat} {xs : Nat → Int32} (hL : L ≤ 256) (C0 : lw_At p s m meth c b L xs) (D : va_G) (a : Nat → Nat) (d : Nat → ClassId) (a2 : Nat → Nat) (d2 : Nat → ClassId) (hK1 : va_K D vwCl (xT d) s) (hK2 : va_K D vwCl (mT d2) s) (q : Nat) (hlt : 4 * q + 4 ≤ L) (H : Heap) (locs : List Loc) (ls : Array Slot) (hI : lwI D a d a2 d2 (fun q : Nat => s.heap.size ≤ q) s.heap b q H locs ls) (ih : ∀ (H' : Heap) (locs' : List Loc) (ls' : Array Slot), lwI D a d a2 d2 (fun q : Nat => s.heap.size ≤ q) s.heap b (q + 1) H' locs' ls' → W p l e room_1 s m #[Value.ref b] below meth c H' locs' 14 145 (lw_Z below #[Value.ref b] s) (F0 m 18 ls' [])) : W p l e room_1 s m #[Value.ref b] below meth c H locs 14 145 (lw_Z below #[Value.ref b] s) (F0 m 179 ls []) := by
  obtain ⟨hx, hb, hr, hml, hown, hts0, hX, hbl, hlocks, hgv⟩ := id C0
  have hts : ∀ w ∈ lw_all, w.before #[Value.ref b] s = true := fun w h => hts0 w (lw_all_tbl h)
  have hA : ∀ q : Nat, s.heap.size ≤ q → (fun q : Nat => s.heap.size ≤ q) q := fun _ h => h
  have hbA : ¬ (fun q : Nat => s.heap.size ≤ q) b := Nat.not_le.mpr hbl
  obtain ⟨pr, kn, K, X, Y, σ, P, O, hpr, hW, hO, hP1, hP2, hG, hS, hl⟩ := hI
  refine lv_aload_n hx hb dL_law_179 rfl (lv_at hl 1 rfl) ?_
  refine lv_aload_n hx hb dL_law_180 rfl (lv_at hl 0 rfl) ?_
  refine lv_iload_n hx hb dL_law_181 rfl (lv_at hl 3 rfl) ?_
  refine lv_iconst (v := nI 1) hx hb dL_law_182 (by decide) ?_
  refine nv_iadd hx hb dL_law_183 ?_
  refine nv_sld hx hb hX hbl hbA hS (by omega) hL dL_law_184 ?_
  refine cl2_Vi (n := 1) (As := [.int (xs (4 * q + 1))]) (rest := []) (ci := 0) (q0 := 0) hx hb hml hown hts (mX0_pointsTo l D a d pr kn K X Y σ (by omega) hW hO (xs (4 * q + 1))) (lw_V q78 q79 q80 q15 q81) (by decide +kernel) rfl ⟨Nat.le_of_ble_eq_true rfl, Nat.le_of_ble_eq_true rfl⟩ ⟨Nat.le_of_ble_eq_true rfl, Nat.le_of_ble_eq_true rfl⟩ hK1 hP1 hP2 hG hS hA rfl rfl hl.1 rfl (Nat.le_of_ble_eq_true rfl) dL_law_185 (fun r1 u1 H locs hp1 hP1 hP2 hG hS => ?_)
  refine lv_aload_n hx hb dL_law_188 rfl (lv_at hl 2 rfl) ?_
  refine lv_aload_n hx hb dL_law_189 rfl (lv_at hl 0 rfl) ?_
  refine lv_iload_n hx hb dL_law_190 rfl (lv_at hl 3 rfl) ?_
  refine lv_iconst (v := nI 1) hx hb dL_law_191 (by decide) ?_
  refine nv_iadd hx hb dL_law_192 ?_
  refine nv_sld hx hb hX hbl hbA hS (by omega) hL dL_law_193 ?_
  refine cl2_Vi (n := 1) (As := [.int (xs (4 * q + 1))]) (rest := [.int r1]) (ci := 1) (q0 := 0) hx hb hml hown hts (mX1_pointsTo l D a2 d2 (Nat.testBit pr) K X Y P O hW (xs (4 * q + 1))) (lw_V q198 q199 q200 q16 q201) (by decide +kernel) rfl ⟨Nat.le_of_ble_eq_true rfl, Nat.le_of_ble_eq_true rfl⟩ ⟨Nat.le_of_ble_eq_true rfl, Nat.le_of_ble_eq_true rfl⟩ hK2 hP2 hP1 hG.symm hS hA rfl rfl hl.1 rfl (Nat.le_of_ble_eq_true rfl) dL_law_194 (fun r2 u2 H locs hp2 hP2 hP1 hG hS => ?_)
  have he : r1 = r2 := u_Pt hp1.2 hp2
  refine lv_icmp_eq (tgt := 429) hx hb dL_law_197 (by decide) (fun _ => ?_) (fun c1 => absurd he c1)
  refine lv_iinc (v := nI (4 * (q + 1))) (lv' := [(3, .int (nI (4 * (q + 1)))), (0, .ref b), (1, .ref (a 0)), (2, .ref (a2 0))]) hx hb dL_law_429 hl (k := 3) rfl (by rw [show 4 * (q + 1) = 4 * q + 4 by omega]; exact nI_add _ 4) (by decide) rfl (fun ls hl => ?_)
  refine lv_goto (tgt := 18) hx hb dL_law_432 (by decide) ?_
  exact ih _ _ _ ⟨pr, u1.1, K, X, Y, u1.2, u2, O, hpr, hW, hp1.1, hP1, hP2, hG.symm, hS, lv_sub hl [1, 2, 3, 0] rfl⟩
set_option maxHeartbeats 4000000 in
set_option maxRecDepth 100000 in
/-- the law asks both: pointedBy -/
theorem law_pointedBy {p : Program} {l : Launch} {e : Env} {s : State} {m : MethodId} {below : List Frame} {meth : Method} {c : Code} {b L : Nat} {xs : Nat → Int32} (hL : L ≤ 256) (C0 : lw_At p s m meth c b L xs) (D : va_G) (a : Nat → Nat) (d : Nat → ClassId) (a2 : Nat → Nat) (d2 : Nat → ClassId) (hK1 : va_K D vwCl (xT d) s) (hK2 : va_K D vwCl (mT d2) s) (q : Nat) (hlt : 4 * q + 4 ≤ L) (H : Heap) (locs : List Loc) (ls : Array Slot) (hI : lwI D a d a2 d2 (fun q : Nat => s.heap.size ≤ q) s.heap b q H locs ls) (ih : ∀ (H' : Heap) (locs' : List Loc) (ls' : Array Slot), lwI D a d a2 d2 (fun q : Nat => s.heap.size ≤ q) s.heap b (q + 1) H' locs' ls' → W p l e room_1 s m #[Value.ref b] below meth c H' locs' 14 145 (lw_Z below #[Value.ref b] s) (F0 m 18 ls' [])) : W p l e room_1 s m #[Value.ref b] below meth c H locs 14 145 (lw_Z below #[Value.ref b] s) (F0 m 202 ls []) := by
  obtain ⟨hx, hb, hr, hml, hown, hts0, hX, hbl, hlocks, hgv⟩ := id C0
  have hts : ∀ w ∈ lw_all, w.before #[Value.ref b] s = true := fun w h => hts0 w (lw_all_tbl h)
  have hA : ∀ q : Nat, s.heap.size ≤ q → (fun q : Nat => s.heap.size ≤ q) q := fun _ h => h
  have hbA : ¬ (fun q : Nat => s.heap.size ≤ q) b := Nat.not_le.mpr hbl
  obtain ⟨pr, kn, K, X, Y, σ, P, O, hpr, hW, hO, hP1, hP2, hG, hS, hl⟩ := hI
  refine lv_aload_n hx hb dL_law_202 rfl (lv_at hl 1 rfl) ?_
  refine lv_aload_n hx hb dL_law_203 rfl (lv_at hl 0 rfl) ?_
  refine lv_iload_n hx hb dL_law_204 rfl (lv_at hl 3 rfl) ?_
  refine lv_iconst (v := nI 1) hx hb dL_law_205 (by decide) ?_
  refine nv_iadd hx hb dL_law_206 ?_
  refine nv_sld hx hb hX hbl hbA hS (by omega) hL dL_law_207 ?_
  refine cl2_Vi (n := 1) (As := [.int (xs (4 * q + 1))]) (rest := []) (ci := 0) (q0 := 0) hx hb hml hown hts (mX0_pointedBy l D a d pr kn K X Y σ (by omega) hW hO (xs (4 * q + 1))) (lw_V q109 q110 q111 q15 q112) (by decide +kernel) rfl ⟨Nat.le_of_ble_eq_true rfl, Nat.le_of_ble_eq_true rfl⟩ ⟨Nat.le_of_ble_eq_true rfl, Nat.le_of_ble_eq_true rfl⟩ hK1 hP1 hP2 hG hS hA rfl rfl hl.1 rfl (Nat.le_of_ble_eq_true rfl) dL_law_208 (fun r1 u1 H locs hp1 hP1 hP2 hG hS => ?_)
  refine lv_aload_n hx hb dL_law_211 rfl (lv_at hl 2 rfl) ?_
  refine lv_aload_n hx hb dL_law_212 rfl (lv_at hl 0 rfl) ?_
  refine lv_iload_n hx hb dL_law_213 rfl (lv_at hl 3 rfl) ?_
  refine lv_iconst (v := nI 1) hx hb dL_law_214 (by decide) ?_
  refine nv_iadd hx hb dL_law_215 ?_
  refine nv_sld hx hb hX hbl hbA hS (by omega) hL dL_law_216 ?_
  refine cl2_Vi (n := 1) (As := [.int (xs (4 * q + 1))]) (rest := [.int r1]) (ci := 1) (q0 := 0) hx hb hml hown hts (mX1_pointedBy l D a2 d2 (Nat.testBit pr) K X Y P O hW (xs (4 * q + 1))) (lw_V q210 q211 q212 q16 q213) (by decide +kernel) rfl ⟨Nat.le_of_ble_eq_true rfl, Nat.le_of_ble_eq_true rfl⟩ ⟨Nat.le_of_ble_eq_true rfl, Nat.le_of_ble_eq_true rfl⟩ hK2 hP2 hP1 hG.symm hS hA rfl rfl hl.1 rfl (Nat.le_of_ble_eq_true rfl) dL_law_217 (fun r2 u2 H locs hp2 hP2 hP1 hG hS => ?_)
  have he : r1 = r2 := u_Pb hp1.2 hp2
  refine lv_icmp_eq (tgt := 429) hx hb dL_law_220 (by decide) (fun _ => ?_) (fun c1 => absurd he c1)
  refine lv_iinc (v := nI (4 * (q + 1))) (lv' := [(3, .int (nI (4 * (q + 1)))), (0, .ref b), (1, .ref (a 0)), (2, .ref (a2 0))]) hx hb dL_law_429 hl (k := 3) rfl (by rw [show 4 * (q + 1) = 4 * q + 4 by omega]; exact nI_add _ 4) (by decide) rfl (fun ls hl => ?_)
  refine lv_goto (tgt := 18) hx hb dL_law_432 (by decide) ?_
  exact ih _ _ _ ⟨pr, u1.1, K, X, Y, u1.2, u2, O, hpr, hW, hp1.1, hP1, hP2, hG.symm, hS, lv_sub hl [1, 2, 3, 0] rfl⟩
set_option maxHeartbeats 4000000 in
set_option maxRecDepth 100000 in
/-- the law asks both: alias -/
theorem law_alias {p : Program} {l : Launch} {e : Env} {s : State} {m : MethodId} {below : List Frame} {meth : Method} {c : Code} {b L : Nat} {xs : Nat → Int32} (hL : L ≤ 256) (C0 : lw_At p s m meth c b L xs) (D : va_G) (a : Nat → Nat) (d : Nat → ClassId) (a2 : Nat → Nat) (d2 : Nat → ClassId) (hK1 : va_K D vwCl (xT d) s) (hK2 : va_K D vwCl (mT d2) s) (q : Nat) (hlt : 4 * q + 4 ≤ L) (H : Heap) (locs : List Loc) (ls : Array Slot) (hI : lwI D a d a2 d2 (fun q : Nat => s.heap.size ≤ q) s.heap b q H locs ls) (ih : ∀ (H' : Heap) (locs' : List Loc) (ls' : Array Slot), lwI D a d a2 d2 (fun q : Nat => s.heap.size ≤ q) s.heap b (q + 1) H' locs' ls' → W p l e room_1 s m #[Value.ref b] below meth c H' locs' 14 145 (lw_Z below #[Value.ref b] s) (F0 m 18 ls' [])) : W p l e room_1 s m #[Value.ref b] below meth c H locs 14 145 (lw_Z below #[Value.ref b] s) (F0 m 225 ls []) := by
  obtain ⟨hx, hb, hr, hml, hown, hts0, hX, hbl, hlocks, hgv⟩ := id C0
  have hts : ∀ w ∈ lw_all, w.before #[Value.ref b] s = true := fun w h => hts0 w (lw_all_tbl h)
  have hA : ∀ q : Nat, s.heap.size ≤ q → (fun q : Nat => s.heap.size ≤ q) q := fun _ h => h
  have hbA : ¬ (fun q : Nat => s.heap.size ≤ q) b := Nat.not_le.mpr hbl
  obtain ⟨pr, kn, K, X, Y, σ, P, O, hpr, hW, hO, hP1, hP2, hG, hS, hl⟩ := hI
  refine lv_aload_n hx hb dL_law_225 rfl (lv_at hl 1 rfl) ?_
  refine lv_aload_n hx hb dL_law_226 rfl (lv_at hl 0 rfl) ?_
  refine lv_iload_n hx hb dL_law_227 rfl (lv_at hl 3 rfl) ?_
  refine lv_iconst (v := nI 1) hx hb dL_law_228 (by decide) ?_
  refine nv_iadd hx hb dL_law_229 ?_
  refine nv_sld hx hb hX hbl hbA hS (by omega) hL dL_law_230 ?_
  refine lv_aload_n hx hb dL_law_231 rfl (lv_at hl 0 rfl) ?_
  refine lv_iload_n hx hb dL_law_232 rfl (lv_at hl 3 rfl) ?_
  refine lv_iconst (v := nI 2) hx hb dL_law_233 (by decide) ?_
  refine nv_iadd hx hb dL_law_234 ?_
  refine nv_sld hx hb hX hbl hbA hS (by omega) hL dL_law_235 ?_
  refine cl2_Vi (n := 2) (As := [.int (xs (4 * q + 1)), .int (xs (4 * q + 2))]) (rest := []) (ci := 0) (q0 := 0) hx hb hml hown hts (mX0_alias l D a d pr kn K X Y σ (by omega) hW hO (xs (4 * q + 1)) (xs (4 * q + 2))) (lw_V q113 q114 q115 q15 q116) (by decide +kernel) rfl ⟨Nat.le_of_ble_eq_true rfl, Nat.le_of_ble_eq_true rfl⟩ ⟨Nat.le_of_ble_eq_true rfl, Nat.le_of_ble_eq_true rfl⟩ hK1 hP1 hP2 hG hS hA rfl rfl hl.1 rfl (Nat.le_of_ble_eq_true rfl) dL_law_236 (fun r1 u1 H locs hp1 hP1 hP2 hG hS => ?_)
  refine lv_aload_n hx hb dL_law_239 rfl (lv_at hl 2 rfl) ?_
  refine lv_aload_n hx hb dL_law_240 rfl (lv_at hl 0 rfl) ?_
  refine lv_iload_n hx hb dL_law_241 rfl (lv_at hl 3 rfl) ?_
  refine lv_iconst (v := nI 1) hx hb dL_law_242 (by decide) ?_
  refine nv_iadd hx hb dL_law_243 ?_
  refine nv_sld hx hb hX hbl hbA hS (by omega) hL dL_law_244 ?_
  refine lv_aload_n hx hb dL_law_245 rfl (lv_at hl 0 rfl) ?_
  refine lv_iload_n hx hb dL_law_246 rfl (lv_at hl 3 rfl) ?_
  refine lv_iconst (v := nI 2) hx hb dL_law_247 (by decide) ?_
  refine nv_iadd hx hb dL_law_248 ?_
  refine nv_sld hx hb hX hbl hbA hS (by omega) hL dL_law_249 ?_
  refine cl2_Vi (n := 2) (As := [.int (xs (4 * q + 1)), .int (xs (4 * q + 2))]) (rest := [.int r1]) (ci := 1) (q0 := 0) hx hb hml hown hts (mX1_alias l D a2 d2 (Nat.testBit pr) K X Y P O hW (xs (4 * q + 1)) (xs (4 * q + 2))) (lw_V q214 q215 q216 q16 q217) (by decide +kernel) rfl ⟨Nat.le_of_ble_eq_true rfl, Nat.le_of_ble_eq_true rfl⟩ ⟨Nat.le_of_ble_eq_true rfl, Nat.le_of_ble_eq_true rfl⟩ hK2 hP2 hP1 hG.symm hS hA rfl rfl hl.1 rfl (Nat.le_of_ble_eq_true rfl) dL_law_250 (fun r2 u2 H locs hp2 hP2 hP1 hG hS => ?_)
  have he : r1 = r2 := u_Al hp1.2 hp2
  refine lv_icmp_eq (tgt := 429) hx hb dL_law_253 (by decide) (fun _ => ?_) (fun c1 => absurd he c1)
  refine lv_iinc (v := nI (4 * (q + 1))) (lv' := [(3, .int (nI (4 * (q + 1)))), (0, .ref b), (1, .ref (a 0)), (2, .ref (a2 0))]) hx hb dL_law_429 hl (k := 3) rfl (by rw [show 4 * (q + 1) = 4 * q + 4 by omega]; exact nI_add _ 4) (by decide) rfl (fun ls hl => ?_)
  refine lv_goto (tgt := 18) hx hb dL_law_432 (by decide) ?_
  exact ih _ _ _ ⟨pr, u1.1, K, X, Y, u1.2, u2, O, hpr, hW, hp1.1, hP1, hP2, hG.symm, hS, lv_sub hl [1, 2, 3, 0] rfl⟩
set_option maxHeartbeats 4000000 in
set_option maxRecDepth 100000 in
/-- the law asks both: reach -/
theorem law_reach {p : Program} {l : Launch} {e : Env} {s : State} {m : MethodId} {below : List Frame} {meth : Method} {c : Code} {b L : Nat} {xs : Nat → Int32} (hL : L ≤ 256) (C0 : lw_At p s m meth c b L xs) (D : va_G) (a : Nat → Nat) (d : Nat → ClassId) (a2 : Nat → Nat) (d2 : Nat → ClassId) (hK1 : va_K D vwCl (xT d) s) (hK2 : va_K D vwCl (mT d2) s) (q : Nat) (hlt : 4 * q + 4 ≤ L) (H : Heap) (locs : List Loc) (ls : Array Slot) (hI : lwI D a d a2 d2 (fun q : Nat => s.heap.size ≤ q) s.heap b q H locs ls) (ih : ∀ (H' : Heap) (locs' : List Loc) (ls' : Array Slot), lwI D a d a2 d2 (fun q : Nat => s.heap.size ≤ q) s.heap b (q + 1) H' locs' ls' → W p l e room_1 s m #[Value.ref b] below meth c H' locs' 14 145 (lw_Z below #[Value.ref b] s) (F0 m 18 ls' [])) : W p l e room_1 s m #[Value.ref b] below meth c H locs 14 145 (lw_Z below #[Value.ref b] s) (F0 m 258 ls []) := by
  obtain ⟨hx, hb, hr, hml, hown, hts0, hX, hbl, hlocks, hgv⟩ := id C0
  have hts : ∀ w ∈ lw_all, w.before #[Value.ref b] s = true := fun w h => hts0 w (lw_all_tbl h)
  have hA : ∀ q : Nat, s.heap.size ≤ q → (fun q : Nat => s.heap.size ≤ q) q := fun _ h => h
  have hbA : ¬ (fun q : Nat => s.heap.size ≤ q) b := Nat.not_le.mpr hbl
  obtain ⟨pr, kn, K, X, Y, σ, P, O, hpr, hW, hO, hP1, hP2, hG, hS, hl⟩ := hI
  refine lv_aload_n hx hb dL_law_258 rfl (lv_at hl 1 rfl) ?_
  refine lv_aload_n hx hb dL_law_259 rfl (lv_at hl 0 rfl) ?_
  refine lv_iload_n hx hb dL_law_260 rfl (lv_at hl 3 rfl) ?_
  refine lv_iconst (v := nI 1) hx hb dL_law_261 (by decide) ?_
  refine nv_iadd hx hb dL_law_262 ?_
  refine nv_sld hx hb hX hbl hbA hS (by omega) hL dL_law_263 ?_
  refine cl2_Vi (n := 1) (As := [.int (xs (4 * q + 1))]) (rest := []) (ci := 0) (q0 := 0) hx hb hml hown hts (mX0_reach l D a d pr kn K X Y σ (by omega) hW hO (xs (4 * q + 1))) (lw_V q117 q118 q119 q15 q120) (by decide +kernel) rfl ⟨Nat.le_of_ble_eq_true rfl, Nat.le_of_ble_eq_true rfl⟩ ⟨Nat.le_of_ble_eq_true rfl, Nat.le_of_ble_eq_true rfl⟩ hK1 hP1 hP2 hG hS hA rfl rfl hl.1 rfl (Nat.le_of_ble_eq_true rfl) dL_law_264 (fun r1 u1 H locs hp1 hP1 hP2 hG hS => ?_)
  refine lv_aload_n hx hb dL_law_267 rfl (lv_at hl 2 rfl) ?_
  refine lv_aload_n hx hb dL_law_268 rfl (lv_at hl 0 rfl) ?_
  refine lv_iload_n hx hb dL_law_269 rfl (lv_at hl 3 rfl) ?_
  refine lv_iconst (v := nI 1) hx hb dL_law_270 (by decide) ?_
  refine nv_iadd hx hb dL_law_271 ?_
  refine nv_sld hx hb hX hbl hbA hS (by omega) hL dL_law_272 ?_
  refine cl2_Vi (n := 1) (As := [.int (xs (4 * q + 1))]) (rest := [.int r1]) (ci := 1) (q0 := 0) hx hb hml hown hts (mX1_reach l D a2 d2 (Nat.testBit pr) K X Y P O hW (xs (4 * q + 1))) (lw_V q218 q219 q220 q16 q221) (by decide +kernel) rfl ⟨Nat.le_of_ble_eq_true rfl, Nat.le_of_ble_eq_true rfl⟩ ⟨Nat.le_of_ble_eq_true rfl, Nat.le_of_ble_eq_true rfl⟩ hK2 hP2 hP1 hG.symm hS hA rfl rfl hl.1 rfl (Nat.le_of_ble_eq_true rfl) dL_law_273 (fun r2 u2 H locs hp2 hP2 hP1 hG hS => ?_)
  have he : r1 = r2 := u_Rc hp1.2 hp2
  refine lv_icmp_eq (tgt := 429) hx hb dL_law_276 (by decide) (fun _ => ?_) (fun c1 => absurd he c1)
  refine lv_iinc (v := nI (4 * (q + 1))) (lv' := [(3, .int (nI (4 * (q + 1)))), (0, .ref b), (1, .ref (a 0)), (2, .ref (a2 0))]) hx hb dL_law_429 hl (k := 3) rfl (by rw [show 4 * (q + 1) = 4 * q + 4 by omega]; exact nI_add _ 4) (by decide) rfl (fun ls hl => ?_)
  refine lv_goto (tgt := 18) hx hb dL_law_432 (by decide) ?_
  exact ih _ _ _ ⟨pr, u1.1, K, X, Y, u1.2, u2, O, hpr, hW, hp1.1, hP1, hP2, hG.symm, hS, lv_sub hl [1, 2, 3, 0] rfl⟩
set_option maxHeartbeats 4000000 in
set_option maxRecDepth 100000 in
/-- the law asks both: flows -/
theorem law_flows {p : Program} {l : Launch} {e : Env} {s : State} {m : MethodId} {below : List Frame} {meth : Method} {c : Code} {b L : Nat} {xs : Nat → Int32} (hL : L ≤ 256) (C0 : lw_At p s m meth c b L xs) (D : va_G) (a : Nat → Nat) (d : Nat → ClassId) (a2 : Nat → Nat) (d2 : Nat → ClassId) (hK1 : va_K D vwCl (xT d) s) (hK2 : va_K D vwCl (mT d2) s) (q : Nat) (hlt : 4 * q + 4 ≤ L) (H : Heap) (locs : List Loc) (ls : Array Slot) (hI : lwI D a d a2 d2 (fun q : Nat => s.heap.size ≤ q) s.heap b q H locs ls) (ih : ∀ (H' : Heap) (locs' : List Loc) (ls' : Array Slot), lwI D a d a2 d2 (fun q : Nat => s.heap.size ≤ q) s.heap b (q + 1) H' locs' ls' → W p l e room_1 s m #[Value.ref b] below meth c H' locs' 14 145 (lw_Z below #[Value.ref b] s) (F0 m 18 ls' [])) : W p l e room_1 s m #[Value.ref b] below meth c H locs 14 145 (lw_Z below #[Value.ref b] s) (F0 m 281 ls []) := by
  obtain ⟨hx, hb, hr, hml, hown, hts0, hX, hbl, hlocks, hgv⟩ := id C0
  have hts : ∀ w ∈ lw_all, w.before #[Value.ref b] s = true := fun w h => hts0 w (lw_all_tbl h)
  have hA : ∀ q : Nat, s.heap.size ≤ q → (fun q : Nat => s.heap.size ≤ q) q := fun _ h => h
  have hbA : ¬ (fun q : Nat => s.heap.size ≤ q) b := Nat.not_le.mpr hbl
  obtain ⟨pr, kn, K, X, Y, σ, P, O, hpr, hW, hO, hP1, hP2, hG, hS, hl⟩ := hI
  refine lv_aload_n hx hb dL_law_281 rfl (lv_at hl 1 rfl) ?_
  refine lv_aload_n hx hb dL_law_282 rfl (lv_at hl 0 rfl) ?_
  refine lv_iload_n hx hb dL_law_283 rfl (lv_at hl 3 rfl) ?_
  refine lv_iconst (v := nI 1) hx hb dL_law_284 (by decide) ?_
  refine nv_iadd hx hb dL_law_285 ?_
  refine nv_sld hx hb hX hbl hbA hS (by omega) hL dL_law_286 ?_
  refine lv_aload_n hx hb dL_law_287 rfl (lv_at hl 0 rfl) ?_
  refine lv_iload_n hx hb dL_law_288 rfl (lv_at hl 3 rfl) ?_
  refine lv_iconst (v := nI 2) hx hb dL_law_289 (by decide) ?_
  refine nv_iadd hx hb dL_law_290 ?_
  refine nv_sld hx hb hX hbl hbA hS (by omega) hL dL_law_291 ?_
  refine cl2_Vi (n := 2) (As := [.int (xs (4 * q + 1)), .int (xs (4 * q + 2))]) (rest := []) (ci := 0) (q0 := 0) hx hb hml hown hts (mX0_flows l D a d pr kn K X Y σ (by omega) hW hO (xs (4 * q + 1)) (xs (4 * q + 2))) (lw_V q121 q122 q123 q15 q124) (by decide +kernel) rfl ⟨Nat.le_of_ble_eq_true rfl, Nat.le_of_ble_eq_true rfl⟩ ⟨Nat.le_of_ble_eq_true rfl, Nat.le_of_ble_eq_true rfl⟩ hK1 hP1 hP2 hG hS hA rfl rfl hl.1 rfl (Nat.le_of_ble_eq_true rfl) dL_law_292 (fun r1 u1 H locs hp1 hP1 hP2 hG hS => ?_)
  refine lv_aload_n hx hb dL_law_295 rfl (lv_at hl 2 rfl) ?_
  refine lv_aload_n hx hb dL_law_296 rfl (lv_at hl 0 rfl) ?_
  refine lv_iload_n hx hb dL_law_297 rfl (lv_at hl 3 rfl) ?_
  refine lv_iconst (v := nI 1) hx hb dL_law_298 (by decide) ?_
  refine nv_iadd hx hb dL_law_299 ?_
  refine nv_sld hx hb hX hbl hbA hS (by omega) hL dL_law_300 ?_
  refine lv_aload_n hx hb dL_law_301 rfl (lv_at hl 0 rfl) ?_
  refine lv_iload_n hx hb dL_law_302 rfl (lv_at hl 3 rfl) ?_
  refine lv_iconst (v := nI 2) hx hb dL_law_303 (by decide) ?_
  refine nv_iadd hx hb dL_law_304 ?_
  refine nv_sld hx hb hX hbl hbA hS (by omega) hL dL_law_305 ?_
  refine cl2_Vi (n := 2) (As := [.int (xs (4 * q + 1)), .int (xs (4 * q + 2))]) (rest := [.int r1]) (ci := 1) (q0 := 0) hx hb hml hown hts (mX1_flows l D a2 d2 (Nat.testBit pr) K X Y P O hW (xs (4 * q + 1)) (xs (4 * q + 2))) (lw_V q226 q227 q228 q16 q229) (by decide +kernel) rfl ⟨Nat.le_of_ble_eq_true rfl, Nat.le_of_ble_eq_true rfl⟩ ⟨Nat.le_of_ble_eq_true rfl, Nat.le_of_ble_eq_true rfl⟩ hK2 hP2 hP1 hG.symm hS hA rfl rfl hl.1 rfl (Nat.le_of_ble_eq_true rfl) dL_law_306 (fun r2 u2 H locs hp2 hP2 hP1 hG hS => ?_)
  have he : r1 = r2 := u_Fl hp1.2 hp2
  refine lv_icmp_eq (tgt := 429) hx hb dL_law_309 (by decide) (fun _ => ?_) (fun c1 => absurd he c1)
  refine lv_iinc (v := nI (4 * (q + 1))) (lv' := [(3, .int (nI (4 * (q + 1)))), (0, .ref b), (1, .ref (a 0)), (2, .ref (a2 0))]) hx hb dL_law_429 hl (k := 3) rfl (by rw [show 4 * (q + 1) = 4 * q + 4 by omega]; exact nI_add _ 4) (by decide) rfl (fun ls hl => ?_)
  refine lv_goto (tgt := 18) hx hb dL_law_432 (by decide) ?_
  exact ih _ _ _ ⟨pr, u1.1, K, X, Y, u1.2, P, O, hpr, hW, hp1.1, hP1, hP2, hG.symm, hS, lv_sub hl [1, 2, 3, 0] rfl⟩
set_option maxHeartbeats 4000000 in
set_option maxRecDepth 100000 in
/-- the law asks both: total -/
theorem law_total {p : Program} {l : Launch} {e : Env} {s : State} {m : MethodId} {below : List Frame} {meth : Method} {c : Code} {b L : Nat} {xs : Nat → Int32} (hL : L ≤ 256) (C0 : lw_At p s m meth c b L xs) (D : va_G) (a : Nat → Nat) (d : Nat → ClassId) (a2 : Nat → Nat) (d2 : Nat → ClassId) (hK1 : va_K D vwCl (xT d) s) (hK2 : va_K D vwCl (mT d2) s) (q : Nat) (hlt : 4 * q + 4 ≤ L) (H : Heap) (locs : List Loc) (ls : Array Slot) (hI : lwI D a d a2 d2 (fun q : Nat => s.heap.size ≤ q) s.heap b q H locs ls) (ih : ∀ (H' : Heap) (locs' : List Loc) (ls' : Array Slot), lwI D a d a2 d2 (fun q : Nat => s.heap.size ≤ q) s.heap b (q + 1) H' locs' ls' → W p l e room_1 s m #[Value.ref b] below meth c H' locs' 14 145 (lw_Z below #[Value.ref b] s) (F0 m 18 ls' [])) : W p l e room_1 s m #[Value.ref b] below meth c H locs 14 145 (lw_Z below #[Value.ref b] s) (F0 m 314 ls []) := by
  obtain ⟨hx, hb, hr, hml, hown, hts0, hX, hbl, hlocks, hgv⟩ := id C0
  have hts : ∀ w ∈ lw_all, w.before #[Value.ref b] s = true := fun w h => hts0 w (lw_all_tbl h)
  have hA : ∀ q : Nat, s.heap.size ≤ q → (fun q : Nat => s.heap.size ≤ q) q := fun _ h => h
  have hbA : ¬ (fun q : Nat => s.heap.size ≤ q) b := Nat.not_le.mpr hbl
  obtain ⟨pr, kn, K, X, Y, σ, P, O, hpr, hW, hO, hP1, hP2, hG, hS, hl⟩ := hI
  refine lv_aload_n hx hb dL_law_314 rfl (lv_at hl 1 rfl) ?_
  refine cl2_Vi (n := 0) (As := []) (rest := []) (ci := 0) (q0 := 0) hx hb hml hown hts (mX0_total l D a d pr kn K X Y σ (by omega) hW hO ) (lw_V q125 q126 q127 q15 q128) (by decide +kernel) rfl ⟨Nat.le_of_ble_eq_true rfl, Nat.le_of_ble_eq_true rfl⟩ ⟨Nat.le_of_ble_eq_true rfl, Nat.le_of_ble_eq_true rfl⟩ hK1 hP1 hP2 hG hS hA rfl rfl hl.1 rfl (Nat.le_of_ble_eq_true rfl) dL_law_315 (fun r1 u1 H locs hp1 hP1 hP2 hG hS => ?_)
  refine lv_aload_n hx hb dL_law_318 rfl (lv_at hl 2 rfl) ?_
  refine cl2_Vi (n := 0) (As := []) (rest := [.int r1]) (ci := 1) (q0 := 0) hx hb hml hown hts (mX1_total l D a2 d2 (Nat.testBit pr) K X Y P O hW ) (lw_V q230 q231 q232 q16 q233) (by decide +kernel) rfl ⟨Nat.le_of_ble_eq_true rfl, Nat.le_of_ble_eq_true rfl⟩ ⟨Nat.le_of_ble_eq_true rfl, Nat.le_of_ble_eq_true rfl⟩ hK2 hP2 hP1 hG.symm hS hA rfl rfl hl.1 rfl (Nat.le_of_ble_eq_true rfl) dL_law_319 (fun r2 u2 H locs hp2 hP2 hP1 hG hS => ?_)
  have he : r1 = r2 := u_Tt ⟨u1.1, hp1.2.1, hp1.2.2⟩ ⟨u2, hp2.1, hp2.2⟩
  refine lv_icmp_eq (tgt := 429) hx hb dL_law_322 (by decide) (fun _ => ?_) (fun c1 => absurd he c1)
  refine lv_iinc (v := nI (4 * (q + 1))) (lv' := [(3, .int (nI (4 * (q + 1)))), (0, .ref b), (1, .ref (a 0)), (2, .ref (a2 0))]) hx hb dL_law_429 hl (k := 3) rfl (by rw [show 4 * (q + 1) = 4 * q + 4 by omega]; exact nI_add _ 4) (by decide) rfl (fun ls hl => ?_)
  refine lv_goto (tgt := 18) hx hb dL_law_432 (by decide) ?_
  exact ih _ _ _ ⟨pr, true, K, X, Y, u1, u2, O, hpr, hW, ⟨hp1.1, fun _ => hp1.2.1⟩, hP1, hP2, hG.symm, hS, lv_sub hl [1, 2, 3, 0] rfl⟩
set_option maxHeartbeats 4000000 in
set_option maxRecDepth 100000 in
/-- the law asks both: redundant -/
theorem law_redundant {p : Program} {l : Launch} {e : Env} {s : State} {m : MethodId} {below : List Frame} {meth : Method} {c : Code} {b L : Nat} {xs : Nat → Int32} (hL : L ≤ 256) (C0 : lw_At p s m meth c b L xs) (D : va_G) (a : Nat → Nat) (d : Nat → ClassId) (a2 : Nat → Nat) (d2 : Nat → ClassId) (hK1 : va_K D vwCl (xT d) s) (hK2 : va_K D vwCl (mT d2) s) (q : Nat) (hlt : 4 * q + 4 ≤ L) (H : Heap) (locs : List Loc) (ls : Array Slot) (hI : lwI D a d a2 d2 (fun q : Nat => s.heap.size ≤ q) s.heap b q H locs ls) (ih : ∀ (H' : Heap) (locs' : List Loc) (ls' : Array Slot), lwI D a d a2 d2 (fun q : Nat => s.heap.size ≤ q) s.heap b (q + 1) H' locs' ls' → W p l e room_1 s m #[Value.ref b] below meth c H' locs' 14 145 (lw_Z below #[Value.ref b] s) (F0 m 18 ls' [])) : W p l e room_1 s m #[Value.ref b] below meth c H locs 14 145 (lw_Z below #[Value.ref b] s) (F0 m 327 ls []) := by
  obtain ⟨hx, hb, hr, hml, hown, hts0, hX, hbl, hlocks, hgv⟩ := id C0
  have hts : ∀ w ∈ lw_all, w.before #[Value.ref b] s = true := fun w h => hts0 w (lw_all_tbl h)
  have hA : ∀ q : Nat, s.heap.size ≤ q → (fun q : Nat => s.heap.size ≤ q) q := fun _ h => h
  have hbA : ¬ (fun q : Nat => s.heap.size ≤ q) b := Nat.not_le.mpr hbl
  obtain ⟨pr, kn, K, X, Y, σ, P, O, hpr, hW, hO, hP1, hP2, hG, hS, hl⟩ := hI
  refine lv_aload_n hx hb dL_law_327 rfl (lv_at hl 1 rfl) ?_
  refine lv_aload_n hx hb dL_law_328 rfl (lv_at hl 0 rfl) ?_
  refine lv_iload_n hx hb dL_law_329 rfl (lv_at hl 3 rfl) ?_
  refine lv_iconst (v := nI 1) hx hb dL_law_330 (by decide) ?_
  refine nv_iadd hx hb dL_law_331 ?_
  refine nv_sld hx hb hX hbl hbA hS (by omega) hL dL_law_332 ?_
  refine cl2_Vi (n := 1) (As := [.int (xs (4 * q + 1))]) (rest := []) (ci := 0) (q0 := 0) hx hb hml hown hts (mX0_redundant l D a d pr kn K X Y σ (by omega) hW hO (xs (4 * q + 1))) (lw_V q129 q130 q131 q15 q132) (by decide +kernel) rfl ⟨Nat.le_of_ble_eq_true rfl, Nat.le_of_ble_eq_true rfl⟩ ⟨Nat.le_of_ble_eq_true rfl, Nat.le_of_ble_eq_true rfl⟩ hK1 hP1 hP2 hG hS hA rfl rfl hl.1 rfl (Nat.le_of_ble_eq_true rfl) dL_law_333 (fun r1 u1 H locs hp1 hP1 hP2 hG hS => ?_)
  refine lv_aload_n hx hb dL_law_336 rfl (lv_at hl 2 rfl) ?_
  refine lv_aload_n hx hb dL_law_337 rfl (lv_at hl 0 rfl) ?_
  refine lv_iload_n hx hb dL_law_338 rfl (lv_at hl 3 rfl) ?_
  refine lv_iconst (v := nI 1) hx hb dL_law_339 (by decide) ?_
  refine nv_iadd hx hb dL_law_340 ?_
  refine nv_sld hx hb hX hbl hbA hS (by omega) hL dL_law_341 ?_
  refine cl2_Vi (n := 1) (As := [.int (xs (4 * q + 1))]) (rest := [.int r1]) (ci := 1) (q0 := 0) hx hb hml hown hts (mX1_redundant l D a2 d2 (Nat.testBit pr) K X Y P O hW (xs (4 * q + 1))) (lw_V q234 q235 q236 q16 q237) (by decide +kernel) rfl ⟨Nat.le_of_ble_eq_true rfl, Nat.le_of_ble_eq_true rfl⟩ ⟨Nat.le_of_ble_eq_true rfl, Nat.le_of_ble_eq_true rfl⟩ hK2 hP2 hP1 hG.symm hS hA rfl rfl hl.1 rfl (Nat.le_of_ble_eq_true rfl) dL_law_342 (fun r2 u2 H locs hp2 hP2 hP1 hG hS => ?_)
  have he : r1 = r2 := u_Rd hp1.2 hp2
  refine lv_icmp_eq (tgt := 429) hx hb dL_law_345 (by decide) (fun _ => ?_) (fun c1 => absurd he c1)
  refine lv_iinc (v := nI (4 * (q + 1))) (lv' := [(3, .int (nI (4 * (q + 1)))), (0, .ref b), (1, .ref (a 0)), (2, .ref (a2 0))]) hx hb dL_law_429 hl (k := 3) rfl (by rw [show 4 * (q + 1) = 4 * q + 4 by omega]; exact nI_add _ 4) (by decide) rfl (fun ls hl => ?_)
  refine lv_goto (tgt := 18) hx hb dL_law_432 (by decide) ?_
  exact ih _ _ _ ⟨pr, u1.1, K, X, Y, u1.2, u2.1, u2.2, hpr, hW, hp1.1, hP1, hP2, hG.symm, hS, lv_sub hl [1, 2, 3, 0] rfl⟩
set_option maxHeartbeats 4000000 in
set_option maxRecDepth 100000 in
/-- the law asks both: gain -/
theorem law_gain {p : Program} {l : Launch} {e : Env} {s : State} {m : MethodId} {below : List Frame} {meth : Method} {c : Code} {b L : Nat} {xs : Nat → Int32} (hL : L ≤ 256) (C0 : lw_At p s m meth c b L xs) (D : va_G) (a : Nat → Nat) (d : Nat → ClassId) (a2 : Nat → Nat) (d2 : Nat → ClassId) (hK1 : va_K D vwCl (xT d) s) (hK2 : va_K D vwCl (mT d2) s) (q : Nat) (hlt : 4 * q + 4 ≤ L) (H : Heap) (locs : List Loc) (ls : Array Slot) (hI : lwI D a d a2 d2 (fun q : Nat => s.heap.size ≤ q) s.heap b q H locs ls) (ih : ∀ (H' : Heap) (locs' : List Loc) (ls' : Array Slot), lwI D a d a2 d2 (fun q : Nat => s.heap.size ≤ q) s.heap b (q + 1) H' locs' ls' → W p l e room_1 s m #[Value.ref b] below meth c H' locs' 14 145 (lw_Z below #[Value.ref b] s) (F0 m 18 ls' [])) : W p l e room_1 s m #[Value.ref b] below meth c H locs 14 145 (lw_Z below #[Value.ref b] s) (F0 m 350 ls []) := by
  obtain ⟨hx, hb, hr, hml, hown, hts0, hX, hbl, hlocks, hgv⟩ := id C0
  have hts : ∀ w ∈ lw_all, w.before #[Value.ref b] s = true := fun w h => hts0 w (lw_all_tbl h)
  have hA : ∀ q : Nat, s.heap.size ≤ q → (fun q : Nat => s.heap.size ≤ q) q := fun _ h => h
  have hbA : ¬ (fun q : Nat => s.heap.size ≤ q) b := Nat.not_le.mpr hbl
  obtain ⟨pr, kn, K, X, Y, σ, P, O, hpr, hW, hO, hP1, hP2, hG, hS, hl⟩ := hI
  refine lv_aload_n hx hb dL_law_350 rfl (lv_at hl 1 rfl) ?_
  refine lv_aload_n hx hb dL_law_351 rfl (lv_at hl 0 rfl) ?_
  refine lv_iload_n hx hb dL_law_352 rfl (lv_at hl 3 rfl) ?_
  refine lv_iconst (v := nI 1) hx hb dL_law_353 (by decide) ?_
  refine nv_iadd hx hb dL_law_354 ?_
  refine nv_sld hx hb hX hbl hbA hS (by omega) hL dL_law_355 ?_
  refine lv_aload_n hx hb dL_law_356 rfl (lv_at hl 0 rfl) ?_
  refine lv_iload_n hx hb dL_law_357 rfl (lv_at hl 3 rfl) ?_
  refine lv_iconst (v := nI 2) hx hb dL_law_358 (by decide) ?_
  refine nv_iadd hx hb dL_law_359 ?_
  refine nv_sld hx hb hX hbl hbA hS (by omega) hL dL_law_360 ?_
  refine lv_aload_n hx hb dL_law_361 rfl (lv_at hl 0 rfl) ?_
  refine lv_iload_n hx hb dL_law_362 rfl (lv_at hl 3 rfl) ?_
  refine lv_iconst (v := nI 3) hx hb dL_law_363 (by decide) ?_
  refine nv_iadd hx hb dL_law_364 ?_
  refine nv_sld hx hb hX hbl hbA hS (by omega) hL dL_law_365 ?_
  refine cl2_Vi (n := 3) (As := [.int (xs (4 * q + 1)), .int (xs (4 * q + 2)), .int (xs (4 * q + 3))]) (rest := []) (ci := 0) (q0 := 0) hx hb hml hown hts (mX0_gain l D a d pr kn K X Y σ hpr hW hO (xs (4 * q + 1)) (xs (4 * q + 2)) (xs (4 * q + 3))) (lw_V q134 q135 q136 q15 q137) (by decide +kernel) rfl ⟨Nat.le_of_ble_eq_true rfl, Nat.le_of_ble_eq_true rfl⟩ ⟨Nat.le_of_ble_eq_true rfl, Nat.le_of_ble_eq_true rfl⟩ hK1 hP1 hP2 hG hS hA rfl rfl hl.1 rfl (Nat.le_of_ble_eq_true rfl) dL_law_366 (fun r1 u1 H locs hp1 hP1 hP2 hG hS => ?_)
  refine lv_aload_n hx hb dL_law_369 rfl (lv_at hl 2 rfl) ?_
  refine lv_aload_n hx hb dL_law_370 rfl (lv_at hl 0 rfl) ?_
  refine lv_iload_n hx hb dL_law_371 rfl (lv_at hl 3 rfl) ?_
  refine lv_iconst (v := nI 1) hx hb dL_law_372 (by decide) ?_
  refine nv_iadd hx hb dL_law_373 ?_
  refine nv_sld hx hb hX hbl hbA hS (by omega) hL dL_law_374 ?_
  refine lv_aload_n hx hb dL_law_375 rfl (lv_at hl 0 rfl) ?_
  refine lv_iload_n hx hb dL_law_376 rfl (lv_at hl 3 rfl) ?_
  refine lv_iconst (v := nI 2) hx hb dL_law_377 (by decide) ?_
  refine nv_iadd hx hb dL_law_378 ?_
  refine nv_sld hx hb hX hbl hbA hS (by omega) hL dL_law_379 ?_
  refine lv_aload_n hx hb dL_law_380 rfl (lv_at hl 0 rfl) ?_
  refine lv_iload_n hx hb dL_law_381 rfl (lv_at hl 3 rfl) ?_
  refine lv_iconst (v := nI 3) hx hb dL_law_382 (by decide) ?_
  refine nv_iadd hx hb dL_law_383 ?_
  refine nv_sld hx hb hX hbl hbA hS (by omega) hL dL_law_384 ?_
  refine cl2_Vi (n := 3) (As := [.int (xs (4 * q + 1)), .int (xs (4 * q + 2)), .int (xs (4 * q + 3))]) (rest := [.int r1]) (ci := 1) (q0 := 0) hx hb hml hown hts (mX1_gain l D a2 d2 (Nat.testBit pr) K X Y P O hW (Nat.testBit_lt_two_pow (by omega)) (xs (4 * q + 1)) (xs (4 * q + 2)) (xs (4 * q + 3))) (lw_V q238 q239 q240 q16 q241) (by decide +kernel) rfl ⟨Nat.le_of_ble_eq_true rfl, Nat.le_of_ble_eq_true rfl⟩ ⟨Nat.le_of_ble_eq_true rfl, Nat.le_of_ble_eq_true rfl⟩ hK2 hP2 hP1 hG.symm hS hA rfl rfl hl.1 rfl (Nat.le_of_ble_eq_true rfl) dL_law_385 (fun r2 u2 H locs hp2 hP2 hP1 hG hS => ?_)
  obtain ⟨o1, k1, τ⟩ := u1
  obtain ⟨o2, P2⟩ := u2
  obtain ⟨hp1, hB1, hk1⟩ : rGn (Nat.testBit pr) K X Y (xs (4 * q + 1)) (xs (4 * q + 2)) (xs (4 * q + 3)) r1 o1 ∧ zBn τ ∧ (k1 = true → o1 = none ∧ zSol (Nat.testBit pr) K X Y τ.1) := hp1
  obtain ⟨he, hu⟩ : r1 = r2 ∧ o1 = o2 := u_Gn hp1 hp2
  subst hu
  refine lv_icmp_eq (tgt := 429) hx hb dL_law_388 (by decide) (fun _ => ?_) (fun c1 => absurd he c1)
  refine lv_iinc (v := nI (4 * (q + 1))) (lv' := [(3, .int (nI (4 * (q + 1)))), (0, .ref b), (1, .ref (a 0)), (2, .ref (a2 0))]) hx hb dL_law_429 hl (k := 3) rfl (by rw [show 4 * (q + 1) = 4 * q + 4 by omega]; exact nI_add _ 4) (by decide) rfl (fun ls hl => ?_)
  refine lv_goto (tgt := 18) hx hb dL_law_432 (by decide) ?_
  rcases o1 with _ | ⟨n1, n2, n3⟩
  · exact ih _ _ _ ⟨pr, k1, K, X, Y, τ, P2, O, hpr, hW, ⟨hB1, fun h => (hk1 h).2⟩, hP1, hP2, hG.symm, hS, lv_sub hl [1, 2, 3, 0] rfl⟩
  · obtain ⟨w1, w2, w3⟩ := gn_some hp1
    exact ih _ _ _ ⟨pr, k1, va_up K 12 n1, va_up X 12 n2, va_up Y 12 n3, τ, P2, O, hpr, zWF_up hW w1 w2 w3, ⟨hB1, fun h => by cases (hk1 h).1⟩, hP1, hP2, hG.symm, hS, lv_sub hl [1, 2, 3, 0] rfl⟩
set_option maxHeartbeats 4000000 in
set_option maxRecDepth 100000 in
/-- the law asks both: cyclic -/
theorem law_cyclic {p : Program} {l : Launch} {e : Env} {s : State} {m : MethodId} {below : List Frame} {meth : Method} {c : Code} {b L : Nat} {xs : Nat → Int32} (hL : L ≤ 256) (C0 : lw_At p s m meth c b L xs) (D : va_G) (a : Nat → Nat) (d : Nat → ClassId) (a2 : Nat → Nat) (d2 : Nat → ClassId) (hK1 : va_K D vwCl (xT d) s) (hK2 : va_K D vwCl (mT d2) s) (q : Nat) (hlt : 4 * q + 4 ≤ L) (H : Heap) (locs : List Loc) (ls : Array Slot) (hI : lwI D a d a2 d2 (fun q : Nat => s.heap.size ≤ q) s.heap b q H locs ls) (ih : ∀ (H' : Heap) (locs' : List Loc) (ls' : Array Slot), lwI D a d a2 d2 (fun q : Nat => s.heap.size ≤ q) s.heap b (q + 1) H' locs' ls' → W p l e room_1 s m #[Value.ref b] below meth c H' locs' 14 145 (lw_Z below #[Value.ref b] s) (F0 m 18 ls' [])) : W p l e room_1 s m #[Value.ref b] below meth c H locs 14 145 (lw_Z below #[Value.ref b] s) (F0 m 393 ls []) := by
  obtain ⟨hx, hb, hr, hml, hown, hts0, hX, hbl, hlocks, hgv⟩ := id C0
  have hts : ∀ w ∈ lw_all, w.before #[Value.ref b] s = true := fun w h => hts0 w (lw_all_tbl h)
  have hA : ∀ q : Nat, s.heap.size ≤ q → (fun q : Nat => s.heap.size ≤ q) q := fun _ h => h
  have hbA : ¬ (fun q : Nat => s.heap.size ≤ q) b := Nat.not_le.mpr hbl
  obtain ⟨pr, kn, K, X, Y, σ, P, O, hpr, hW, hO, hP1, hP2, hG, hS, hl⟩ := hI
  refine lv_aload_n hx hb dL_law_393 rfl (lv_at hl 1 rfl) ?_
  refine cl2_Vi (n := 0) (As := []) (rest := []) (ci := 0) (q0 := 0) hx hb hml hown hts (mX0_cyclic l D a d pr kn K X Y σ (by omega) hW hO ) (lw_V q138 q139 q140 q15 q141) (by decide +kernel) rfl ⟨Nat.le_of_ble_eq_true rfl, Nat.le_of_ble_eq_true rfl⟩ ⟨Nat.le_of_ble_eq_true rfl, Nat.le_of_ble_eq_true rfl⟩ hK1 hP1 hP2 hG hS hA rfl rfl hl.1 rfl (Nat.le_of_ble_eq_true rfl) dL_law_394 (fun r1 u1 H locs hp1 hP1 hP2 hG hS => ?_)
  refine lv_aload_n hx hb dL_law_397 rfl (lv_at hl 2 rfl) ?_
  refine cl2_Vi (n := 0) (As := []) (rest := [.int r1]) (ci := 1) (q0 := 0) hx hb hml hown hts (mX1_cyclic l D a2 d2 (Nat.testBit pr) K X Y P O hW ) (lw_V q243 q244 q245 q16 q246) (by decide +kernel) rfl ⟨Nat.le_of_ble_eq_true rfl, Nat.le_of_ble_eq_true rfl⟩ ⟨Nat.le_of_ble_eq_true rfl, Nat.le_of_ble_eq_true rfl⟩ hK2 hP2 hP1 hG.symm hS hA rfl rfl hl.1 rfl (Nat.le_of_ble_eq_true rfl) dL_law_398 (fun r2 u2 H locs hp2 hP2 hP1 hG hS => ?_)
  have he : r1 = r2 := u_Cy hp1.2 hp2
  refine lv_icmp_eq (tgt := 429) hx hb dL_law_401 (by decide) (fun _ => ?_) (fun c1 => absurd he c1)
  refine lv_iinc (v := nI (4 * (q + 1))) (lv' := [(3, .int (nI (4 * (q + 1)))), (0, .ref b), (1, .ref (a 0)), (2, .ref (a2 0))]) hx hb dL_law_429 hl (k := 3) rfl (by rw [show 4 * (q + 1) = 4 * q + 4 by omega]; exact nI_add _ 4) (by decide) rfl (fun ls hl => ?_)
  refine lv_goto (tgt := 18) hx hb dL_law_432 (by decide) ?_
  exact ih _ _ _ ⟨pr, u1.1, K, X, Y, u1.2, u2, O, hpr, hW, hp1.1, hP1, hP2, hG.symm, hS, lv_sub hl [1, 2, 3, 0] rfl⟩
set_option maxHeartbeats 4000000 in
set_option maxRecDepth 100000 in
/-- the law asks both: twins -/
theorem law_twins {p : Program} {l : Launch} {e : Env} {s : State} {m : MethodId} {below : List Frame} {meth : Method} {c : Code} {b L : Nat} {xs : Nat → Int32} (hL : L ≤ 256) (C0 : lw_At p s m meth c b L xs) (D : va_G) (a : Nat → Nat) (d : Nat → ClassId) (a2 : Nat → Nat) (d2 : Nat → ClassId) (hK1 : va_K D vwCl (xT d) s) (hK2 : va_K D vwCl (mT d2) s) (q : Nat) (hlt : 4 * q + 4 ≤ L) (H : Heap) (locs : List Loc) (ls : Array Slot) (hI : lwI D a d a2 d2 (fun q : Nat => s.heap.size ≤ q) s.heap b q H locs ls) (ih : ∀ (H' : Heap) (locs' : List Loc) (ls' : Array Slot), lwI D a d a2 d2 (fun q : Nat => s.heap.size ≤ q) s.heap b (q + 1) H' locs' ls' → W p l e room_1 s m #[Value.ref b] below meth c H' locs' 14 145 (lw_Z below #[Value.ref b] s) (F0 m 18 ls' [])) : W p l e room_1 s m #[Value.ref b] below meth c H locs 14 145 (lw_Z below #[Value.ref b] s) (F0 m 406 ls []) := by
  obtain ⟨hx, hb, hr, hml, hown, hts0, hX, hbl, hlocks, hgv⟩ := id C0
  have hts : ∀ w ∈ lw_all, w.before #[Value.ref b] s = true := fun w h => hts0 w (lw_all_tbl h)
  have hA : ∀ q : Nat, s.heap.size ≤ q → (fun q : Nat => s.heap.size ≤ q) q := fun _ h => h
  have hbA : ¬ (fun q : Nat => s.heap.size ≤ q) b := Nat.not_le.mpr hbl
  obtain ⟨pr, kn, K, X, Y, σ, P, O, hpr, hW, hO, hP1, hP2, hG, hS, hl⟩ := hI
  refine lv_aload_n hx hb dL_law_406 rfl (lv_at hl 1 rfl) ?_
  refine lv_aload_n hx hb dL_law_407 rfl (lv_at hl 0 rfl) ?_
  refine lv_iload_n hx hb dL_law_408 rfl (lv_at hl 3 rfl) ?_
  refine lv_iconst (v := nI 1) hx hb dL_law_409 (by decide) ?_
  refine nv_iadd hx hb dL_law_410 ?_
  refine nv_sld hx hb hX hbl hbA hS (by omega) hL dL_law_411 ?_
  refine cl2_Vi (n := 1) (As := [.int (xs (4 * q + 1))]) (rest := []) (ci := 0) (q0 := 0) hx hb hml hown hts (mX0_twins l D a d pr kn K X Y σ (by omega) hW hO (xs (4 * q + 1))) (lw_V q143 q144 q145 q15 q146) (by decide +kernel) rfl ⟨Nat.le_of_ble_eq_true rfl, Nat.le_of_ble_eq_true rfl⟩ ⟨Nat.le_of_ble_eq_true rfl, Nat.le_of_ble_eq_true rfl⟩ hK1 hP1 hP2 hG hS hA rfl rfl hl.1 rfl (Nat.le_of_ble_eq_true rfl) dL_law_412 (fun r1 u1 H locs hp1 hP1 hP2 hG hS => ?_)
  refine lv_aload_n hx hb dL_law_415 rfl (lv_at hl 2 rfl) ?_
  refine lv_aload_n hx hb dL_law_416 rfl (lv_at hl 0 rfl) ?_
  refine lv_iload_n hx hb dL_law_417 rfl (lv_at hl 3 rfl) ?_
  refine lv_iconst (v := nI 1) hx hb dL_law_418 (by decide) ?_
  refine nv_iadd hx hb dL_law_419 ?_
  refine nv_sld hx hb hX hbl hbA hS (by omega) hL dL_law_420 ?_
  refine cl2_Vi (n := 1) (As := [.int (xs (4 * q + 1))]) (rest := [.int r1]) (ci := 1) (q0 := 0) hx hb hml hown hts (mX1_twins l D a2 d2 (Nat.testBit pr) K X Y P O hW (xs (4 * q + 1))) (lw_V q247 q248 q249 q16 q250) (by decide +kernel) rfl ⟨Nat.le_of_ble_eq_true rfl, Nat.le_of_ble_eq_true rfl⟩ ⟨Nat.le_of_ble_eq_true rfl, Nat.le_of_ble_eq_true rfl⟩ hK2 hP2 hP1 hG.symm hS hA rfl rfl hl.1 rfl (Nat.le_of_ble_eq_true rfl) dL_law_421 (fun r2 u2 H locs hp2 hP2 hP1 hG hS => ?_)
  have he : r1 = r2 := u_Tw hp1.2 hp2
  refine lv_icmp_eq (tgt := 429) hx hb dL_law_424 (by decide) (fun _ => ?_) (fun c1 => absurd he c1)
  refine lv_iinc (v := nI (4 * (q + 1))) (lv' := [(3, .int (nI (4 * (q + 1)))), (0, .ref b), (1, .ref (a 0)), (2, .ref (a2 0))]) hx hb dL_law_429 hl (k := 3) rfl (by rw [show 4 * (q + 1) = 4 * q + 4 by omega]; exact nI_add _ 4) (by decide) rfl (fun ls hl => ?_)
  refine lv_goto (tgt := 18) hx hb dL_law_432 (by decide) ?_
  exact ih _ _ _ ⟨pr, u1.1, K, X, Y, u1.2, u2, O, hpr, hW, hp1.1, hP1, hP2, hG.symm, hS, lv_sub hl [1, 2, 3, 0] rfl⟩
end
section
set_option maxRecDepth 100000
set_option maxHeartbeats 4000000 in
set_option maxRecDepth 100000 in
/-- the law's loop, at its head -/
theorem law_loop {p : Program} {l : Launch} {e : Env} {s : State} {m : MethodId} {below : List Frame} {meth : Method} {c : Code} {b L : Nat} {xs : Nat → Int32} (hL : L ≤ 256) (C0 : lw_At p s m meth c b L xs) (D : va_G) (a : Nat → Nat) (d : Nat → ClassId) (a2 : Nat → Nat) (d2 : Nat → ClassId) (hK1 : va_K D vwCl (xT d) s) (hK2 : va_K D vwCl (mT d2) s) (H : Heap) (locs : List Loc) (ls : Array Slot) (h0 : lwI D a d a2 d2 (fun q : Nat => s.heap.size ≤ q) s.heap b 0 H locs ls) : W p l e room_1 s m #[Value.ref b] below meth c H locs 14 145 (lw_Z below #[Value.ref b] s) (F0 m 18 ls []) := by
  obtain ⟨hx, hb, hr, hml, hown, hts0, hX, hbl, hlocks, hgv⟩ := id C0
  have hts : ∀ w ∈ lw_all, w.before #[Value.ref b] s = true := fun w h => hts0 w (lw_all_tbl h)
  have hA : ∀ q : Nat, s.heap.size ≤ q → (fun q : Nat => s.heap.size ≤ q) q := fun _ h => h
  have hbA : ¬ (fun q : Nat => s.heap.size ≤ q) b := Nat.not_le.mpr hbl
  have hdone : ∀ (H : Heap) (locs : List Loc) (ls : Array Slot), va_S (fun q : Nat => s.heap.size ≤ q) s.heap H locs → W p l e room_1 s m #[Value.ref b] below meth c H locs 14 145 (lw_Z below #[Value.ref b] s) (F0 m 435 ls []) := by
    intro H locs ls hS
    refine lv_iconst (v := 1) hx hb dL_law_435 (by decide) ?_
    refine va_forget (fun q hq => hS.2.2 q hq) ?_
    refine W.widen (k := 600000) (n := 7290000) (Nat.le_of_ble_eq_true rfl) (Nat.le_of_ble_eq_true rfl) ?_
    exact lw_ret hx hb hr hlocks dL_law_436
  refine wl_up (pc := 18) 65 (fun q H locs ls => lwI D a d a2 d2 (fun q : Nat => s.heap.size ≤ q) s.heap b q H locs ls) ?_ ?_ 0 (by omega) _ _ _ h0
  · intro q hq H locs ls hI ih
    have hI0 := hI
    obtain ⟨pr, kn, K, X, Y, σ, P, O, hpr, hW, hO, hP1, hP2, hG, hS, hl⟩ := hI
    refine lv_iload_n hx hb dL_law_18 rfl (lv_at hl 3 rfl) ?_
    refine lv_aload_n hx hb dL_law_19 rfl (lv_at hl 0 rfl) ?_
    refine va_slen hx hb hX hbl hbA hS dL_law_20 ?_
    refine lv_iconst (v := nI 4) hx hb dL_law_21 (by decide) ?_
    refine lv_isub hx hb dL_law_22 ?_
    refine lv_icmp_gt (tgt := 435) hx hb dL_law_23 (by decide) (fun _ => hdone _ _ _ hS) (fun c0 => ?_)
    have hlt : 4 * q + 4 ≤ L := lw_cmp hL (by omega) c0
    refine lv_aload_n hx hb dL_law_26 rfl (lv_at hl 0 rfl) ?_
    refine lv_iload_n hx hb dL_law_27 rfl (lv_at hl 3 rfl) ?_
    refine nv_sld hx hb hX hbl hbA hS (by omega) hL dL_law_28 ?_
    refine lv_bipush (v := 15) hx hb dL_law_29 (by decide) ?_
    refine lv_iand hx hb dL_law_31 ?_
    obtain ⟨j, hj, ej⟩ := pk_andE (xs (4 * q)) (m := 15) 4 (by decide)
    rw [ej]
    have hj2 : j = 0 ∨ j = 1 ∨ j = 2 ∨ j = 3 ∨ j = 4 ∨ j = 5 ∨ j = 6 ∨ j = 7 ∨ j = 8 ∨ j = 9 ∨ j = 10 ∨ j = 11 ∨ j = 12 ∨ 13 ≤ j := by omega
    rcases hj2 with rfl | rfl | rfl | rfl | rfl | rfl | rfl | rfl | rfl | rfl | rfl | rfl | rfl | h13
    · refine lv_tableIn (off := 68) (tgt := 100) hx hb dL_law_32 (by decide) (by decide) (by decide) (by decide) ?_
      exact law_add hL C0 D a d a2 d2 hK1 hK2 q hlt _ _ _ hI0 ih
    · refine lv_tableIn (off := 111) (tgt := 143) hx hb dL_law_32 (by decide) (by decide) (by decide) (by decide) ?_
      exact law_remove hL C0 D a d a2 d2 hK1 hK2 q hlt _ _ _ hI0 ih
    · refine lv_tableIn (off := 134) (tgt := 166) hx hb dL_law_32 (by decide) (by decide) (by decide) (by decide) ?_
      exact law_statements hL C0 D a d a2 d2 hK1 hK2 q hlt _ _ _ hI0 ih
    · refine lv_tableIn (off := 147) (tgt := 179) hx hb dL_law_32 (by decide) (by decide) (by decide) (by decide) ?_
      exact law_pointsTo hL C0 D a d a2 d2 hK1 hK2 q hlt _ _ _ hI0 ih
    · refine lv_tableIn (off := 170) (tgt := 202) hx hb dL_law_32 (by decide) (by decide) (by decide) (by decide) ?_
      exact law_pointedBy hL C0 D a d a2 d2 hK1 hK2 q hlt _ _ _ hI0 ih
    · refine lv_tableIn (off := 193) (tgt := 225) hx hb dL_law_32 (by decide) (by decide) (by decide) (by decide) ?_
      exact law_alias hL C0 D a d a2 d2 hK1 hK2 q hlt _ _ _ hI0 ih
    · refine lv_tableIn (off := 226) (tgt := 258) hx hb dL_law_32 (by decide) (by decide) (by decide) (by decide) ?_
      exact law_reach hL C0 D a d a2 d2 hK1 hK2 q hlt _ _ _ hI0 ih
    · refine lv_tableIn (off := 249) (tgt := 281) hx hb dL_law_32 (by decide) (by decide) (by decide) (by decide) ?_
      exact law_flows hL C0 D a d a2 d2 hK1 hK2 q hlt _ _ _ hI0 ih
    · refine lv_tableIn (off := 282) (tgt := 314) hx hb dL_law_32 (by decide) (by decide) (by decide) (by decide) ?_
      exact law_total hL C0 D a d a2 d2 hK1 hK2 q hlt _ _ _ hI0 ih
    · refine lv_tableIn (off := 295) (tgt := 327) hx hb dL_law_32 (by decide) (by decide) (by decide) (by decide) ?_
      exact law_redundant hL C0 D a d a2 d2 hK1 hK2 q hlt _ _ _ hI0 ih
    · refine lv_tableIn (off := 318) (tgt := 350) hx hb dL_law_32 (by decide) (by decide) (by decide) (by decide) ?_
      exact law_gain hL C0 D a d a2 d2 hK1 hK2 q hlt _ _ _ hI0 ih
    · refine lv_tableIn (off := 361) (tgt := 393) hx hb dL_law_32 (by decide) (by decide) (by decide) (by decide) ?_
      exact law_cyclic hL C0 D a d a2 d2 hK1 hK2 q hlt _ _ _ hI0 ih
    · refine lv_tableIn (off := 374) (tgt := 406) hx hb dL_law_32 (by decide) (by decide) (by decide) (by decide) ?_
      exact law_twins hL C0 D a d a2 d2 hK1 hK2 q hlt _ _ _ hI0 ih
    · refine lv_tableOut (tgt := 429) hx hb dL_law_32 (Or.inr (by rw [nI_toInt (by omega)]; omega)) (by decide) ?_
      refine lv_iinc (v := nI (4 * (q + 1))) (lv' := [(3, .int (nI (4 * (q + 1)))), (0, .ref b), (1, .ref (a 0)), (2, .ref (a2 0))]) hx hb dL_law_429 hl (k := 3) rfl (by rw [show 4 * (q + 1) = 4 * q + 4 by omega]; exact nI_add _ 4) (by decide) rfl (fun ls hl => ?_)
      refine lv_goto (tgt := 18) hx hb dL_law_432 (by decide) ?_
      exact ih _ _ _ ⟨pr, kn, K, X, Y, σ, P, O, hpr, hW, hO, hP1, hP2, hG, hS, lv_sub hl [1, 2, 3, 0] rfl⟩
  · intro H locs ls hI
    obtain ⟨pr, kn, K, X, Y, σ, P, O, hpr, hW, hO, hP1, hP2, hG, hS, hl⟩ := hI
    refine lv_iload_n hx hb dL_law_18 rfl (lv_at hl 3 rfl) ?_
    refine lv_aload_n hx hb dL_law_19 rfl (lv_at hl 0 rfl) ?_
    refine va_slen hx hb hX hbl hbA hS dL_law_20 ?_
    refine lv_iconst (v := nI 4) hx hb dL_law_21 (by decide) ?_
    refine lv_isub hx hb dL_law_22 ?_
    refine lv_icmp_gt (tgt := 435) hx hb dL_law_23 (by decide) (fun _ => hdone _ _ _ hS) (fun c0 => ?_)
    have hlt : 4 * 65 + 4 ≤ L := lw_cmp hL (by omega) c0
    omega
end
section
set_option maxRecDepth 100000
theorem gD_of {A : Nat → Prop} {w1 w2 : va_W} (h : va_D A (w1 ++ w2)) : gD A w1 w2 := by
  have l1 : ∀ i p, w1[i]? = some p → (w1 ++ w2)[i]? = some p := fun i p hp => by rw [List.getElem?_append_left (List.getElem?_eq_some_iff.mp hp).1]; exact hp
  have l2 : ∀ j q, w2[j]? = some q → (w1 ++ w2)[w1.length + j]? = some q := fun j q hq => by rw [List.getElem?_append_right (by omega), show w1.length + j - w1.length = j by omega]; exact hq
  refine ⟨⟨fun i j p q hi hj e => h.1 i j p q (l1 i p hi) (l1 j q hj) e, fun k q hk => h.2 k q (l1 k q hk)⟩, ⟨fun i j p q hi hj e => by have := h.1 _ _ p q (l2 i p hi) (l2 j q hj) e; omega, fun k q hk => h.2 _ q (l2 k q hk)⟩, fun i j p q hp hq e => ?_⟩
  have h1 := h.1 _ _ p q (l1 i p hp) (l2 j q hq) e
  have h2 := (List.getElem?_eq_some_iff.mp hp).1
  omega
set_option maxHeartbeats 4000000 in
set_option maxRecDepth 100000 in
/-- THE LAW, from its entry -/
theorem whole_start {p : Program} {e : Env} {s : State} {m : MethodId} {below : List Frame} {meth : Method} {c : Code} (l : Launch) {b L : Nat} {xs : Nat → Int32} (hL : L ≤ 256) (C0 : lw_At p s m meth c b L xs) : W p l e room_1 s m #[Value.ref b] below meth c s.heap [] 0 0 (lw_Z below #[Value.ref b] s) (entryFrame m ([Value.ref b] : List Value).toArray 4) := by
  obtain ⟨hx, hb, hr, hml, hown, hts0, hX, hbl, hlocks, hgv⟩ := id C0
  have hts : ∀ w ∈ lw_all, w.before #[Value.ref b] s = true := fun w h => hts0 w (lw_all_tbl h)
  have hA : ∀ q : Nat, s.heap.size ≤ q → (fun q : Nat => s.heap.size ≤ q) q := fun _ h => h
  obtain ⟨c0, iS0, hKn0⟩ := u_known (C := RX0) (T := TX0) (N := 8) (n := 8) hts0 (fun w h => lw_all_tbl (in_X0 w h)) (hts0 _ (lw_all_tbl q18))
  obtain ⟨c1, iS1, hKn1⟩ := u_known (C := RX1) (T := TX1) (N := 6) (n := 6) hts0 (fun w h => lw_all_tbl (in_X1 w h)) (hts0 _ (lw_all_tbl q148))
  obtain ⟨D, hKc⟩ : ∃ (D : va_G), ∀ (k : Nat) (q : vw_C), vwCl[k]? = some q → u_Kn s q.1 q.2.1 q.2.2 (D.1 k) (D.2 k) := by
    refine ⟨(fun k => if k = 0 then c0 else c1, fun k => if k = 0 then iS0 else iS1), ?_⟩
    intro k q hq
    match k, hq with
    | 0, hq => cases hq; exact hKn0
    | 1, hq => cases hq; exact hKn1
    | k + 2, hq => simp [vwCl] at hq
  have hS : va_S (fun q : Nat => s.heap.size ≤ q) s.heap s.heap [] := va_S.rf
  have hK : va_K D vwCl [] s := ⟨hKc, fun k q h => by simp at h⟩
  have hP : va_P D vwCl [] s.heap := fun k q h => by simp at h
  have hD : va_D (fun q : Nat => s.heap.size ≤ q) [] := ⟨fun i j p q h => by simp at h, fun k q h => by simp at h⟩
  have hl := lv_entry ([.ref b]) (n := 4) (Nat.le_of_ble_eq_true rfl)
  rw [lg_entry_eq]
  generalize (lg_sl ([.ref b]) ++ List.replicate (4 - (lg_sl ([.ref b])).length) Slot.unset).toArray = ls at hl ⊢
  have hl : lv_has ls 4 [(0, .ref b)] := hl
  refine va_new (ci := 0) (fs := [.int (nI 0), .null, .null, .null, .int (bI false), .null, .null, .null]) (C := RX0) (T := TX0) (N := 8) hx hb hts in_X0 tyX0 tyX0_ok hown (hts _ q17) (hts _ q18) (hts _ q15) hK hP hD hS hA rfl (fun j hj => by rcases (show j = 0 ∨ j = 1 ∨ j = 2 ∨ j = 3 ∨ j = 4 ∨ j = 5 ∨ j = 6 ∨ j = 7 by omega) with rfl | rfl | rfl | rfl | rfl | rfl | rfl | rfl <;> rfl) (Nat.le_of_ble_eq_true rfl) (Nat.le_of_ble_eq_true rfl) dL_law_0 (fun h1 H hP hD hS => ?_)
  have hP : va_P D vwCl [(h1, .inr (0, [.int (nI 0), .null, .null, .null, .int (bI false), .null, .null, .null]))] H := hP
  have hD : va_D (fun q : Nat => s.heap.size ≤ q) [(h1, .inr (0, [.int (nI 0), .null, .null, .null, .int (bI false), .null, .null, .null]))] := hD
  refine W.widen (k := 1) (n := 8) (Nat.le_of_ble_eq_true rfl) (Nat.le_of_ble_eq_true rfl) ?_
  refine lv_dup hx hb dL_law_3 rfl ?_
  have hPc := hP
  have hDc := hD
  have hKc := hK
  have hFc := fr_all hD hS hA
  refine va_callv (va_runI (As := []) (rest := [.ref h1]) ⟨hx, hb, hml, hown, hts⟩ (mX0_init l D h1 H.size) (cwI 0 hts (lw_meth q21) rfl rfl rfl (hts _ q15) (hts _ q19) (hts _ q20) rfl (by decide +kernel) ⟨Nat.le_of_ble_eq_true rfl, Nat.le_of_ble_eq_true rfl⟩) ⟨fun a U g mk q => by obtain ⟨q0, q1, qP, qK, qD⟩ := q; exact ⟨q0, q1, qP, va_K.moved (u := U) (U := U.calling g mk a) (Vm.Alike.refl U.vm) qK, qD⟩, fun U hU hW => ⟨rfl, by rw [hU], by rw [hU]; exact hPc, va_K.moved hW.alike hKc, hDc.weaken (fun _ _ _ _ => trivial)⟩⟩ rfl rfl hl.1 rfl (lv_room (Nat.le_of_ble_eq_true rfl)) dL_law_4 ⟨Nat.le_of_ble_eq_true rfl, Nat.le_of_ble_eq_true rfl⟩) hS (fun q _ h => hFc q h) hFc (fun u t H1 locs ht hvm hw hB hz1 hk1 hS => ?_)
  obtain ⟨a, d⟩ := u
  obtain ⟨hP1, hK1, hD1⟩ := hB
  rw [ht] at hP1
  have hKx : va_K D vwCl (xT d) s := va_K.moved hvm.symm hK1
  have hw : a 0 = h1 := hw
  subst hw
  have hP : va_P D vwCl (xW a d 0 false (fun _ => 0) (fun _ => 0) (fun _ => 0) (fun _ => 0) (fun _ => 0) (fun _ => 0)) H1 := hP1
  have hD : va_D (fun q : Nat => s.heap.size ≤ q) (xW a d 0 false (fun _ => 0) (fun _ => 0) (fun _ => 0) (fun _ => 0) (fun _ => 0) (fun _ => 0)) := hD1.weaken (fun k q _ h => hFc q.1 h)
  clear hP1 hD1 hPc hDc hFc hk1 hz1 hK1
  generalize H1 = H at hP hS ⊢
  refine W.widen (k := 7) (n := 71) (Nat.le_of_ble_eq_true rfl) (Nat.le_of_ble_eq_true rfl) ?_
  refine lv_astore_n (lv' := [(1, .ref (a 0)), (0, .ref b)]) hx hb dL_law_7 rfl hl (by decide) rfl (fun ls hl => ?_)
  refine va_new (ci := 1) (fs := [.null, .null, .null, .null, .null, .null]) (C := RX1) (T := TX1) (N := 6) hx hb hts in_X1 tyX1 tyX1_ok hown (hts _ q147) (hts _ q148) (hts _ q16) hKx hP hD hS hA rfl (fun j hj => by rcases (show j = 0 ∨ j = 1 ∨ j = 2 ∨ j = 3 ∨ j = 4 ∨ j = 5 by omega) with rfl | rfl | rfl | rfl | rfl | rfl <;> rfl) (Nat.le_of_ble_eq_true rfl) (Nat.le_of_ble_eq_true rfl) dL_law_8 (fun h2 H hP hD hS => ?_)
  have hP : va_P D vwCl (xW a d 0 false (fun _ => 0) (fun _ => 0) (fun _ => 0) (fun _ => 0) (fun _ => 0) (fun _ => 0) ++ [(h2, .inr (1, [.null, .null, .null, .null, .null, .null]))]) H := hP
  have hD : va_D (fun q : Nat => s.heap.size ≤ q) (xW a d 0 false (fun _ => 0) (fun _ => 0) (fun _ => 0) (fun _ => 0) (fun _ => 0) (fun _ => 0) ++ [(h2, .inr (1, [.null, .null, .null, .null, .null, .null]))]) := hD
  refine W.widen (k := 8) (n := 77) (Nat.le_of_ble_eq_true rfl) (Nat.le_of_ble_eq_true rfl) ?_
  refine lv_dup hx hb dL_law_11 rfl ?_
  have hPc := hP.sub (ws' := [(h2, .inr (1, [.null, .null, .null, .null, .null, .null]))]) [7] rfl
  have hDc := hD.sub (ws' := [(h2, .inr (1, [.null, .null, .null, .null, .null, .null]))]) [7] (by decide) rfl
  have hFc := va_free (wc := [(h2, .inr (1, [.null, .null, .null, .null, .null, .null]))]) hD hS hA [7] rfl
  refine va_callv (va_runI (As := []) (rest := [.ref h2]) ⟨hx, hb, hml, hown, hts⟩ (mX1_init l D h2 H.size) (cwI 0 hts (lw_meth q151) rfl rfl rfl (hts _ q16) (hts _ q149) (hts _ q150) rfl (by decide +kernel) ⟨Nat.le_of_ble_eq_true rfl, Nat.le_of_ble_eq_true rfl⟩) ⟨fun a U g mk q => by obtain ⟨q0, q1, qP, qK, qD⟩ := q; exact ⟨q0, q1, qP, va_K.moved (u := U) (U := U.calling g mk a) (Vm.Alike.refl U.vm) qK, qD⟩, fun U hU hW => ⟨rfl, by rw [hU], by rw [hU]; exact hPc, va_K.moved hW.alike hKc, hDc.weaken (fun _ _ _ _ => trivial)⟩⟩ rfl rfl hl.1 rfl (lv_room (Nat.le_of_ble_eq_true rfl)) dL_law_12 ⟨Nat.le_of_ble_eq_true rfl, Nat.le_of_ble_eq_true rfl⟩) hS (fun q _ h => hFc q h) hFc (fun u t H1 locs ht hvm hw hB hz1 hk1 hS => ?_)
  obtain ⟨a2, d2⟩ := u
  obtain ⟨hP1, hK1, hD1⟩ := hB
  rw [ht] at hP1
  have hKm : va_K D vwCl (mT d2) s := va_K.moved hvm.symm hK1
  have hw : a2 0 = h2 := hw
  subst hw
  obtain ⟨hP, hD⟩ := va_join (wr := xW a d 0 false (fun _ => 0) (fun _ => 0) (fun _ => 0) (fun _ => 0) (fun _ => 0) (fun _ => 0)) (w1 := mW a2 d2 (fun _ => false) (fun _ => 0) (fun _ => 0) (fun _ => 0) (fun _ => 0) (fun _ => 0)) hP hD [7] [0, 1, 2, 3, 4, 5, 6] rfl rfl (by decide) (by decide) hk1 hFc hP1 hD1
  generalize H1 = H at hP hS hP1 ⊢
  have hPx : va_P D vwCl (xW a d 0 false (fun _ => 0) (fun _ => 0) (fun _ => 0) (fun _ => 0) (fun _ => 0) (fun _ => 0)) H := hP.sub [0, 1, 2, 3, 4, 5, 6] rfl
  have hPm : va_P D vwCl (mW a2 d2 (fun _ => false) (fun _ => 0) (fun _ => 0) (fun _ => 0) (fun _ => 0) (fun _ => 0)) H := hP1
  have hG : gD (fun q : Nat => s.heap.size ≤ q) (xW a d 0 false (fun _ => 0) (fun _ => 0) (fun _ => 0) (fun _ => 0) (fun _ => 0) (fun _ => 0)) (mW a2 d2 (fun _ => false) (fun _ => 0) (fun _ => 0) (fun _ => 0) (fun _ => 0) (fun _ => 0)) := gD_of hD
  have e0 : (fun _ : Nat => false) = Nat.testBit 0 := by
    funext i
    rw [Nat.zero_testBit]
  rw [e0] at hPm hG
  refine W.widen (k := 14) (n := 145) (Nat.le_of_ble_eq_true rfl) (Nat.le_of_ble_eq_true rfl) ?_
  refine lv_astore_n (lv' := [(2, .ref (a2 0)), (1, .ref (a 0)), (0, .ref b)]) hx hb dL_law_15 rfl hl (by decide) rfl (fun ls hl => ?_)
  refine lv_iconst (v := nI 0) hx hb dL_law_16 (by decide) ?_
  refine lv_istore_n (lv' := [(3, .int (nI 0)), (2, .ref (a2 0)), (1, .ref (a 0)), (0, .ref b)]) hx hb dL_law_17 rfl hl (by decide) rfl (fun ls hl => ?_)
  have z8 : zB8 (fun _ => 0) := fun x _ => by show 0 < 256; decide
  exact law_loop hL C0 D a d a2 d2 hKx hKm _ _ _ ⟨0, false, (fun _ => 0), (fun _ => 0), (fun _ => 0), ((fun _ => 0), (fun _ => 0), (fun _ => 0)), (fun _ => 0), (fun _ => 0), by decide, fun k _ => ⟨(by show 0 < 4; decide), (by show 0 < 8; decide), (by show 0 < 8; decide)⟩, ⟨⟨z8, z8, z8⟩, fun h => by cases h⟩, hPx, hPm, hG, hS, lv_sub hl [3, 2, 1, 0] rfl⟩
end
section
set_option maxRecDepth 100000
set_option maxHeartbeats 4000000 in
theorem lw_walk (l : Launch) (b : Addr) (xs : List Int32) : MetFree l x (headSpec (Jvm.Cond.code x code maxLocals ret :: tables_1) room_1) (lw_P b xs) (fun _ _ _ _ _ => True) lw_Q := by
  refine MetFree.of_bodyS (code := code) (maxLocals := maxLocals) (ret := ret) (by decide) ?_ ?_
  · intro args s m h hn
    obtain ⟨meth, c, h1, h2, h3, h4, h5, h6, -, -⟩ := Cond.code_spec hn (atoms_spec (ws := Jvm.Cond.code x code maxLocals ret :: tables_1) h _ List.mem_cons_self)
    exact ⟨meth, c, h1, h2, h3, h4, h5, h6⟩
  · intro p e s m args below meth c s₁ B hml0 hP _
    obtain ⟨rfl, hx, hbd, hgv⟩ := hP
    obtain ⟨scr, harrAt, hlist, hof, hsmall⟩ := hx
    obtain ⟨hcb, hkn, -, -⟩ := State.arrayAt?_spec harrAt
    have hown : s.vm.findClass R_law = some m.cls := findClass_of_methodNamed B.named
    have hts0 : ∀ c ∈ (Jvm.Cond.code x code maxLocals ret :: tables_1), c.before #[Value.ref b] s = true := atoms_spec (ws := Jvm.Cond.code x code maxLocals ret :: tables_1) B.pre
    have hts : ∀ w ∈ lw_tbl, w.before #[Value.ref b] s = true := k2_hts_sels lw_privs (fun w hw => hts0 w (List.mem_cons_of_mem _ hw)) lw_privs_ok
    have hml : c.maxLocals = 4 := B.maxLocals_eq (hts0 _ List.mem_cons_self)
    have X₀ : Stand p l e room_1 s m #[Value.ref b] below meth c s₁ [] 0 0 := Stand.of_body B
    have hh0 : s₁.heap = s.heap := by rw [B.state]; rfl
    have hsz : scr.slots.size = xs.length := by rw [← Array.length_toList, hlist, List.length_map]
    have hval : ∀ j : Nat, j < xs.length → scr.slots[j]? = some (.int (xs.getD j 0)) := fun j hj => by
      rw [← Array.getElem?_toList, hlist]
      simp [hj]
    have hbl : b < s.heap.size := (Array.getElem?_eq_some_iff.mp hcb).1
    have hX : va_X b xs.length (fun j => xs.getD j 0) s s.heap := ⟨scr, hcb, hof, hkn, hsz, hval⟩
    have K : W p l e room_1 s m #[Value.ref b] below meth c s₁.heap [] 0 0 (lw_Z below #[Value.ref b] s) (entryFrame m ([Value.ref b] : List Value).toArray 4) := by
      rw [hh0]
      exact whole_start l hbd ⟨B.exec, B.bytes, B.returns, hml, hown, hts, hX, hbl, B.notSynchronized, hgv⟩
    obtain ⟨t, a1, o, b1, b2, b3⟩ := K s₁ rfl X₀
    exact ⟨t, o, a1, b1, b2, b3⟩
theorem lw_pre_spec {args : Array Value} {s : State} (h : (Jvm.Cond.and given_1 narrow_1).before args s = true) (hr : rest_1_c.before args s = true) : ∃ (b : Addr) (xs : List Int32), lw_P b xs args s := by
  have hs := flat_of_before _ h
  have hq := flat_of_before _ hr
  have hc : (Cond.count 1).before args s = true := hs _ (by decide +kernel)
  have harr : (Cond.arrayOf (.arg 0) .int).before args s = true := hs _ (by decide +kernel)
  have hle : (Cond.le (.length (.arg 0)) (.int 256)).before args s = true := hs _ (by decide +kernel)
  have hlen : (Cond.isInt (.length (.arg 0))).before args s = true := hq _ (by decide +kernel)
  have hall : (Cond.all (.arg 0) (.isInt (.elem (.arg 0) (.index 0)))).before args s = true := hq _ (by decide +kernel)
  obtain ⟨b, xs, hb, hx⟩ := State.ints_of_pre rfl harr hlen hall
  have hsm : xs.length < 2 ^ 31 := hx.choose_spec.2.2.2
  have hev : (Term.length (.arg 0)).eval args s none [] s = some (.int xs.length.toInt32) := hx.length_eval hb
  have hv := Cond.le_ints hev (show (Term.int 256).eval args s none [] s = some (.int 256) from rfl)
  have hd : xs.length.toInt32 ≤ 256 := by
    simpa [Cond.before, Cond.holds, hv] using hle
  have hN : xs.length ≤ 256 := (Int32.ofNat_le_ofNat hsm (by decide)).mp (show Int32.ofNat xs.length ≤ Int32.ofNat 256 from hd)
  exact ⟨b, xs, Cond.one_arg hc (show args[0]? = some (.ref b) from hb), hx, hN, h⟩
theorem lw_comes (l : Launch) : Comes l x (Jvm.Cond.code x code maxLocals ret :: tables_1) room_1 (fun tb e args s => Calls_1 tb e args s ∧ rest_1 tb e args s ∧ Pre_1 tb e args s)
    (fun _ _ args s o t => lw_Q args s o t) := by
  intro p e ha hc hk s m args below hf hfit hheap happ hpre
  obtain ⟨b, xs, hP⟩ := lw_pre_spec hpre.2.2 hpre.2.1
  obtain ⟨k, o, h1, h2, h3, hQ⟩ := lw_walk l b xs p e ha hc hk s m args below hf ((Spec.applies_iff_loose hf).mp happ).1 hP trivial
  exact ⟨k, o, h1, h2, h3, hQ⟩
theorem lw_frame {s t : State} {o : Outcome} {args : Array Value} (h : Framed s o t [] 600000 7290000) :
    Framed s o t (fieldLocs frame_1_writes args s ++ arrayLocs frame_1_arrays args s ++ staticLocs frame_1_statics s) 600000 7290000 := h
theorem lw_limb (L : Cond) (hL : ∀ (args : Array Value) (s t : State), L.after args s (.returned (some (.int 1))) t = true) :
    ArmFor flags0 classFile x code maxLocals ret World_1 tables_1 room_1 Calls_1 rest_1 Pre_1
      (fun tb e a s o t => postC L tb e a s o t ∧ Framed s o t (fieldLocs frame_1_writes a s ++ arrayLocs frame_1_arrays a s ++ staticLocs frame_1_statics s) 600000 7290000) := by
  intro l _ _ _ p e ha hc hk s m args below hf hfit hheap happ hpre
  obtain ⟨k, o, h1, h2, h3, rfl, hF⟩ := lw_comes l p e ha hc hk s m args below hf hfit hheap happ hpre
  exact ⟨k, _, h1, h2, h3, hL args s _, lw_frame hF⟩
theorem i_vc : Claimed_1_1 ∧ Claimed_1_2 := ⟨lw_limb limb_1_1 (fun args s t => by simp [limb_1_1, Cond.after, Cond.holds, Cond.value]), lw_limb limb_1_2 (fun args s t => Cond.after_iff.mpr (by
  first | (rw [show limb_1_2 = Cond.eq .result (.int 1) from rfl, Cond.eq_ints (x := 1) (y := 1) rfl rfl]; simp; done) | (simp [limb_1_2, Cond.value, Term.eval]; done)))⟩
end
