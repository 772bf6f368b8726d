section
-- ===== PART A: goes FIRST, ahead of the names: the tables' words, and 'selects' of the private methods out of them =====
/-- a private method of a class that the tables say can be made, by its rows of tables_1 -/
def lw_okq (q : MethodName × Nat) : Prop := (q.1.cls ≠ "java/lang/invoke/MethodHandle" ∧ q.1.cls ≠ "java/lang/invoke/VarHandle") ∧ Cond.instantiable q.1.cls q.2 ∈ tables_1 ∧ Cond.privateMethod q.1 ∈ tables_1 ∧ Cond.instanceMethod q.1 ∈ tables_1
set_option maxRecDepth 100000
theorem lw_t1 {w : Cond} (h : w ∈ tables_1_1) : w ∈ tables_1 := List.mem_append_left _ h
theorem lw_t2 {w : Cond} (h : w ∈ tables_1_2) : w ∈ tables_1 := List.mem_append_right _ h
theorem lw_p0 : lw_okq (⟨"NearDocs", "search", "(I)V"⟩, 15) := ⟨⟨by decide +kernel, by decide +kernel⟩, lw_t1 (List.mem_of_getElem? (i := 4) rfl), lw_t1 (List.mem_of_getElem? (i := 82) rfl), lw_t1 (List.mem_of_getElem? (i := 83) rfl)⟩
theorem lw_p1 : lw_okq (⟨"NearDocs", "takeAsY", "(I)V"⟩, 15) := ⟨⟨by decide +kernel, by decide +kernel⟩, lw_t1 (List.mem_of_getElem? (i := 4) rfl), lw_t1 (List.mem_of_getElem? (i := 94) rfl), lw_t1 (List.mem_of_getElem? (i := 95) rfl)⟩
theorem lw_p2 : lw_okq (⟨"NearDocs", "wholeDistance", "()I"⟩, 15) := ⟨⟨by decide +kernel, by decide +kernel⟩, lw_t1 (List.mem_of_getElem? (i := 4) rfl), lw_t1 (List.mem_of_getElem? (i := 98) rfl), lw_t1 (List.mem_of_getElem? (i := 99) rfl)⟩
theorem lw_p3 : lw_okq (⟨"NearDocs", "bandDistance", "(I)I"⟩, 15) := ⟨⟨by decide +kernel, by decide +kernel⟩, lw_t1 (List.mem_of_getElem? (i := 4) rfl), lw_t1 (List.mem_of_getElem? (i := 102) rfl), lw_t1 (List.mem_of_getElem? (i := 103) rfl)⟩
theorem lw_p4 : lw_okq (⟨"NearDocs", "cell", "(III)I"⟩, 15) := ⟨⟨by decide +kernel, by decide +kernel⟩, lw_t1 (List.mem_of_getElem? (i := 4) rfl), lw_t1 (List.mem_of_getElem? (i := 106) rfl), lw_t1 (List.mem_of_getElem? (i := 107) rfl)⟩
theorem lw_p5 : lw_okq (⟨"NearDocs", "mayBeWithin", "(II)Z"⟩, 15) := ⟨⟨by decide +kernel, by decide +kernel⟩, lw_t1 (List.mem_of_getElem? (i := 4) rfl), lw_t1 (List.mem_of_getElem? (i := 114) rfl), lw_t1 (List.mem_of_getElem? (i := 115) rfl)⟩
theorem lw_p6 : lw_okq (⟨"NearDocs", "sharedPairs", "(I)I"⟩, 15) := ⟨⟨by decide +kernel, by decide +kernel⟩, lw_t1 (List.mem_of_getElem? (i := 4) rfl), lw_t1 (List.mem_of_getElem? (i := 118) rfl), lw_t1 (List.mem_of_getElem? (i := 119) rfl)⟩
theorem lw_p7 : lw_okq (⟨"NearDocsModel", "search", "(I)I"⟩, 10) := ⟨⟨by decide +kernel, by decide +kernel⟩, lw_t1 (List.mem_of_getElem? (i := 134) rfl), lw_t1 (List.mem_of_getElem? (i := 194) rfl), lw_t1 (List.mem_of_getElem? (i := 195) rfl)⟩
theorem lw_p8 : lw_okq (⟨"NearDocsModel", "layQuery", "()V"⟩, 10) := ⟨⟨by decide +kernel, by decide +kernel⟩, lw_t1 (List.mem_of_getElem? (i := 134) rfl), lw_t1 (List.mem_of_getElem? (i := 198) rfl), lw_t1 (List.mem_of_getElem? (i := 199) rfl)⟩
theorem lw_p9 : lw_okq (⟨"NearDocsModel", "layPart", "(III)V"⟩, 10) := ⟨⟨by decide +kernel, by decide +kernel⟩, lw_t1 (List.mem_of_getElem? (i := 134) rfl), lw_t1 (List.mem_of_getElem? (i := 202) rfl), lw_t1 (List.mem_of_getElem? (i := 203) rfl)⟩
theorem lw_p10 : lw_okq (⟨"NearDocsModel", "compared", "()I"⟩, 10) := ⟨⟨by decide +kernel, by decide +kernel⟩, lw_t1 (List.mem_of_getElem? (i := 134) rfl), lw_t1 (List.mem_of_getElem? (i := 206) rfl), lw_t1 (List.mem_of_getElem? (i := 207) rfl)⟩
theorem lw_p11 : lw_okq (⟨"NearDocsModel", "cell", "(II)I"⟩, 10) := ⟨⟨by decide +kernel, by decide +kernel⟩, lw_t1 (List.mem_of_getElem? (i := 134) rfl), lw_t1 (List.mem_of_getElem? (i := 210) rfl), lw_t1 (List.mem_of_getElem? (i := 211) rfl)⟩
theorem lw_p12 : lw_okq (⟨"NearDocsModel", "inQuery", "(II)I"⟩, 10) := ⟨⟨by decide +kernel, by decide +kernel⟩, lw_t1 (List.mem_of_getElem? (i := 134) rfl), lw_t1 (List.mem_of_getElem? (i := 238) rfl), lw_t1 (List.mem_of_getElem? (i := 239) rfl)⟩
theorem lw_p13 : lw_okq (⟨"NearDocsModel", "inDoc", "(III)I"⟩, 10) := ⟨⟨by decide +kernel, by decide +kernel⟩, lw_t1 (List.mem_of_getElem? (i := 134) rfl), lw_t2 (List.mem_of_getElem? (i := 2) rfl), lw_t2 (List.mem_of_getElem? (i := 3) rfl)⟩
def lw_privs_1 : List (MethodName × Nat) := [(⟨"NearDocs", "search", "(I)V"⟩, 15), (⟨"NearDocs", "takeAsY", "(I)V"⟩, 15), (⟨"NearDocs", "wholeDistance", "()I"⟩, 15), (⟨"NearDocs", "bandDistance", "(I)I"⟩, 15), (⟨"NearDocs", "cell", "(III)I"⟩, 15), (⟨"NearDocs", "mayBeWithin", "(II)Z"⟩, 15), (⟨"NearDocs", "sharedPairs", "(I)I"⟩, 15), (⟨"NearDocsModel", "search", "(I)I"⟩, 10), (⟨"NearDocsModel", "layQuery", "()V"⟩, 10), (⟨"NearDocsModel", "layPart", "(III)V"⟩, 10), (⟨"NearDocsModel", "compared", "()I"⟩, 10), (⟨"NearDocsModel", "cell", "(II)I"⟩, 10), (⟨"NearDocsModel", "inQuery", "(II)I"⟩, 10), (⟨"NearDocsModel", "inDoc", "(III)I"⟩, 10)]
theorem lw_r1 : ∀ q ∈ lw_privs_1, lw_okq q := List.forall_mem_cons.mpr ⟨lw_p0, List.forall_mem_cons.mpr ⟨lw_p1, List.forall_mem_cons.mpr ⟨lw_p2, List.forall_mem_cons.mpr ⟨lw_p3, List.forall_mem_cons.mpr ⟨lw_p4, List.forall_mem_cons.mpr ⟨lw_p5, List.forall_mem_cons.mpr ⟨lw_p6, List.forall_mem_cons.mpr ⟨lw_p7, List.forall_mem_cons.mpr ⟨lw_p8, List.forall_mem_cons.mpr ⟨lw_p9, List.forall_mem_cons.mpr ⟨lw_p10, List.forall_mem_cons.mpr ⟨lw_p11, List.forall_mem_cons.mpr ⟨lw_p12, List.forall_mem_cons.mpr ⟨lw_p13, fun _ h => absurd h List.not_mem_nil⟩⟩⟩⟩⟩⟩⟩⟩⟩⟩⟩⟩⟩⟩
def lw_privs : List (MethodName × Nat) := lw_privs_1
def lw_tbl : List Cond := k2_sels lw_privs ++ tables_1
theorem lw_privs_ok : ∀ q ∈ lw_privs, lw_okq q := lw_r1
-- ===== ONE list of words for every method: the tables' words that hold all through a run =====
def lw_all : List Cond := lw_tbl.filter goodWord
/-- a word of the tables by its place: claim/WORDS.tsv -/
theorem lw_w {w : Cond} (i : Nat) (h : lw_tbl[i]? = some w) (g : goodWord w = true) : w ∈ lw_all := List.mem_filter.mpr ⟨List.mem_of_getElem? h, g⟩
theorem lw_all_tbl {w : Cond} (h : w ∈ lw_all) : w ∈ lw_tbl := (List.mem_filter.mp h).1
theorem lw_self : GoodIn lw_all lw_all := fun w h => ⟨h, good_of_word (List.mem_filter.mp h).2⟩
/-- a class's field words, by their places -/
theorem lw_in (ws : List Cond) (ps : List Nat) (hp : ws = ps.filterMap (fun i => lw_tbl[i]?)) (hg : ws.all goodWord = true) : ∀ w ∈ ws, w ∈ lw_all := by
  intro w h
  have h1 := List.all_eq_true.mp hg w h
  rw [hp] at h
  obtain ⟨i, -, hi⟩ := List.mem_filterMap.mp h
  exact lw_w i hi h1
/-- the words of a contract for the method y with code b, L locals, answer r -/
abbrev ws_ (y : MethodName) (b : ByteArray) (L : Nat) (r : Option FieldType) : List Cond := Cond.code y b L r :: lw_all
theorem lw_meth {y : MethodName} {b : ByteArray} {L : Nat} {r : Option FieldType} (h : Cond.code y b L r ∈ lw_all) : GoodIn lw_all (ws_ y b L r) := by
  intro w hw
  rcases List.mem_cons.mp hw with e | e
  · rw [e]
    exact lw_self _ h
  · exact lw_self _ e
theorem lw_app {a c : List Cond} (ha : ∀ w ∈ a, w ∈ lw_all) (hc : GoodIn lw_all c) : GoodIn lw_all (a ++ c) := by
  intro w hw
  rcases List.mem_append.mp hw with e | e
  · exact lw_self w (ha w e)
  · exact hc w e
/-- what a call through an object asks: cwV n hts (lw_V ..) -/
theorem lw_V {own : String} {idx : Nat} {C : String} {y : MethodName} {b : ByteArray} {L : Nat} {r : Option FieldType} (h1 : Cond.methodLink own idx y ∈ lw_all) (h2 : Cond.instanceMethod y ∈ lw_all) (h3 : Cond.selects C y y ∈ lw_all) (h4 : Cond.initialized C ∈ lw_all) (h5 : Cond.code y b L r ∈ lw_all) : GoodIn lw_all (wsV own idx C y (ws_ y b L r)) := by
  refine lw_app ?_ (lw_meth h5)
  intro w hw
  simp only [List.mem_cons, List.not_mem_nil, or_false] at hw
  rcases hw with e | e | e | e
  · rw [e]; exact h1
  · rw [e]; exact h2
  · rw [e]; exact h3
  · rw [e]; exact h4
/-- what a static call asks: va_cwS n hts (lw_S ..) -/
theorem lw_S {own : String} {idx : Nat} {y : MethodName} {b : ByteArray} {L : Nat} {r : Option FieldType} (h1 : Cond.methodLink own idx y ∈ lw_all) (h2 : Cond.static y ∈ lw_all) (h3 : Cond.initialized y.cls ∈ lw_all) (h4 : Cond.code y b L r ∈ lw_all) : GoodIn lw_all (va_wsS own idx y (ws_ y b L r)) := by
  refine lw_app ?_ (lw_meth h4)
  intro w hw
  simp only [List.mem_cons, List.not_mem_nil, or_false] at hw
  rcases hw with e | e | e
  · rw [e]; exact h1
  · rw [e]; exact h2
  · rw [e]; exact h3
/-- the words of a contract for a method WITH HANDLERS (hh: its table) -/
abbrev wsW_ (y : MethodName) (b : ByteArray) (L : Nat) (r : Option FieldType) (hh : List (Nat × Nat × Nat × Nat)) : List Cond := Cond.codeWith y b L r hh :: lw_all
theorem lw_methW {y : MethodName} {b : ByteArray} {L : Nat} {r : Option FieldType} {hh : List (Nat × Nat × Nat × Nat)} (h : Cond.codeWith y b L r hh ∈ lw_all) : GoodIn lw_all (wsW_ y b L r hh) := by
  intro w hw
  rcases List.mem_cons.mp hw with e | e
  · rw [e]
    exact lw_self _ h
  · exact lw_self _ e
/-- any list of words by their places (lw_in), good -/
theorem lw_good {ws : List Cond} (h : ∀ w ∈ ws, w ∈ lw_all) : GoodIn lw_all ws := fun w hw => lw_self w (h w hw)
/-- what a call of a method with handlers asks: vx_cwVW n hts (lw_VW ..), vx_cwSW n hts (lw_SW ..) -/
theorem lw_VW {own : String} {idx : Nat} {C : String} {y : MethodName} {b : ByteArray} {L : Nat} {r : Option FieldType} {hh : List (Nat × Nat × Nat × Nat)} (h1 : Cond.methodLink own idx y ∈ lw_all) (h2 : Cond.instanceMethod y ∈ lw_all) (h3 : Cond.selects C y y ∈ lw_all) (h4 : Cond.initialized C ∈ lw_all) (h5 : Cond.codeWith y b L r hh ∈ lw_all) : GoodIn lw_all (wsV own idx C y (wsW_ y b L r hh)) := by
  refine lw_app ?_ (lw_methW h5)
  intro w hw
  simp only [List.mem_cons, List.not_mem_nil, or_false] at hw
  rcases hw with e | e | e | e
  · rw [e]; exact h1
  · rw [e]; exact h2
  · rw [e]; exact h3
  · rw [e]; exact h4
theorem lw_SW {own : String} {idx : Nat} {y : MethodName} {b : ByteArray} {L : Nat} {r : Option FieldType} {hh : List (Nat × Nat × Nat × Nat)} (h1 : Cond.methodLink own idx y ∈ lw_all) (h2 : Cond.static y ∈ lw_all) (h3 : Cond.initialized y.cls ∈ lw_all) (h4 : Cond.codeWith y b L r hh ∈ lw_all) : GoodIn lw_all (va_wsS own idx y (wsW_ y b L r hh)) := by
  refine lw_app ?_ (lw_methW h4)
  intro w hw
  simp only [List.mem_cons, List.not_mem_nil, or_false] at hw
  rcases hw with e | e | e
  · rw [e]; exact h1
  · rw [e]; exact h2
  · rw [e]; exact h3
/-- a word by its place in its run of the tables -/
theorem lw_at {r : List Cond} (hr : ∀ w ∈ r, w ∈ lw_tbl) {w : Cond} (i : Nat) (h : r[i]? = some w) : w ∈ lw_tbl := hr w (List.mem_of_getElem? h)
theorem lw_g {w : Cond} (h : w ∈ lw_tbl) (g : goodWord w = true) : w ∈ lw_all := List.mem_filter.mpr ⟨h, g⟩
theorem lw_ms : ∀ w ∈ k2_sels lw_privs, w ∈ lw_tbl := fun w h => show w ∈ k2_sels lw_privs ++ tables_1 from List.mem_append_left _ h
theorem lw_m1 : ∀ w ∈ tables_1_1, w ∈ lw_tbl := fun w h => show w ∈ k2_sels lw_privs ++ tables_1 from List.mem_append_right (k2_sels lw_privs) (show w ∈ tables_1 from List.mem_append_left _ h)
theorem lw_m2 : ∀ w ∈ tables_1_2, w ∈ lw_tbl := fun w h => show w ∈ k2_sels lw_privs ++ tables_1 from List.mem_append_right (k2_sels lw_privs) (show w ∈ tables_1 from List.mem_append_right _ h)
theorem qs0 : (Cond.selects "NearDocs" ⟨"NearDocs", "search", "(I)V"⟩ ⟨"NearDocs", "search", "(I)V"⟩) ∈ lw_all := lw_g (lw_at lw_ms 0 rfl) rfl
theorem qs1 : (Cond.selects "NearDocs" ⟨"NearDocs", "takeAsY", "(I)V"⟩ ⟨"NearDocs", "takeAsY", "(I)V"⟩) ∈ lw_all := lw_g (lw_at lw_ms 1 rfl) rfl
theorem qs2 : (Cond.selects "NearDocs" ⟨"NearDocs", "wholeDistance", "()I"⟩ ⟨"NearDocs", "wholeDistance", "()I"⟩) ∈ lw_all := lw_g (lw_at lw_ms 2 rfl) rfl
theorem qs3 : (Cond.selects "NearDocs" ⟨"NearDocs", "bandDistance", "(I)I"⟩ ⟨"NearDocs", "bandDistance", "(I)I"⟩) ∈ lw_all := lw_g (lw_at lw_ms 3 rfl) rfl
theorem qs4 : (Cond.selects "NearDocs" ⟨"NearDocs", "cell", "(III)I"⟩ ⟨"NearDocs", "cell", "(III)I"⟩) ∈ lw_all := lw_g (lw_at lw_ms 4 rfl) rfl
theorem qs5 : (Cond.selects "NearDocs" ⟨"NearDocs", "mayBeWithin", "(II)Z"⟩ ⟨"NearDocs", "mayBeWithin", "(II)Z"⟩) ∈ lw_all := lw_g (lw_at lw_ms 5 rfl) rfl
theorem qs6 : (Cond.selects "NearDocs" ⟨"NearDocs", "sharedPairs", "(I)I"⟩ ⟨"NearDocs", "sharedPairs", "(I)I"⟩) ∈ lw_all := lw_g (lw_at lw_ms 6 rfl) rfl
theorem qs7 : (Cond.selects "NearDocsModel" ⟨"NearDocsModel", "search", "(I)I"⟩ ⟨"NearDocsModel", "search", "(I)I"⟩) ∈ lw_all := lw_g (lw_at lw_ms 7 rfl) rfl
theorem qs8 : (Cond.selects "NearDocsModel" ⟨"NearDocsModel", "layQuery", "()V"⟩ ⟨"NearDocsModel", "layQuery", "()V"⟩) ∈ lw_all := lw_g (lw_at lw_ms 8 rfl) rfl
theorem qs9 : (Cond.selects "NearDocsModel" ⟨"NearDocsModel", "layPart", "(III)V"⟩ ⟨"NearDocsModel", "layPart", "(III)V"⟩) ∈ lw_all := lw_g (lw_at lw_ms 9 rfl) rfl
theorem qs10 : (Cond.selects "NearDocsModel" ⟨"NearDocsModel", "compared", "()I"⟩ ⟨"NearDocsModel", "compared", "()I"⟩) ∈ lw_all := lw_g (lw_at lw_ms 10 rfl) rfl
theorem qs11 : (Cond.selects "NearDocsModel" ⟨"NearDocsModel", "cell", "(II)I"⟩ ⟨"NearDocsModel", "cell", "(II)I"⟩) ∈ lw_all := lw_g (lw_at lw_ms 11 rfl) rfl
theorem qs12 : (Cond.selects "NearDocsModel" ⟨"NearDocsModel", "inQuery", "(II)I"⟩ ⟨"NearDocsModel", "inQuery", "(II)I"⟩) ∈ lw_all := lw_g (lw_at lw_ms 12 rfl) rfl
theorem qs13 : (Cond.selects "NearDocsModel" ⟨"NearDocsModel", "inDoc", "(III)I"⟩ ⟨"NearDocsModel", "inDoc", "(III)I"⟩) ∈ lw_all := lw_g (lw_at lw_ms 13 rfl) rfl
end
section
/-! NearDocs -/
set_option maxRecDepth 100000
def RX0 : String := "NearDocs"
def TX0 : u_T := fun k => match k with
  | 0 => ("NearDocs", "length", "[I", true)
  | 1 => ("NearDocs", "letters", "[I", true)
  | 2 => ("NearDocs", "pairCount", "[I", true)
  | 3 => ("NearDocs", "queryLength", "I", false)
  | 4 => ("NearDocs", "query", "[I", true)
  | 5 => ("NearDocs", "queryPairs", "[I", true)
  | 6 => ("NearDocs", "masks", "[I", true)
  | 7 => ("NearDocs", "bestDistance", "I", false)
  | 8 => ("NearDocs", "bestEnd", "I", false)
  | 9 => ("NearDocs", "xLength", "I", false)
  | 10 => ("NearDocs", "yLength", "I", false)
  | 11 => ("NearDocs", "x", "[I", true)
  | 12 => ("NearDocs", "y", "[I", true)
  | 13 => ("NearDocs", "column", "[I", true)
  | _ => ("NearDocs", "nextColumn", "[I", true)
def tyX0 : Nat → FieldType := fun k => match k with
  | 0 => .array .int
  | 1 => .array .int
  | 2 => .array .int
  | 3 => .int
  | 4 => .array .int
  | 5 => .array .int
  | 6 => .array .int
  | 7 => .int
  | 8 => .int
  | 9 => .int
  | 10 => .int
  | 11 => .array .int
  | 12 => .array .int
  | 13 => .array .int
  | _ => .array .int
abbrev wsX00 : List Cond := u_ws RX0 TX0 15
set_option maxRecDepth 100000 in
theorem nmX0 : ∀ a, a < 15 → ∀ b, b < 15 → a ≠ b → (TX0 a).2.1 ≠ (TX0 b).2.1 := by decide +kernel
set_option maxRecDepth 100000 in
theorem tyX0_ok : ∀ k, k < 15 → parseFieldDescriptor (TX0 k).2.2.1 = some (tyX0 k) := by decide +kernel
abbrev cX0_init : ByteArray := prog_1_method_1_code
def yX0_init : MethodName := ⟨RX0, "<init>", "()V"⟩
theorem dX0_init_0 : decode cX0_init 0 = .ok (.aload_n 0, 1) := by decide +kernel
theorem dX0_init_1 : decode cX0_init 1 = .ok (.invokespecial 1, 3) := by decide +kernel
theorem dX0_init_4 : decode cX0_init 4 = .ok (.aload_n 0, 1) := by decide +kernel
theorem dX0_init_5 : decode cX0_init 5 = .ok (.bipush 8, 2) := by decide +kernel
theorem dX0_init_7 : decode cX0_init 7 = .ok (.newarray .int, 2) := by decide +kernel
theorem dX0_init_9 : decode cX0_init 9 = .ok (.putfield 7, 3) := by decide +kernel
theorem dX0_init_12 : decode cX0_init 12 = .ok (.aload_n 0, 1) := by decide +kernel
theorem dX0_init_13 : decode cX0_init 13 = .ok (.sipush 128, 3) := by decide +kernel
theorem dX0_init_16 : decode cX0_init 16 = .ok (.newarray .int, 2) := by decide +kernel
theorem dX0_init_18 : decode cX0_init 18 = .ok (.putfield 13, 3) := by decide +kernel
theorem dX0_init_21 : decode cX0_init 21 = .ok (.aload_n 0, 1) := by decide +kernel
theorem dX0_init_22 : decode cX0_init 22 = .ok (.sipush 128, 3) := by decide +kernel
theorem dX0_init_25 : decode cX0_init 25 = .ok (.newarray .int, 2) := by decide +kernel
theorem dX0_init_27 : decode cX0_init 27 = .ok (.putfield 16, 3) := by decide +kernel
theorem dX0_init_30 : decode cX0_init 30 = .ok (.aload_n 0, 1) := by decide +kernel
theorem dX0_init_31 : decode cX0_init 31 = .ok (.bipush 8, 2) := by decide +kernel
theorem dX0_init_33 : decode cX0_init 33 = .ok (.newarray .int, 2) := by decide +kernel
theorem dX0_init_35 : decode cX0_init 35 = .ok (.putfield 19, 3) := by decide +kernel
theorem dX0_init_38 : decode cX0_init 38 = .ok (.aload_n 0, 1) := by decide +kernel
theorem dX0_init_39 : decode cX0_init 39 = .ok (.bipush 16, 2) := by decide +kernel
theorem dX0_init_41 : decode cX0_init 41 = .ok (.newarray .int, 2) := by decide +kernel
theorem dX0_init_43 : decode cX0_init 43 = .ok (.putfield 22, 3) := by decide +kernel
theorem dX0_init_46 : decode cX0_init 46 = .ok (.aload_n 0, 1) := by decide +kernel
theorem dX0_init_47 : decode cX0_init 47 = .ok (.iconst 4, 1) := by decide +kernel
theorem dX0_init_48 : decode cX0_init 48 = .ok (.newarray .int, 2) := by decide +kernel
theorem dX0_init_50 : decode cX0_init 50 = .ok (.putfield 25, 3) := by decide +kernel
theorem dX0_init_53 : decode cX0_init 53 = .ok (.aload_n 0, 1) := by decide +kernel
theorem dX0_init_54 : decode cX0_init 54 = .ok (.bipush 16, 2) := by decide +kernel
theorem dX0_init_56 : decode cX0_init 56 = .ok (.newarray .int, 2) := by decide +kernel
theorem dX0_init_58 : decode cX0_init 58 = .ok (.putfield 28, 3) := by decide +kernel
theorem dX0_init_61 : decode cX0_init 61 = .ok (.aload_n 0, 1) := by decide +kernel
theorem dX0_init_62 : decode cX0_init 62 = .ok (.bipush 16, 2) := by decide +kernel
theorem dX0_init_64 : decode cX0_init 64 = .ok (.newarray .int, 2) := by decide +kernel
theorem dX0_init_66 : decode cX0_init 66 = .ok (.putfield 31, 3) := by decide +kernel
theorem dX0_init_69 : decode cX0_init 69 = .ok (.aload_n 0, 1) := by decide +kernel
theorem dX0_init_70 : decode cX0_init 70 = .ok (.bipush 17, 2) := by decide +kernel
theorem dX0_init_72 : decode cX0_init 72 = .ok (.newarray .int, 2) := by decide +kernel
theorem dX0_init_74 : decode cX0_init 74 = .ok (.putfield 34, 3) := by decide +kernel
theorem dX0_init_77 : decode cX0_init 77 = .ok (.aload_n 0, 1) := by decide +kernel
theorem dX0_init_78 : decode cX0_init 78 = .ok (.bipush 17, 2) := by decide +kernel
theorem dX0_init_80 : decode cX0_init 80 = .ok (.newarray .int, 2) := by decide +kernel
theorem dX0_init_82 : decode cX0_init 82 = .ok (.putfield 37, 3) := by decide +kernel
theorem dX0_init_85 : decode cX0_init 85 = .ok (.return_, 1) := by decide +kernel
abbrev cX0_write : ByteArray := prog_1_method_2_code
def yX0_write : MethodName := ⟨RX0, "write", "(II)I"⟩
theorem dX0_write_0 : decode cX0_write 0 = .ok (.iload_n 1, 1) := by decide +kernel
theorem dX0_write_1 : decode cX0_write 1 = .ok (.invokestatic 40, 3) := by decide +kernel
theorem dX0_write_4 : decode cX0_write 4 = .ok (.ifCond .eq 14, 3) := by decide +kernel
theorem dX0_write_7 : decode cX0_write 7 = .ok (.aload_n 0, 1) := by decide +kernel
theorem dX0_write_8 : decode cX0_write 8 = .ok (.getfield 7, 3) := by decide +kernel
theorem dX0_write_11 : decode cX0_write 11 = .ok (.iload_n 1, 1) := by decide +kernel
theorem dX0_write_12 : decode cX0_write 12 = .ok (.iaload, 1) := by decide +kernel
theorem dX0_write_13 : decode cX0_write 13 = .ok (.bipush 16, 2) := by decide +kernel
theorem dX0_write_15 : decode cX0_write 15 = .ok (.if_icmp .lt 5, 3) := by decide +kernel
theorem dX0_write_18 : decode cX0_write 18 = .ok (.iconst (-1), 1) := by decide +kernel
theorem dX0_write_19 : decode cX0_write 19 = .ok (.ireturn, 1) := by decide +kernel
theorem dX0_write_20 : decode cX0_write 20 = .ok (.aload_n 0, 1) := by decide +kernel
theorem dX0_write_21 : decode cX0_write 21 = .ok (.getfield 7, 3) := by decide +kernel
theorem dX0_write_24 : decode cX0_write 24 = .ok (.iload_n 1, 1) := by decide +kernel
theorem dX0_write_25 : decode cX0_write 25 = .ok (.iaload, 1) := by decide +kernel
theorem dX0_write_26 : decode cX0_write 26 = .ok (.istore_n 3, 1) := by decide +kernel
theorem dX0_write_27 : decode cX0_write 27 = .ok (.aload_n 0, 1) := by decide +kernel
theorem dX0_write_28 : decode cX0_write 28 = .ok (.getfield 13, 3) := by decide +kernel
theorem dX0_write_31 : decode cX0_write 31 = .ok (.bipush 16, 2) := by decide +kernel
theorem dX0_write_33 : decode cX0_write 33 = .ok (.iload_n 1, 1) := by decide +kernel
theorem dX0_write_34 : decode cX0_write 34 = .ok (.imul, 1) := by decide +kernel
theorem dX0_write_35 : decode cX0_write 35 = .ok (.iload_n 3, 1) := by decide +kernel
theorem dX0_write_36 : decode cX0_write 36 = .ok (.iadd, 1) := by decide +kernel
theorem dX0_write_37 : decode cX0_write 37 = .ok (.iload_n 2, 1) := by decide +kernel
theorem dX0_write_38 : decode cX0_write 38 = .ok (.iconst 3, 1) := by decide +kernel
theorem dX0_write_39 : decode cX0_write 39 = .ok (.iand, 1) := by decide +kernel
theorem dX0_write_40 : decode cX0_write 40 = .ok (.iastore, 1) := by decide +kernel
theorem dX0_write_41 : decode cX0_write 41 = .ok (.iload_n 3, 1) := by decide +kernel
theorem dX0_write_42 : decode cX0_write 42 = .ok (.ifCond .le 36, 3) := by decide +kernel
theorem dX0_write_45 : decode cX0_write 45 = .ok (.aload_n 0, 1) := by decide +kernel
theorem dX0_write_46 : decode cX0_write 46 = .ok (.getfield 16, 3) := by decide +kernel
theorem dX0_write_49 : decode cX0_write 49 = .ok (.bipush 16, 2) := by decide +kernel
theorem dX0_write_51 : decode cX0_write 51 = .ok (.iload_n 1, 1) := by decide +kernel
theorem dX0_write_52 : decode cX0_write 52 = .ok (.imul, 1) := by decide +kernel
theorem dX0_write_53 : decode cX0_write 53 = .ok (.iconst 4, 1) := by decide +kernel
theorem dX0_write_54 : decode cX0_write 54 = .ok (.aload_n 0, 1) := by decide +kernel
theorem dX0_write_55 : decode cX0_write 55 = .ok (.getfield 13, 3) := by decide +kernel
theorem dX0_write_58 : decode cX0_write 58 = .ok (.bipush 16, 2) := by decide +kernel
theorem dX0_write_60 : decode cX0_write 60 = .ok (.iload_n 1, 1) := by decide +kernel
theorem dX0_write_61 : decode cX0_write 61 = .ok (.imul, 1) := by decide +kernel
theorem dX0_write_62 : decode cX0_write 62 = .ok (.iload_n 3, 1) := by decide +kernel
theorem dX0_write_63 : decode cX0_write 63 = .ok (.iadd, 1) := by decide +kernel
theorem dX0_write_64 : decode cX0_write 64 = .ok (.iconst 1, 1) := by decide +kernel
theorem dX0_write_65 : decode cX0_write 65 = .ok (.isub, 1) := by decide +kernel
theorem dX0_write_66 : decode cX0_write 66 = .ok (.iaload, 1) := by decide +kernel
theorem dX0_write_67 : decode cX0_write 67 = .ok (.imul, 1) := by decide +kernel
theorem dX0_write_68 : decode cX0_write 68 = .ok (.iadd, 1) := by decide +kernel
theorem dX0_write_69 : decode cX0_write 69 = .ok (.iload_n 2, 1) := by decide +kernel
theorem dX0_write_70 : decode cX0_write 70 = .ok (.iconst 3, 1) := by decide +kernel
theorem dX0_write_71 : decode cX0_write 71 = .ok (.iand, 1) := by decide +kernel
theorem dX0_write_72 : decode cX0_write 72 = .ok (.iadd, 1) := by decide +kernel
theorem dX0_write_73 : decode cX0_write 73 = .ok (.dup2, 1) := by decide +kernel
theorem dX0_write_74 : decode cX0_write 74 = .ok (.iaload, 1) := by decide +kernel
theorem dX0_write_75 : decode cX0_write 75 = .ok (.iconst 1, 1) := by decide +kernel
theorem dX0_write_76 : decode cX0_write 76 = .ok (.iadd, 1) := by decide +kernel
theorem dX0_write_77 : decode cX0_write 77 = .ok (.iastore, 1) := by decide +kernel
theorem dX0_write_78 : decode cX0_write 78 = .ok (.aload_n 0, 1) := by decide +kernel
theorem dX0_write_79 : decode cX0_write 79 = .ok (.getfield 7, 3) := by decide +kernel
theorem dX0_write_82 : decode cX0_write 82 = .ok (.iload_n 1, 1) := by decide +kernel
theorem dX0_write_83 : decode cX0_write 83 = .ok (.iload_n 3, 1) := by decide +kernel
theorem dX0_write_84 : decode cX0_write 84 = .ok (.iconst 1, 1) := by decide +kernel
theorem dX0_write_85 : decode cX0_write 85 = .ok (.iadd, 1) := by decide +kernel
theorem dX0_write_86 : decode cX0_write 86 = .ok (.iastore, 1) := by decide +kernel
theorem dX0_write_87 : decode cX0_write 87 = .ok (.iload_n 3, 1) := by decide +kernel
theorem dX0_write_88 : decode cX0_write 88 = .ok (.iconst 1, 1) := by decide +kernel
theorem dX0_write_89 : decode cX0_write 89 = .ok (.iadd, 1) := by decide +kernel
theorem dX0_write_90 : decode cX0_write 90 = .ok (.ireturn, 1) := by decide +kernel
abbrev cX0_isDoc : ByteArray := prog_1_method_13_code
def yX0_isDoc : MethodName := ⟨RX0, "isDoc", "(I)Z"⟩
theorem dX0_isDoc_0 : decode cX0_isDoc 0 = .ok (.iload_n 0, 1) := by decide +kernel
theorem dX0_isDoc_1 : decode cX0_isDoc 1 = .ok (.ifCond .lt 13, 3) := by decide +kernel
theorem dX0_isDoc_4 : decode cX0_isDoc 4 = .ok (.iload_n 0, 1) := by decide +kernel
theorem dX0_isDoc_5 : decode cX0_isDoc 5 = .ok (.bipush 7, 2) := by decide +kernel
theorem dX0_isDoc_7 : decode cX0_isDoc 7 = .ok (.if_icmp .gt 7, 3) := by decide +kernel
theorem dX0_isDoc_10 : decode cX0_isDoc 10 = .ok (.iconst 1, 1) := by decide +kernel
theorem dX0_isDoc_11 : decode cX0_isDoc 11 = .ok (.goto 4, 3) := by decide +kernel
theorem dX0_isDoc_14 : decode cX0_isDoc 14 = .ok (.iconst 0, 1) := by decide +kernel
theorem dX0_isDoc_15 : decode cX0_isDoc 15 = .ok (.ireturn, 1) := by decide +kernel
abbrev cX0_wipe : ByteArray := prog_1_method_3_code
def yX0_wipe : MethodName := ⟨RX0, "wipe", "(I)I"⟩
theorem dX0_wipe_0 : decode cX0_wipe 0 = .ok (.iload_n 1, 1) := by decide +kernel
theorem dX0_wipe_1 : decode cX0_wipe 1 = .ok (.invokestatic 40, 3) := by decide +kernel
theorem dX0_wipe_4 : decode cX0_wipe 4 = .ok (.ifCond .ne 5, 3) := by decide +kernel
theorem dX0_wipe_7 : decode cX0_wipe 7 = .ok (.iconst (-1), 1) := by decide +kernel
theorem dX0_wipe_8 : decode cX0_wipe 8 = .ok (.ireturn, 1) := by decide +kernel
theorem dX0_wipe_9 : decode cX0_wipe 9 = .ok (.aload_n 0, 1) := by decide +kernel
theorem dX0_wipe_10 : decode cX0_wipe 10 = .ok (.getfield 7, 3) := by decide +kernel
theorem dX0_wipe_13 : decode cX0_wipe 13 = .ok (.iload_n 1, 1) := by decide +kernel
theorem dX0_wipe_14 : decode cX0_wipe 14 = .ok (.iaload, 1) := by decide +kernel
theorem dX0_wipe_15 : decode cX0_wipe 15 = .ok (.istore_n 2, 1) := by decide +kernel
theorem dX0_wipe_16 : decode cX0_wipe 16 = .ok (.aload_n 0, 1) := by decide +kernel
theorem dX0_wipe_17 : decode cX0_wipe 17 = .ok (.getfield 7, 3) := by decide +kernel
theorem dX0_wipe_20 : decode cX0_wipe 20 = .ok (.iload_n 1, 1) := by decide +kernel
theorem dX0_wipe_21 : decode cX0_wipe 21 = .ok (.iconst 0, 1) := by decide +kernel
theorem dX0_wipe_22 : decode cX0_wipe 22 = .ok (.iastore, 1) := by decide +kernel
theorem dX0_wipe_23 : decode cX0_wipe 23 = .ok (.bipush 16, 2) := by decide +kernel
theorem dX0_wipe_25 : decode cX0_wipe 25 = .ok (.iload_n 1, 1) := by decide +kernel
theorem dX0_wipe_26 : decode cX0_wipe 26 = .ok (.imul, 1) := by decide +kernel
theorem dX0_wipe_27 : decode cX0_wipe 27 = .ok (.istore_n 3, 1) := by decide +kernel
theorem dX0_wipe_28 : decode cX0_wipe 28 = .ok (.iload_n 3, 1) := by decide +kernel
theorem dX0_wipe_29 : decode cX0_wipe 29 = .ok (.bipush 16, 2) := by decide +kernel
theorem dX0_wipe_31 : decode cX0_wipe 31 = .ok (.iload_n 1, 1) := by decide +kernel
theorem dX0_wipe_32 : decode cX0_wipe 32 = .ok (.imul, 1) := by decide +kernel
theorem dX0_wipe_33 : decode cX0_wipe 33 = .ok (.bipush 16, 2) := by decide +kernel
theorem dX0_wipe_35 : decode cX0_wipe 35 = .ok (.iadd, 1) := by decide +kernel
theorem dX0_wipe_36 : decode cX0_wipe 36 = .ok (.if_icmp .ge 16, 3) := by decide +kernel
theorem dX0_wipe_39 : decode cX0_wipe 39 = .ok (.aload_n 0, 1) := by decide +kernel
theorem dX0_wipe_40 : decode cX0_wipe 40 = .ok (.getfield 16, 3) := by decide +kernel
theorem dX0_wipe_43 : decode cX0_wipe 43 = .ok (.iload_n 3, 1) := by decide +kernel
theorem dX0_wipe_44 : decode cX0_wipe 44 = .ok (.iconst 0, 1) := by decide +kernel
theorem dX0_wipe_45 : decode cX0_wipe 45 = .ok (.iastore, 1) := by decide +kernel
theorem dX0_wipe_46 : decode cX0_wipe 46 = .ok (.iinc 3 1, 3) := by decide +kernel
theorem dX0_wipe_49 : decode cX0_wipe 49 = .ok (.goto (-21), 3) := by decide +kernel
theorem dX0_wipe_52 : decode cX0_wipe 52 = .ok (.iload_n 2, 1) := by decide +kernel
theorem dX0_wipe_53 : decode cX0_wipe 53 = .ok (.ireturn, 1) := by decide +kernel
abbrev cX0_type : ByteArray := prog_1_method_4_code
def yX0_type : MethodName := ⟨RX0, "type", "(I)I"⟩
theorem dX0_type_0 : decode cX0_type 0 = .ok (.aload_n 0, 1) := by decide +kernel
theorem dX0_type_1 : decode cX0_type 1 = .ok (.getfield 44, 3) := by decide +kernel
theorem dX0_type_4 : decode cX0_type 4 = .ok (.bipush 8, 2) := by decide +kernel
theorem dX0_type_6 : decode cX0_type 6 = .ok (.if_icmp .lt 5, 3) := by decide +kernel
theorem dX0_type_9 : decode cX0_type 9 = .ok (.iconst (-1), 1) := by decide +kernel
theorem dX0_type_10 : decode cX0_type 10 = .ok (.ireturn, 1) := by decide +kernel
theorem dX0_type_11 : decode cX0_type 11 = .ok (.aload_n 0, 1) := by decide +kernel
theorem dX0_type_12 : decode cX0_type 12 = .ok (.getfield 19, 3) := by decide +kernel
theorem dX0_type_15 : decode cX0_type 15 = .ok (.aload_n 0, 1) := by decide +kernel
theorem dX0_type_16 : decode cX0_type 16 = .ok (.getfield 44, 3) := by decide +kernel
theorem dX0_type_19 : decode cX0_type 19 = .ok (.iload_n 1, 1) := by decide +kernel
theorem dX0_type_20 : decode cX0_type 20 = .ok (.iconst 3, 1) := by decide +kernel
theorem dX0_type_21 : decode cX0_type 21 = .ok (.iand, 1) := by decide +kernel
theorem dX0_type_22 : decode cX0_type 22 = .ok (.iastore, 1) := by decide +kernel
theorem dX0_type_23 : decode cX0_type 23 = .ok (.aload_n 0, 1) := by decide +kernel
theorem dX0_type_24 : decode cX0_type 24 = .ok (.getfield 44, 3) := by decide +kernel
theorem dX0_type_27 : decode cX0_type 27 = .ok (.ifCond .le 29, 3) := by decide +kernel
theorem dX0_type_30 : decode cX0_type 30 = .ok (.aload_n 0, 1) := by decide +kernel
theorem dX0_type_31 : decode cX0_type 31 = .ok (.getfield 22, 3) := by decide +kernel
theorem dX0_type_34 : decode cX0_type 34 = .ok (.iconst 4, 1) := by decide +kernel
theorem dX0_type_35 : decode cX0_type 35 = .ok (.aload_n 0, 1) := by decide +kernel
theorem dX0_type_36 : decode cX0_type 36 = .ok (.getfield 19, 3) := by decide +kernel
theorem dX0_type_39 : decode cX0_type 39 = .ok (.aload_n 0, 1) := by decide +kernel
theorem dX0_type_40 : decode cX0_type 40 = .ok (.getfield 44, 3) := by decide +kernel
theorem dX0_type_43 : decode cX0_type 43 = .ok (.iconst 1, 1) := by decide +kernel
theorem dX0_type_44 : decode cX0_type 44 = .ok (.isub, 1) := by decide +kernel
theorem dX0_type_45 : decode cX0_type 45 = .ok (.iaload, 1) := by decide +kernel
theorem dX0_type_46 : decode cX0_type 46 = .ok (.imul, 1) := by decide +kernel
theorem dX0_type_47 : decode cX0_type 47 = .ok (.iload_n 1, 1) := by decide +kernel
theorem dX0_type_48 : decode cX0_type 48 = .ok (.iconst 3, 1) := by decide +kernel
theorem dX0_type_49 : decode cX0_type 49 = .ok (.iand, 1) := by decide +kernel
theorem dX0_type_50 : decode cX0_type 50 = .ok (.iadd, 1) := by decide +kernel
theorem dX0_type_51 : decode cX0_type 51 = .ok (.dup2, 1) := by decide +kernel
theorem dX0_type_52 : decode cX0_type 52 = .ok (.iaload, 1) := by decide +kernel
theorem dX0_type_53 : decode cX0_type 53 = .ok (.iconst 1, 1) := by decide +kernel
theorem dX0_type_54 : decode cX0_type 54 = .ok (.iadd, 1) := by decide +kernel
theorem dX0_type_55 : decode cX0_type 55 = .ok (.iastore, 1) := by decide +kernel
theorem dX0_type_56 : decode cX0_type 56 = .ok (.aload_n 0, 1) := by decide +kernel
theorem dX0_type_57 : decode cX0_type 57 = .ok (.dup, 1) := by decide +kernel
theorem dX0_type_58 : decode cX0_type 58 = .ok (.getfield 44, 3) := by decide +kernel
theorem dX0_type_61 : decode cX0_type 61 = .ok (.iconst 1, 1) := by decide +kernel
theorem dX0_type_62 : decode cX0_type 62 = .ok (.iadd, 1) := by decide +kernel
theorem dX0_type_63 : decode cX0_type 63 = .ok (.putfield 44, 3) := by decide +kernel
theorem dX0_type_66 : decode cX0_type 66 = .ok (.aload_n 0, 1) := by decide +kernel
theorem dX0_type_67 : decode cX0_type 67 = .ok (.getfield 44, 3) := by decide +kernel
theorem dX0_type_70 : decode cX0_type 70 = .ok (.ireturn, 1) := by decide +kernel
abbrev cX0_clear : ByteArray := prog_1_method_5_code
def yX0_clear : MethodName := ⟨RX0, "clear", "()V"⟩
theorem dX0_clear_0 : decode cX0_clear 0 = .ok (.aload_n 0, 1) := by decide +kernel
theorem dX0_clear_1 : decode cX0_clear 1 = .ok (.iconst 0, 1) := by decide +kernel
theorem dX0_clear_2 : decode cX0_clear 2 = .ok (.putfield 44, 3) := by decide +kernel
theorem dX0_clear_5 : decode cX0_clear 5 = .ok (.iconst 0, 1) := by decide +kernel
theorem dX0_clear_6 : decode cX0_clear 6 = .ok (.istore_n 1, 1) := by decide +kernel
theorem dX0_clear_7 : decode cX0_clear 7 = .ok (.iload_n 1, 1) := by decide +kernel
theorem dX0_clear_8 : decode cX0_clear 8 = .ok (.bipush 16, 2) := by decide +kernel
theorem dX0_clear_10 : decode cX0_clear 10 = .ok (.if_icmp .ge 16, 3) := by decide +kernel
theorem dX0_clear_13 : decode cX0_clear 13 = .ok (.aload_n 0, 1) := by decide +kernel
theorem dX0_clear_14 : decode cX0_clear 14 = .ok (.getfield 22, 3) := by decide +kernel
theorem dX0_clear_17 : decode cX0_clear 17 = .ok (.iload_n 1, 1) := by decide +kernel
theorem dX0_clear_18 : decode cX0_clear 18 = .ok (.iconst 0, 1) := by decide +kernel
theorem dX0_clear_19 : decode cX0_clear 19 = .ok (.iastore, 1) := by decide +kernel
theorem dX0_clear_20 : decode cX0_clear 20 = .ok (.iinc 1 1, 3) := by decide +kernel
theorem dX0_clear_23 : decode cX0_clear 23 = .ok (.goto (-16), 3) := by decide +kernel
theorem dX0_clear_26 : decode cX0_clear 26 = .ok (.return_, 1) := by decide +kernel
abbrev cX0_distance : ByteArray := prog_1_method_6_code
def yX0_distance : MethodName := ⟨RX0, "distance", "(I)I"⟩
theorem dX0_distance_0 : decode cX0_distance 0 = .ok (.iload_n 1, 1) := by decide +kernel
theorem dX0_distance_1 : decode cX0_distance 1 = .ok (.invokestatic 40, 3) := by decide +kernel
theorem dX0_distance_4 : decode cX0_distance 4 = .ok (.ifCond .ne 5, 3) := by decide +kernel
theorem dX0_distance_7 : decode cX0_distance 7 = .ok (.iconst (-1), 1) := by decide +kernel
theorem dX0_distance_8 : decode cX0_distance 8 = .ok (.ireturn, 1) := by decide +kernel
theorem dX0_distance_9 : decode cX0_distance 9 = .ok (.aload_n 0, 1) := by decide +kernel
theorem dX0_distance_10 : decode cX0_distance 10 = .ok (.iload_n 1, 1) := by decide +kernel
theorem dX0_distance_11 : decode cX0_distance 11 = .ok (.invokevirtual 48, 3) := by decide +kernel
theorem dX0_distance_14 : decode cX0_distance 14 = .ok (.aload_n 0, 1) := by decide +kernel
theorem dX0_distance_15 : decode cX0_distance 15 = .ok (.getfield 52, 3) := by decide +kernel
theorem dX0_distance_18 : decode cX0_distance 18 = .ok (.ireturn, 1) := by decide +kernel
abbrev cX0_search : ByteArray := prog_1_method_16_code
def yX0_search : MethodName := ⟨RX0, "search", "(I)V"⟩
theorem dX0_search_0 : decode cX0_search 0 = .ok (.iconst 0, 1) := by decide +kernel
theorem dX0_search_1 : decode cX0_search 1 = .ok (.istore_n 2, 1) := by decide +kernel
theorem dX0_search_2 : decode cX0_search 2 = .ok (.iload_n 2, 1) := by decide +kernel
theorem dX0_search_3 : decode cX0_search 3 = .ok (.iconst 4, 1) := by decide +kernel
theorem dX0_search_4 : decode cX0_search 4 = .ok (.if_icmp .ge 16, 3) := by decide +kernel
theorem dX0_search_7 : decode cX0_search 7 = .ok (.aload_n 0, 1) := by decide +kernel
theorem dX0_search_8 : decode cX0_search 8 = .ok (.getfield 25, 3) := by decide +kernel
theorem dX0_search_11 : decode cX0_search 11 = .ok (.iload_n 2, 1) := by decide +kernel
theorem dX0_search_12 : decode cX0_search 12 = .ok (.iconst 0, 1) := by decide +kernel
theorem dX0_search_13 : decode cX0_search 13 = .ok (.iastore, 1) := by decide +kernel
theorem dX0_search_14 : decode cX0_search 14 = .ok (.iinc 2 1, 3) := by decide +kernel
theorem dX0_search_17 : decode cX0_search 17 = .ok (.goto (-15), 3) := by decide +kernel
theorem dX0_search_20 : decode cX0_search 20 = .ok (.iconst 0, 1) := by decide +kernel
theorem dX0_search_21 : decode cX0_search 21 = .ok (.istore_n 2, 1) := by decide +kernel
theorem dX0_search_22 : decode cX0_search 22 = .ok (.iload_n 2, 1) := by decide +kernel
theorem dX0_search_23 : decode cX0_search 23 = .ok (.aload_n 0, 1) := by decide +kernel
theorem dX0_search_24 : decode cX0_search 24 = .ok (.getfield 44, 3) := by decide +kernel
theorem dX0_search_27 : decode cX0_search 27 = .ok (.if_icmp .ge 26, 3) := by decide +kernel
theorem dX0_search_30 : decode cX0_search 30 = .ok (.aload_n 0, 1) := by decide +kernel
theorem dX0_search_31 : decode cX0_search 31 = .ok (.getfield 25, 3) := by decide +kernel
theorem dX0_search_34 : decode cX0_search 34 = .ok (.aload_n 0, 1) := by decide +kernel
theorem dX0_search_35 : decode cX0_search 35 = .ok (.getfield 19, 3) := by decide +kernel
theorem dX0_search_38 : decode cX0_search 38 = .ok (.iload_n 2, 1) := by decide +kernel
theorem dX0_search_39 : decode cX0_search 39 = .ok (.iaload, 1) := by decide +kernel
theorem dX0_search_40 : decode cX0_search 40 = .ok (.dup2, 1) := by decide +kernel
theorem dX0_search_41 : decode cX0_search 41 = .ok (.iaload, 1) := by decide +kernel
theorem dX0_search_42 : decode cX0_search 42 = .ok (.iconst 1, 1) := by decide +kernel
theorem dX0_search_43 : decode cX0_search 43 = .ok (.iload_n 2, 1) := by decide +kernel
theorem dX0_search_44 : decode cX0_search 44 = .ok (.ishl, 1) := by decide +kernel
theorem dX0_search_45 : decode cX0_search 45 = .ok (.ior, 1) := by decide +kernel
theorem dX0_search_46 : decode cX0_search 46 = .ok (.iastore, 1) := by decide +kernel
theorem dX0_search_47 : decode cX0_search 47 = .ok (.iinc 2 1, 3) := by decide +kernel
theorem dX0_search_50 : decode cX0_search 50 = .ok (.goto (-28), 3) := by decide +kernel
theorem dX0_search_53 : decode cX0_search 53 = .ok (.aload_n 0, 1) := by decide +kernel
theorem dX0_search_54 : decode cX0_search 54 = .ok (.aload_n 0, 1) := by decide +kernel
theorem dX0_search_55 : decode cX0_search 55 = .ok (.getfield 44, 3) := by decide +kernel
theorem dX0_search_58 : decode cX0_search 58 = .ok (.putfield 52, 3) := by decide +kernel
theorem dX0_search_61 : decode cX0_search 61 = .ok (.aload_n 0, 1) := by decide +kernel
theorem dX0_search_62 : decode cX0_search 62 = .ok (.iconst 0, 1) := by decide +kernel
theorem dX0_search_63 : decode cX0_search 63 = .ok (.putfield 55, 3) := by decide +kernel
theorem dX0_search_66 : decode cX0_search 66 = .ok (.aload_n 0, 1) := by decide +kernel
theorem dX0_search_67 : decode cX0_search 67 = .ok (.getfield 44, 3) := by decide +kernel
theorem dX0_search_70 : decode cX0_search 70 = .ok (.ifCond .ne 4, 3) := by decide +kernel
theorem dX0_search_73 : decode cX0_search 73 = .ok (.return_, 1) := by decide +kernel
theorem dX0_search_74 : decode cX0_search 74 = .ok (.iconst 1, 1) := by decide +kernel
theorem dX0_search_75 : decode cX0_search 75 = .ok (.aload_n 0, 1) := by decide +kernel
theorem dX0_search_76 : decode cX0_search 76 = .ok (.getfield 44, 3) := by decide +kernel
theorem dX0_search_79 : decode cX0_search 79 = .ok (.ishl, 1) := by decide +kernel
theorem dX0_search_80 : decode cX0_search 80 = .ok (.iconst 1, 1) := by decide +kernel
theorem dX0_search_81 : decode cX0_search 81 = .ok (.isub, 1) := by decide +kernel
theorem dX0_search_82 : decode cX0_search 82 = .ok (.istore_n 2, 1) := by decide +kernel
theorem dX0_search_83 : decode cX0_search 83 = .ok (.iconst 1, 1) := by decide +kernel
theorem dX0_search_84 : decode cX0_search 84 = .ok (.aload_n 0, 1) := by decide +kernel
theorem dX0_search_85 : decode cX0_search 85 = .ok (.getfield 44, 3) := by decide +kernel
theorem dX0_search_88 : decode cX0_search 88 = .ok (.iconst 1, 1) := by decide +kernel
theorem dX0_search_89 : decode cX0_search 89 = .ok (.isub, 1) := by decide +kernel
theorem dX0_search_90 : decode cX0_search 90 = .ok (.ishl, 1) := by decide +kernel
theorem dX0_search_91 : decode cX0_search 91 = .ok (.istore_n 3, 1) := by decide +kernel
theorem dX0_search_92 : decode cX0_search 92 = .ok (.iload_n 2, 1) := by decide +kernel
theorem dX0_search_93 : decode cX0_search 93 = .ok (.istore 4, 2) := by decide +kernel
theorem dX0_search_95 : decode cX0_search 95 = .ok (.iconst 0, 1) := by decide +kernel
theorem dX0_search_96 : decode cX0_search 96 = .ok (.istore 5, 2) := by decide +kernel
theorem dX0_search_98 : decode cX0_search 98 = .ok (.aload_n 0, 1) := by decide +kernel
theorem dX0_search_99 : decode cX0_search 99 = .ok (.getfield 44, 3) := by decide +kernel
theorem dX0_search_102 : decode cX0_search 102 = .ok (.istore 6, 2) := by decide +kernel
theorem dX0_search_104 : decode cX0_search 104 = .ok (.iconst 0, 1) := by decide +kernel
theorem dX0_search_105 : decode cX0_search 105 = .ok (.istore 7, 2) := by decide +kernel
theorem dX0_search_107 : decode cX0_search 107 = .ok (.iload 7, 2) := by decide +kernel
theorem dX0_search_109 : decode cX0_search 109 = .ok (.aload_n 0, 1) := by decide +kernel
theorem dX0_search_110 : decode cX0_search 110 = .ok (.getfield 7, 3) := by decide +kernel
theorem dX0_search_113 : decode cX0_search 113 = .ok (.iload_n 1, 1) := by decide +kernel
theorem dX0_search_114 : decode cX0_search 114 = .ok (.iaload, 1) := by decide +kernel
theorem dX0_search_115 : decode cX0_search 115 = .ok (.if_icmp .ge 158, 3) := by decide +kernel
theorem dX0_search_118 : decode cX0_search 118 = .ok (.aload_n 0, 1) := by decide +kernel
theorem dX0_search_119 : decode cX0_search 119 = .ok (.getfield 25, 3) := by decide +kernel
theorem dX0_search_122 : decode cX0_search 122 = .ok (.aload_n 0, 1) := by decide +kernel
theorem dX0_search_123 : decode cX0_search 123 = .ok (.getfield 13, 3) := by decide +kernel
theorem dX0_search_126 : decode cX0_search 126 = .ok (.bipush 16, 2) := by decide +kernel
theorem dX0_search_128 : decode cX0_search 128 = .ok (.iload_n 1, 1) := by decide +kernel
theorem dX0_search_129 : decode cX0_search 129 = .ok (.imul, 1) := by decide +kernel
theorem dX0_search_130 : decode cX0_search 130 = .ok (.iload 7, 2) := by decide +kernel
theorem dX0_search_132 : decode cX0_search 132 = .ok (.iadd, 1) := by decide +kernel
theorem dX0_search_133 : decode cX0_search 133 = .ok (.iaload, 1) := by decide +kernel
theorem dX0_search_134 : decode cX0_search 134 = .ok (.iaload, 1) := by decide +kernel
theorem dX0_search_135 : decode cX0_search 135 = .ok (.istore 8, 2) := by decide +kernel
theorem dX0_search_137 : decode cX0_search 137 = .ok (.iload 8, 2) := by decide +kernel
theorem dX0_search_139 : decode cX0_search 139 = .ok (.iload 5, 2) := by decide +kernel
theorem dX0_search_141 : decode cX0_search 141 = .ok (.ior, 1) := by decide +kernel
theorem dX0_search_142 : decode cX0_search 142 = .ok (.istore 9, 2) := by decide +kernel
theorem dX0_search_144 : decode cX0_search 144 = .ok (.iload 8, 2) := by decide +kernel
theorem dX0_search_146 : decode cX0_search 146 = .ok (.iload 4, 2) := by decide +kernel
theorem dX0_search_148 : decode cX0_search 148 = .ok (.iand, 1) := by decide +kernel
theorem dX0_search_149 : decode cX0_search 149 = .ok (.iload 4, 2) := by decide +kernel
theorem dX0_search_151 : decode cX0_search 151 = .ok (.iadd, 1) := by decide +kernel
theorem dX0_search_152 : decode cX0_search 152 = .ok (.iload 4, 2) := by decide +kernel
theorem dX0_search_154 : decode cX0_search 154 = .ok (.ixor, 1) := by decide +kernel
theorem dX0_search_155 : decode cX0_search 155 = .ok (.iload 8, 2) := by decide +kernel
theorem dX0_search_157 : decode cX0_search 157 = .ok (.ior, 1) := by decide +kernel
theorem dX0_search_158 : decode cX0_search 158 = .ok (.istore 10, 2) := by decide +kernel
theorem dX0_search_160 : decode cX0_search 160 = .ok (.iload 5, 2) := by decide +kernel
theorem dX0_search_162 : decode cX0_search 162 = .ok (.iload 10, 2) := by decide +kernel
theorem dX0_search_164 : decode cX0_search 164 = .ok (.iload 4, 2) := by decide +kernel
theorem dX0_search_166 : decode cX0_search 166 = .ok (.ior, 1) := by decide +kernel
theorem dX0_search_167 : decode cX0_search 167 = .ok (.iconst (-1), 1) := by decide +kernel
theorem dX0_search_168 : decode cX0_search 168 = .ok (.ixor, 1) := by decide +kernel
theorem dX0_search_169 : decode cX0_search 169 = .ok (.ior, 1) := by decide +kernel
theorem dX0_search_170 : decode cX0_search 170 = .ok (.iload_n 2, 1) := by decide +kernel
theorem dX0_search_171 : decode cX0_search 171 = .ok (.iand, 1) := by decide +kernel
theorem dX0_search_172 : decode cX0_search 172 = .ok (.istore 11, 2) := by decide +kernel
theorem dX0_search_174 : decode cX0_search 174 = .ok (.iload 4, 2) := by decide +kernel
theorem dX0_search_176 : decode cX0_search 176 = .ok (.iload 10, 2) := by decide +kernel
theorem dX0_search_178 : decode cX0_search 178 = .ok (.iand, 1) := by decide +kernel
theorem dX0_search_179 : decode cX0_search 179 = .ok (.istore 12, 2) := by decide +kernel
theorem dX0_search_181 : decode cX0_search 181 = .ok (.iload 6, 2) := by decide +kernel
theorem dX0_search_183 : decode cX0_search 183 = .ok (.iload 11, 2) := by decide +kernel
theorem dX0_search_185 : decode cX0_search 185 = .ok (.iload_n 3, 1) := by decide +kernel
theorem dX0_search_186 : decode cX0_search 186 = .ok (.iand, 1) := by decide +kernel
theorem dX0_search_187 : decode cX0_search 187 = .ok (.ifCond .eq 7, 3) := by decide +kernel
theorem dX0_search_190 : decode cX0_search 190 = .ok (.iconst 1, 1) := by decide +kernel
theorem dX0_search_191 : decode cX0_search 191 = .ok (.goto 15, 3) := by decide +kernel
theorem dX0_search_194 : decode cX0_search 194 = .ok (.iload 12, 2) := by decide +kernel
theorem dX0_search_196 : decode cX0_search 196 = .ok (.iload_n 3, 1) := by decide +kernel
theorem dX0_search_197 : decode cX0_search 197 = .ok (.iand, 1) := by decide +kernel
theorem dX0_search_198 : decode cX0_search 198 = .ok (.ifCond .eq 7, 3) := by decide +kernel
theorem dX0_search_201 : decode cX0_search 201 = .ok (.iconst (-1), 1) := by decide +kernel
theorem dX0_search_202 : decode cX0_search 202 = .ok (.goto 4, 3) := by decide +kernel
theorem dX0_search_205 : decode cX0_search 205 = .ok (.iconst 0, 1) := by decide +kernel
theorem dX0_search_206 : decode cX0_search 206 = .ok (.iadd, 1) := by decide +kernel
theorem dX0_search_207 : decode cX0_search 207 = .ok (.istore 6, 2) := by decide +kernel
theorem dX0_search_209 : decode cX0_search 209 = .ok (.iload 11, 2) := by decide +kernel
theorem dX0_search_211 : decode cX0_search 211 = .ok (.iconst 1, 1) := by decide +kernel
theorem dX0_search_212 : decode cX0_search 212 = .ok (.ishl, 1) := by decide +kernel
theorem dX0_search_213 : decode cX0_search 213 = .ok (.istore 11, 2) := by decide +kernel
theorem dX0_search_215 : decode cX0_search 215 = .ok (.iload 12, 2) := by decide +kernel
theorem dX0_search_217 : decode cX0_search 217 = .ok (.iconst 1, 1) := by decide +kernel
theorem dX0_search_218 : decode cX0_search 218 = .ok (.ishl, 1) := by decide +kernel
theorem dX0_search_219 : decode cX0_search 219 = .ok (.istore 12, 2) := by decide +kernel
theorem dX0_search_221 : decode cX0_search 221 = .ok (.iload 12, 2) := by decide +kernel
theorem dX0_search_223 : decode cX0_search 223 = .ok (.iload 9, 2) := by decide +kernel
theorem dX0_search_225 : decode cX0_search 225 = .ok (.iload 11, 2) := by decide +kernel
theorem dX0_search_227 : decode cX0_search 227 = .ok (.ior, 1) := by decide +kernel
theorem dX0_search_228 : decode cX0_search 228 = .ok (.iconst (-1), 1) := by decide +kernel
theorem dX0_search_229 : decode cX0_search 229 = .ok (.ixor, 1) := by decide +kernel
theorem dX0_search_230 : decode cX0_search 230 = .ok (.ior, 1) := by decide +kernel
theorem dX0_search_231 : decode cX0_search 231 = .ok (.iload_n 2, 1) := by decide +kernel
theorem dX0_search_232 : decode cX0_search 232 = .ok (.iand, 1) := by decide +kernel
theorem dX0_search_233 : decode cX0_search 233 = .ok (.istore 4, 2) := by decide +kernel
theorem dX0_search_235 : decode cX0_search 235 = .ok (.iload 11, 2) := by decide +kernel
theorem dX0_search_237 : decode cX0_search 237 = .ok (.iload 9, 2) := by decide +kernel
theorem dX0_search_239 : decode cX0_search 239 = .ok (.iand, 1) := by decide +kernel
theorem dX0_search_240 : decode cX0_search 240 = .ok (.iload_n 2, 1) := by decide +kernel
theorem dX0_search_241 : decode cX0_search 241 = .ok (.iand, 1) := by decide +kernel
theorem dX0_search_242 : decode cX0_search 242 = .ok (.istore 5, 2) := by decide +kernel
theorem dX0_search_244 : decode cX0_search 244 = .ok (.iload 6, 2) := by decide +kernel
theorem dX0_search_246 : decode cX0_search 246 = .ok (.aload_n 0, 1) := by decide +kernel
theorem dX0_search_247 : decode cX0_search 247 = .ok (.getfield 52, 3) := by decide +kernel
theorem dX0_search_250 : decode cX0_search 250 = .ok (.if_icmp .ge 17, 3) := by decide +kernel
theorem dX0_search_253 : decode cX0_search 253 = .ok (.aload_n 0, 1) := by decide +kernel
theorem dX0_search_254 : decode cX0_search 254 = .ok (.iload 6, 2) := by decide +kernel
theorem dX0_search_256 : decode cX0_search 256 = .ok (.putfield 52, 3) := by decide +kernel
theorem dX0_search_259 : decode cX0_search 259 = .ok (.aload_n 0, 1) := by decide +kernel
theorem dX0_search_260 : decode cX0_search 260 = .ok (.iload 7, 2) := by decide +kernel
theorem dX0_search_262 : decode cX0_search 262 = .ok (.iconst 1, 1) := by decide +kernel
theorem dX0_search_263 : decode cX0_search 263 = .ok (.iadd, 1) := by decide +kernel
theorem dX0_search_264 : decode cX0_search 264 = .ok (.putfield 55, 3) := by decide +kernel
theorem dX0_search_267 : decode cX0_search 267 = .ok (.iinc 7 1, 3) := by decide +kernel
theorem dX0_search_270 : decode cX0_search 270 = .ok (.goto (-163), 3) := by decide +kernel
theorem dX0_search_273 : decode cX0_search 273 = .ok (.return_, 1) := by decide +kernel
end
section
set_option maxRecDepth 100000
abbrev cX0_end : ByteArray := prog_1_method_7_code
def yX0_end : MethodName := ⟨RX0, "end", "(I)I"⟩
theorem dX0_end_0 : decode cX0_end 0 = .ok (.iload_n 1, 1) := by decide +kernel
theorem dX0_end_1 : decode cX0_end 1 = .ok (.invokestatic 40, 3) := by decide +kernel
theorem dX0_end_4 : decode cX0_end 4 = .ok (.ifCond .ne 5, 3) := by decide +kernel
theorem dX0_end_7 : decode cX0_end 7 = .ok (.iconst (-1), 1) := by decide +kernel
theorem dX0_end_8 : decode cX0_end 8 = .ok (.ireturn, 1) := by decide +kernel
theorem dX0_end_9 : decode cX0_end 9 = .ok (.aload_n 0, 1) := by decide +kernel
theorem dX0_end_10 : decode cX0_end 10 = .ok (.iload_n 1, 1) := by decide +kernel
theorem dX0_end_11 : decode cX0_end 11 = .ok (.invokevirtual 48, 3) := by decide +kernel
theorem dX0_end_14 : decode cX0_end 14 = .ok (.aload_n 0, 1) := by decide +kernel
theorem dX0_end_15 : decode cX0_end 15 = .ok (.getfield 55, 3) := by decide +kernel
theorem dX0_end_18 : decode cX0_end 18 = .ok (.ireturn, 1) := by decide +kernel
abbrev cX0_whole : ByteArray := prog_1_method_8_code
def yX0_whole : MethodName := ⟨RX0, "whole", "(I)I"⟩
theorem dX0_whole_0 : decode cX0_whole 0 = .ok (.iload_n 1, 1) := by decide +kernel
theorem dX0_whole_1 : decode cX0_whole 1 = .ok (.invokestatic 40, 3) := by decide +kernel
theorem dX0_whole_4 : decode cX0_whole 4 = .ok (.ifCond .ne 5, 3) := by decide +kernel
theorem dX0_whole_7 : decode cX0_whole 7 = .ok (.iconst (-1), 1) := by decide +kernel
theorem dX0_whole_8 : decode cX0_whole 8 = .ok (.ireturn, 1) := by decide +kernel
theorem dX0_whole_9 : decode cX0_whole 9 = .ok (.iconst 0, 1) := by decide +kernel
theorem dX0_whole_10 : decode cX0_whole 10 = .ok (.istore_n 2, 1) := by decide +kernel
theorem dX0_whole_11 : decode cX0_whole 11 = .ok (.iload_n 2, 1) := by decide +kernel
theorem dX0_whole_12 : decode cX0_whole 12 = .ok (.aload_n 0, 1) := by decide +kernel
theorem dX0_whole_13 : decode cX0_whole 13 = .ok (.getfield 44, 3) := by decide +kernel
theorem dX0_whole_16 : decode cX0_whole 16 = .ok (.if_icmp .ge 21, 3) := by decide +kernel
theorem dX0_whole_19 : decode cX0_whole 19 = .ok (.aload_n 0, 1) := by decide +kernel
theorem dX0_whole_20 : decode cX0_whole 20 = .ok (.getfield 28, 3) := by decide +kernel
theorem dX0_whole_23 : decode cX0_whole 23 = .ok (.iload_n 2, 1) := by decide +kernel
theorem dX0_whole_24 : decode cX0_whole 24 = .ok (.aload_n 0, 1) := by decide +kernel
theorem dX0_whole_25 : decode cX0_whole 25 = .ok (.getfield 19, 3) := by decide +kernel
theorem dX0_whole_28 : decode cX0_whole 28 = .ok (.iload_n 2, 1) := by decide +kernel
theorem dX0_whole_29 : decode cX0_whole 29 = .ok (.iaload, 1) := by decide +kernel
theorem dX0_whole_30 : decode cX0_whole 30 = .ok (.iastore, 1) := by decide +kernel
theorem dX0_whole_31 : decode cX0_whole 31 = .ok (.iinc 2 1, 3) := by decide +kernel
theorem dX0_whole_34 : decode cX0_whole 34 = .ok (.goto (-23), 3) := by decide +kernel
theorem dX0_whole_37 : decode cX0_whole 37 = .ok (.aload_n 0, 1) := by decide +kernel
theorem dX0_whole_38 : decode cX0_whole 38 = .ok (.aload_n 0, 1) := by decide +kernel
theorem dX0_whole_39 : decode cX0_whole 39 = .ok (.getfield 44, 3) := by decide +kernel
theorem dX0_whole_42 : decode cX0_whole 42 = .ok (.putfield 58, 3) := by decide +kernel
theorem dX0_whole_45 : decode cX0_whole 45 = .ok (.aload_n 0, 1) := by decide +kernel
theorem dX0_whole_46 : decode cX0_whole 46 = .ok (.iload_n 1, 1) := by decide +kernel
theorem dX0_whole_47 : decode cX0_whole 47 = .ok (.invokevirtual 61, 3) := by decide +kernel
theorem dX0_whole_50 : decode cX0_whole 50 = .ok (.aload_n 0, 1) := by decide +kernel
theorem dX0_whole_51 : decode cX0_whole 51 = .ok (.invokevirtual 64, 3) := by decide +kernel
theorem dX0_whole_54 : decode cX0_whole 54 = .ok (.ireturn, 1) := by decide +kernel
abbrev cX0_takeAsY : ByteArray := prog_1_method_17_code
def yX0_takeAsY : MethodName := ⟨RX0, "takeAsY", "(I)V"⟩
theorem dX0_takeAsY_0 : decode cX0_takeAsY 0 = .ok (.iconst 0, 1) := by decide +kernel
theorem dX0_takeAsY_1 : decode cX0_takeAsY 1 = .ok (.istore_n 2, 1) := by decide +kernel
theorem dX0_takeAsY_2 : decode cX0_takeAsY 2 = .ok (.iload_n 2, 1) := by decide +kernel
theorem dX0_takeAsY_3 : decode cX0_takeAsY 3 = .ok (.aload_n 0, 1) := by decide +kernel
theorem dX0_takeAsY_4 : decode cX0_takeAsY 4 = .ok (.getfield 7, 3) := by decide +kernel
theorem dX0_takeAsY_7 : decode cX0_takeAsY 7 = .ok (.iload_n 1, 1) := by decide +kernel
theorem dX0_takeAsY_8 : decode cX0_takeAsY 8 = .ok (.iaload, 1) := by decide +kernel
theorem dX0_takeAsY_9 : decode cX0_takeAsY 9 = .ok (.if_icmp .ge 26, 3) := by decide +kernel
theorem dX0_takeAsY_12 : decode cX0_takeAsY 12 = .ok (.aload_n 0, 1) := by decide +kernel
theorem dX0_takeAsY_13 : decode cX0_takeAsY 13 = .ok (.getfield 31, 3) := by decide +kernel
theorem dX0_takeAsY_16 : decode cX0_takeAsY 16 = .ok (.iload_n 2, 1) := by decide +kernel
theorem dX0_takeAsY_17 : decode cX0_takeAsY 17 = .ok (.aload_n 0, 1) := by decide +kernel
theorem dX0_takeAsY_18 : decode cX0_takeAsY 18 = .ok (.getfield 13, 3) := by decide +kernel
theorem dX0_takeAsY_21 : decode cX0_takeAsY 21 = .ok (.bipush 16, 2) := by decide +kernel
theorem dX0_takeAsY_23 : decode cX0_takeAsY 23 = .ok (.iload_n 1, 1) := by decide +kernel
theorem dX0_takeAsY_24 : decode cX0_takeAsY 24 = .ok (.imul, 1) := by decide +kernel
theorem dX0_takeAsY_25 : decode cX0_takeAsY 25 = .ok (.iload_n 2, 1) := by decide +kernel
theorem dX0_takeAsY_26 : decode cX0_takeAsY 26 = .ok (.iadd, 1) := by decide +kernel
theorem dX0_takeAsY_27 : decode cX0_takeAsY 27 = .ok (.iaload, 1) := by decide +kernel
theorem dX0_takeAsY_28 : decode cX0_takeAsY 28 = .ok (.iastore, 1) := by decide +kernel
theorem dX0_takeAsY_29 : decode cX0_takeAsY 29 = .ok (.iinc 2 1, 3) := by decide +kernel
theorem dX0_takeAsY_32 : decode cX0_takeAsY 32 = .ok (.goto (-30), 3) := by decide +kernel
theorem dX0_takeAsY_35 : decode cX0_takeAsY 35 = .ok (.aload_n 0, 1) := by decide +kernel
theorem dX0_takeAsY_36 : decode cX0_takeAsY 36 = .ok (.aload_n 0, 1) := by decide +kernel
theorem dX0_takeAsY_37 : decode cX0_takeAsY 37 = .ok (.getfield 7, 3) := by decide +kernel
theorem dX0_takeAsY_40 : decode cX0_takeAsY 40 = .ok (.iload_n 1, 1) := by decide +kernel
theorem dX0_takeAsY_41 : decode cX0_takeAsY 41 = .ok (.iaload, 1) := by decide +kernel
theorem dX0_takeAsY_42 : decode cX0_takeAsY 42 = .ok (.putfield 76, 3) := by decide +kernel
theorem dX0_takeAsY_45 : decode cX0_takeAsY 45 = .ok (.return_, 1) := by decide +kernel
abbrev cX0_wholeDistance : ByteArray := prog_1_method_18_code
def yX0_wholeDistance : MethodName := ⟨RX0, "wholeDistance", "()I"⟩
theorem dX0_wholeDistance_0 : decode cX0_wholeDistance 0 = .ok (.aload_n 0, 1) := by decide +kernel
theorem dX0_wholeDistance_1 : decode cX0_wholeDistance 1 = .ok (.getfield 58, 3) := by decide +kernel
theorem dX0_wholeDistance_4 : decode cX0_wholeDistance 4 = .ok (.aload_n 0, 1) := by decide +kernel
theorem dX0_wholeDistance_5 : decode cX0_wholeDistance 5 = .ok (.getfield 76, 3) := by decide +kernel
theorem dX0_wholeDistance_8 : decode cX0_wholeDistance 8 = .ok (.if_icmp .le 15, 3) := by decide +kernel
theorem dX0_wholeDistance_11 : decode cX0_wholeDistance 11 = .ok (.aload_n 0, 1) := by decide +kernel
theorem dX0_wholeDistance_12 : decode cX0_wholeDistance 12 = .ok (.getfield 58, 3) := by decide +kernel
theorem dX0_wholeDistance_15 : decode cX0_wholeDistance 15 = .ok (.aload_n 0, 1) := by decide +kernel
theorem dX0_wholeDistance_16 : decode cX0_wholeDistance 16 = .ok (.getfield 76, 3) := by decide +kernel
theorem dX0_wholeDistance_19 : decode cX0_wholeDistance 19 = .ok (.isub, 1) := by decide +kernel
theorem dX0_wholeDistance_20 : decode cX0_wholeDistance 20 = .ok (.goto 12, 3) := by decide +kernel
theorem dX0_wholeDistance_23 : decode cX0_wholeDistance 23 = .ok (.aload_n 0, 1) := by decide +kernel
theorem dX0_wholeDistance_24 : decode cX0_wholeDistance 24 = .ok (.getfield 76, 3) := by decide +kernel
theorem dX0_wholeDistance_27 : decode cX0_wholeDistance 27 = .ok (.aload_n 0, 1) := by decide +kernel
theorem dX0_wholeDistance_28 : decode cX0_wholeDistance 28 = .ok (.getfield 58, 3) := by decide +kernel
theorem dX0_wholeDistance_31 : decode cX0_wholeDistance 31 = .ok (.isub, 1) := by decide +kernel
theorem dX0_wholeDistance_32 : decode cX0_wholeDistance 32 = .ok (.istore_n 1, 1) := by decide +kernel
theorem dX0_wholeDistance_33 : decode cX0_wholeDistance 33 = .ok (.iload_n 1, 1) := by decide +kernel
theorem dX0_wholeDistance_34 : decode cX0_wholeDistance 34 = .ok (.ifCond .le 7, 3) := by decide +kernel
theorem dX0_wholeDistance_37 : decode cX0_wholeDistance 37 = .ok (.iload_n 1, 1) := by decide +kernel
theorem dX0_wholeDistance_38 : decode cX0_wholeDistance 38 = .ok (.goto 4, 3) := by decide +kernel
theorem dX0_wholeDistance_41 : decode cX0_wholeDistance 41 = .ok (.iconst 1, 1) := by decide +kernel
theorem dX0_wholeDistance_42 : decode cX0_wholeDistance 42 = .ok (.istore_n 2, 1) := by decide +kernel
theorem dX0_wholeDistance_43 : decode cX0_wholeDistance 43 = .ok (.iconst 0, 1) := by decide +kernel
theorem dX0_wholeDistance_44 : decode cX0_wholeDistance 44 = .ok (.istore_n 3, 1) := by decide +kernel
theorem dX0_wholeDistance_45 : decode cX0_wholeDistance 45 = .ok (.iload_n 3, 1) := by decide +kernel
theorem dX0_wholeDistance_46 : decode cX0_wholeDistance 46 = .ok (.bipush 6, 2) := by decide +kernel
theorem dX0_wholeDistance_48 : decode cX0_wholeDistance 48 = .ok (.if_icmp .ge 29, 3) := by decide +kernel
theorem dX0_wholeDistance_51 : decode cX0_wholeDistance 51 = .ok (.aload_n 0, 1) := by decide +kernel
theorem dX0_wholeDistance_52 : decode cX0_wholeDistance 52 = .ok (.iload_n 2, 1) := by decide +kernel
theorem dX0_wholeDistance_53 : decode cX0_wholeDistance 53 = .ok (.invokevirtual 79, 3) := by decide +kernel
theorem dX0_wholeDistance_56 : decode cX0_wholeDistance 56 = .ok (.istore 4, 2) := by decide +kernel
theorem dX0_wholeDistance_58 : decode cX0_wholeDistance 58 = .ok (.iload 4, 2) := by decide +kernel
theorem dX0_wholeDistance_60 : decode cX0_wholeDistance 60 = .ok (.iload_n 2, 1) := by decide +kernel
theorem dX0_wholeDistance_61 : decode cX0_wholeDistance 61 = .ok (.if_icmp .gt 6, 3) := by decide +kernel
theorem dX0_wholeDistance_64 : decode cX0_wholeDistance 64 = .ok (.iload 4, 2) := by decide +kernel
theorem dX0_wholeDistance_66 : decode cX0_wholeDistance 66 = .ok (.ireturn, 1) := by decide +kernel
theorem dX0_wholeDistance_67 : decode cX0_wholeDistance 67 = .ok (.iload_n 2, 1) := by decide +kernel
theorem dX0_wholeDistance_68 : decode cX0_wholeDistance 68 = .ok (.iconst 2, 1) := by decide +kernel
theorem dX0_wholeDistance_69 : decode cX0_wholeDistance 69 = .ok (.imul, 1) := by decide +kernel
theorem dX0_wholeDistance_70 : decode cX0_wholeDistance 70 = .ok (.istore_n 2, 1) := by decide +kernel
theorem dX0_wholeDistance_71 : decode cX0_wholeDistance 71 = .ok (.iinc 3 1, 3) := by decide +kernel
theorem dX0_wholeDistance_74 : decode cX0_wholeDistance 74 = .ok (.goto (-29), 3) := by decide +kernel
theorem dX0_wholeDistance_77 : decode cX0_wholeDistance 77 = .ok (.aload_n 0, 1) := by decide +kernel
theorem dX0_wholeDistance_78 : decode cX0_wholeDistance 78 = .ok (.bipush 32, 2) := by decide +kernel
theorem dX0_wholeDistance_80 : decode cX0_wholeDistance 80 = .ok (.invokevirtual 79, 3) := by decide +kernel
theorem dX0_wholeDistance_83 : decode cX0_wholeDistance 83 = .ok (.ireturn, 1) := by decide +kernel
abbrev cX0_bandDistance : ByteArray := prog_1_method_19_code
def yX0_bandDistance : MethodName := ⟨RX0, "bandDistance", "(I)I"⟩
theorem dX0_bandDistance_0 : decode cX0_bandDistance 0 = .ok (.iconst 0, 1) := by decide +kernel
theorem dX0_bandDistance_1 : decode cX0_bandDistance 1 = .ok (.istore_n 2, 1) := by decide +kernel
theorem dX0_bandDistance_2 : decode cX0_bandDistance 2 = .ok (.iload_n 2, 1) := by decide +kernel
theorem dX0_bandDistance_3 : decode cX0_bandDistance 3 = .ok (.aload_n 0, 1) := by decide +kernel
theorem dX0_bandDistance_4 : decode cX0_bandDistance 4 = .ok (.getfield 58, 3) := by decide +kernel
theorem dX0_bandDistance_7 : decode cX0_bandDistance 7 = .ok (.if_icmp .gt 26, 3) := by decide +kernel
theorem dX0_bandDistance_10 : decode cX0_bandDistance 10 = .ok (.aload_n 0, 1) := by decide +kernel
theorem dX0_bandDistance_11 : decode cX0_bandDistance 11 = .ok (.getfield 34, 3) := by decide +kernel
theorem dX0_bandDistance_14 : decode cX0_bandDistance 14 = .ok (.iload_n 2, 1) := by decide +kernel
theorem dX0_bandDistance_15 : decode cX0_bandDistance 15 = .ok (.iload_n 2, 1) := by decide +kernel
theorem dX0_bandDistance_16 : decode cX0_bandDistance 16 = .ok (.iload_n 1, 1) := by decide +kernel
theorem dX0_bandDistance_17 : decode cX0_bandDistance 17 = .ok (.if_icmp .gt 7, 3) := by decide +kernel
theorem dX0_bandDistance_20 : decode cX0_bandDistance 20 = .ok (.iload_n 2, 1) := by decide +kernel
theorem dX0_bandDistance_21 : decode cX0_bandDistance 21 = .ok (.goto 5, 3) := by decide +kernel
theorem dX0_bandDistance_24 : decode cX0_bandDistance 24 = .ok (.bipush 100, 2) := by decide +kernel
theorem dX0_bandDistance_26 : decode cX0_bandDistance 26 = .ok (.iastore, 1) := by decide +kernel
theorem dX0_bandDistance_27 : decode cX0_bandDistance 27 = .ok (.iinc 2 1, 3) := by decide +kernel
theorem dX0_bandDistance_30 : decode cX0_bandDistance 30 = .ok (.goto (-28), 3) := by decide +kernel
theorem dX0_bandDistance_33 : decode cX0_bandDistance 33 = .ok (.iconst 1, 1) := by decide +kernel
theorem dX0_bandDistance_34 : decode cX0_bandDistance 34 = .ok (.istore_n 2, 1) := by decide +kernel
theorem dX0_bandDistance_35 : decode cX0_bandDistance 35 = .ok (.iload_n 2, 1) := by decide +kernel
theorem dX0_bandDistance_36 : decode cX0_bandDistance 36 = .ok (.aload_n 0, 1) := by decide +kernel
theorem dX0_bandDistance_37 : decode cX0_bandDistance 37 = .ok (.getfield 76, 3) := by decide +kernel
theorem dX0_bandDistance_40 : decode cX0_bandDistance 40 = .ok (.if_icmp .gt 66, 3) := by decide +kernel
theorem dX0_bandDistance_43 : decode cX0_bandDistance 43 = .ok (.iconst 0, 1) := by decide +kernel
theorem dX0_bandDistance_44 : decode cX0_bandDistance 44 = .ok (.istore_n 3, 1) := by decide +kernel
theorem dX0_bandDistance_45 : decode cX0_bandDistance 45 = .ok (.iload_n 3, 1) := by decide +kernel
theorem dX0_bandDistance_46 : decode cX0_bandDistance 46 = .ok (.aload_n 0, 1) := by decide +kernel
theorem dX0_bandDistance_47 : decode cX0_bandDistance 47 = .ok (.getfield 58, 3) := by decide +kernel
theorem dX0_bandDistance_50 : decode cX0_bandDistance 50 = .ok (.if_icmp .gt 22, 3) := by decide +kernel
theorem dX0_bandDistance_53 : decode cX0_bandDistance 53 = .ok (.aload_n 0, 1) := by decide +kernel
theorem dX0_bandDistance_54 : decode cX0_bandDistance 54 = .ok (.getfield 37, 3) := by decide +kernel
theorem dX0_bandDistance_57 : decode cX0_bandDistance 57 = .ok (.iload_n 3, 1) := by decide +kernel
theorem dX0_bandDistance_58 : decode cX0_bandDistance 58 = .ok (.aload_n 0, 1) := by decide +kernel
theorem dX0_bandDistance_59 : decode cX0_bandDistance 59 = .ok (.iload_n 3, 1) := by decide +kernel
theorem dX0_bandDistance_60 : decode cX0_bandDistance 60 = .ok (.iload_n 2, 1) := by decide +kernel
theorem dX0_bandDistance_61 : decode cX0_bandDistance 61 = .ok (.iload_n 1, 1) := by decide +kernel
theorem dX0_bandDistance_62 : decode cX0_bandDistance 62 = .ok (.invokevirtual 82, 3) := by decide +kernel
theorem dX0_bandDistance_65 : decode cX0_bandDistance 65 = .ok (.iastore, 1) := by decide +kernel
theorem dX0_bandDistance_66 : decode cX0_bandDistance 66 = .ok (.iinc 3 1, 3) := by decide +kernel
theorem dX0_bandDistance_69 : decode cX0_bandDistance 69 = .ok (.goto (-24), 3) := by decide +kernel
theorem dX0_bandDistance_72 : decode cX0_bandDistance 72 = .ok (.iconst 0, 1) := by decide +kernel
theorem dX0_bandDistance_73 : decode cX0_bandDistance 73 = .ok (.istore_n 3, 1) := by decide +kernel
theorem dX0_bandDistance_74 : decode cX0_bandDistance 74 = .ok (.iload_n 3, 1) := by decide +kernel
theorem dX0_bandDistance_75 : decode cX0_bandDistance 75 = .ok (.aload_n 0, 1) := by decide +kernel
theorem dX0_bandDistance_76 : decode cX0_bandDistance 76 = .ok (.getfield 58, 3) := by decide +kernel
theorem dX0_bandDistance_79 : decode cX0_bandDistance 79 = .ok (.if_icmp .gt 21, 3) := by decide +kernel
theorem dX0_bandDistance_82 : decode cX0_bandDistance 82 = .ok (.aload_n 0, 1) := by decide +kernel
theorem dX0_bandDistance_83 : decode cX0_bandDistance 83 = .ok (.getfield 34, 3) := by decide +kernel
theorem dX0_bandDistance_86 : decode cX0_bandDistance 86 = .ok (.iload_n 3, 1) := by decide +kernel
theorem dX0_bandDistance_87 : decode cX0_bandDistance 87 = .ok (.aload_n 0, 1) := by decide +kernel
theorem dX0_bandDistance_88 : decode cX0_bandDistance 88 = .ok (.getfield 37, 3) := by decide +kernel
theorem dX0_bandDistance_91 : decode cX0_bandDistance 91 = .ok (.iload_n 3, 1) := by decide +kernel
theorem dX0_bandDistance_92 : decode cX0_bandDistance 92 = .ok (.iaload, 1) := by decide +kernel
theorem dX0_bandDistance_93 : decode cX0_bandDistance 93 = .ok (.iastore, 1) := by decide +kernel
theorem dX0_bandDistance_94 : decode cX0_bandDistance 94 = .ok (.iinc 3 1, 3) := by decide +kernel
theorem dX0_bandDistance_97 : decode cX0_bandDistance 97 = .ok (.goto (-23), 3) := by decide +kernel
theorem dX0_bandDistance_100 : decode cX0_bandDistance 100 = .ok (.iinc 2 1, 3) := by decide +kernel
theorem dX0_bandDistance_103 : decode cX0_bandDistance 103 = .ok (.goto (-68), 3) := by decide +kernel
theorem dX0_bandDistance_106 : decode cX0_bandDistance 106 = .ok (.aload_n 0, 1) := by decide +kernel
theorem dX0_bandDistance_107 : decode cX0_bandDistance 107 = .ok (.getfield 34, 3) := by decide +kernel
theorem dX0_bandDistance_110 : decode cX0_bandDistance 110 = .ok (.aload_n 0, 1) := by decide +kernel
theorem dX0_bandDistance_111 : decode cX0_bandDistance 111 = .ok (.getfield 58, 3) := by decide +kernel
theorem dX0_bandDistance_114 : decode cX0_bandDistance 114 = .ok (.iaload, 1) := by decide +kernel
theorem dX0_bandDistance_115 : decode cX0_bandDistance 115 = .ok (.ireturn, 1) := by decide +kernel
abbrev cX0_cell : ByteArray := prog_1_method_20_code
def yX0_cell : MethodName := ⟨RX0, "cell", "(III)I"⟩
theorem dX0_cell_0 : decode cX0_cell 0 = .ok (.iload_n 1, 1) := by decide +kernel
theorem dX0_cell_1 : decode cX0_cell 1 = .ok (.iload_n 2, 1) := by decide +kernel
theorem dX0_cell_2 : decode cX0_cell 2 = .ok (.isub, 1) := by decide +kernel
theorem dX0_cell_3 : decode cX0_cell 3 = .ok (.iload_n 3, 1) := by decide +kernel
theorem dX0_cell_4 : decode cX0_cell 4 = .ok (.if_icmp .gt 10, 3) := by decide +kernel
theorem dX0_cell_7 : decode cX0_cell 7 = .ok (.iload_n 2, 1) := by decide +kernel
theorem dX0_cell_8 : decode cX0_cell 8 = .ok (.iload_n 1, 1) := by decide +kernel
theorem dX0_cell_9 : decode cX0_cell 9 = .ok (.isub, 1) := by decide +kernel
theorem dX0_cell_10 : decode cX0_cell 10 = .ok (.iload_n 3, 1) := by decide +kernel
theorem dX0_cell_11 : decode cX0_cell 11 = .ok (.if_icmp .le 6, 3) := by decide +kernel
theorem dX0_cell_14 : decode cX0_cell 14 = .ok (.bipush 100, 2) := by decide +kernel
theorem dX0_cell_16 : decode cX0_cell 16 = .ok (.ireturn, 1) := by decide +kernel
theorem dX0_cell_17 : decode cX0_cell 17 = .ok (.aload_n 0, 1) := by decide +kernel
theorem dX0_cell_18 : decode cX0_cell 18 = .ok (.getfield 34, 3) := by decide +kernel
theorem dX0_cell_21 : decode cX0_cell 21 = .ok (.iload_n 1, 1) := by decide +kernel
theorem dX0_cell_22 : decode cX0_cell 22 = .ok (.iaload, 1) := by decide +kernel
theorem dX0_cell_23 : decode cX0_cell 23 = .ok (.iconst 1, 1) := by decide +kernel
theorem dX0_cell_24 : decode cX0_cell 24 = .ok (.iadd, 1) := by decide +kernel
theorem dX0_cell_25 : decode cX0_cell 25 = .ok (.istore 4, 2) := by decide +kernel
theorem dX0_cell_27 : decode cX0_cell 27 = .ok (.iload_n 1, 1) := by decide +kernel
theorem dX0_cell_28 : decode cX0_cell 28 = .ok (.ifCond .le 82, 3) := by decide +kernel
theorem dX0_cell_31 : decode cX0_cell 31 = .ok (.aload_n 0, 1) := by decide +kernel
theorem dX0_cell_32 : decode cX0_cell 32 = .ok (.getfield 34, 3) := by decide +kernel
theorem dX0_cell_35 : decode cX0_cell 35 = .ok (.iload_n 1, 1) := by decide +kernel
theorem dX0_cell_36 : decode cX0_cell 36 = .ok (.iconst 1, 1) := by decide +kernel
theorem dX0_cell_37 : decode cX0_cell 37 = .ok (.isub, 1) := by decide +kernel
theorem dX0_cell_38 : decode cX0_cell 38 = .ok (.iaload, 1) := by decide +kernel
theorem dX0_cell_39 : decode cX0_cell 39 = .ok (.aload_n 0, 1) := by decide +kernel
theorem dX0_cell_40 : decode cX0_cell 40 = .ok (.getfield 28, 3) := by decide +kernel
theorem dX0_cell_43 : decode cX0_cell 43 = .ok (.iload_n 1, 1) := by decide +kernel
theorem dX0_cell_44 : decode cX0_cell 44 = .ok (.iconst 1, 1) := by decide +kernel
theorem dX0_cell_45 : decode cX0_cell 45 = .ok (.isub, 1) := by decide +kernel
theorem dX0_cell_46 : decode cX0_cell 46 = .ok (.iaload, 1) := by decide +kernel
theorem dX0_cell_47 : decode cX0_cell 47 = .ok (.aload_n 0, 1) := by decide +kernel
theorem dX0_cell_48 : decode cX0_cell 48 = .ok (.getfield 31, 3) := by decide +kernel
theorem dX0_cell_51 : decode cX0_cell 51 = .ok (.iload_n 2, 1) := by decide +kernel
theorem dX0_cell_52 : decode cX0_cell 52 = .ok (.iconst 1, 1) := by decide +kernel
theorem dX0_cell_53 : decode cX0_cell 53 = .ok (.isub, 1) := by decide +kernel
theorem dX0_cell_54 : decode cX0_cell 54 = .ok (.iaload, 1) := by decide +kernel
theorem dX0_cell_55 : decode cX0_cell 55 = .ok (.if_icmp .ne 7, 3) := by decide +kernel
theorem dX0_cell_58 : decode cX0_cell 58 = .ok (.iconst 0, 1) := by decide +kernel
theorem dX0_cell_59 : decode cX0_cell 59 = .ok (.goto 4, 3) := by decide +kernel
theorem dX0_cell_62 : decode cX0_cell 62 = .ok (.iconst 1, 1) := by decide +kernel
theorem dX0_cell_63 : decode cX0_cell 63 = .ok (.iadd, 1) := by decide +kernel
theorem dX0_cell_64 : decode cX0_cell 64 = .ok (.istore 5, 2) := by decide +kernel
theorem dX0_cell_66 : decode cX0_cell 66 = .ok (.aload_n 0, 1) := by decide +kernel
theorem dX0_cell_67 : decode cX0_cell 67 = .ok (.getfield 37, 3) := by decide +kernel
theorem dX0_cell_70 : decode cX0_cell 70 = .ok (.iload_n 1, 1) := by decide +kernel
theorem dX0_cell_71 : decode cX0_cell 71 = .ok (.iconst 1, 1) := by decide +kernel
theorem dX0_cell_72 : decode cX0_cell 72 = .ok (.isub, 1) := by decide +kernel
theorem dX0_cell_73 : decode cX0_cell 73 = .ok (.iaload, 1) := by decide +kernel
theorem dX0_cell_74 : decode cX0_cell 74 = .ok (.iconst 1, 1) := by decide +kernel
theorem dX0_cell_75 : decode cX0_cell 75 = .ok (.iadd, 1) := by decide +kernel
theorem dX0_cell_76 : decode cX0_cell 76 = .ok (.istore 6, 2) := by decide +kernel
theorem dX0_cell_78 : decode cX0_cell 78 = .ok (.iload 5, 2) := by decide +kernel
theorem dX0_cell_80 : decode cX0_cell 80 = .ok (.iload 4, 2) := by decide +kernel
theorem dX0_cell_82 : decode cX0_cell 82 = .ok (.if_icmp .ge 8, 3) := by decide +kernel
theorem dX0_cell_85 : decode cX0_cell 85 = .ok (.iload 5, 2) := by decide +kernel
theorem dX0_cell_87 : decode cX0_cell 87 = .ok (.goto 5, 3) := by decide +kernel
theorem dX0_cell_90 : decode cX0_cell 90 = .ok (.iload 4, 2) := by decide +kernel
theorem dX0_cell_92 : decode cX0_cell 92 = .ok (.istore 4, 2) := by decide +kernel
theorem dX0_cell_94 : decode cX0_cell 94 = .ok (.iload 6, 2) := by decide +kernel
theorem dX0_cell_96 : decode cX0_cell 96 = .ok (.iload 4, 2) := by decide +kernel
theorem dX0_cell_98 : decode cX0_cell 98 = .ok (.if_icmp .ge 8, 3) := by decide +kernel
theorem dX0_cell_101 : decode cX0_cell 101 = .ok (.iload 6, 2) := by decide +kernel
theorem dX0_cell_103 : decode cX0_cell 103 = .ok (.goto 5, 3) := by decide +kernel
theorem dX0_cell_106 : decode cX0_cell 106 = .ok (.iload 4, 2) := by decide +kernel
theorem dX0_cell_108 : decode cX0_cell 108 = .ok (.istore 4, 2) := by decide +kernel
theorem dX0_cell_110 : decode cX0_cell 110 = .ok (.iload 4, 2) := by decide +kernel
theorem dX0_cell_112 : decode cX0_cell 112 = .ok (.ireturn, 1) := by decide +kernel
abbrev cX0_within : ByteArray := prog_1_method_9_code
def yX0_within : MethodName := ⟨RX0, "within", "(I)I"⟩
theorem dX0_within_0 : decode cX0_within 0 = .ok (.iconst 0, 1) := by decide +kernel
theorem dX0_within_1 : decode cX0_within 1 = .ok (.istore_n 2, 1) := by decide +kernel
theorem dX0_within_2 : decode cX0_within 2 = .ok (.iconst 0, 1) := by decide +kernel
theorem dX0_within_3 : decode cX0_within 3 = .ok (.istore_n 3, 1) := by decide +kernel
theorem dX0_within_4 : decode cX0_within 4 = .ok (.iload_n 3, 1) := by decide +kernel
theorem dX0_within_5 : decode cX0_within 5 = .ok (.bipush 8, 2) := by decide +kernel
theorem dX0_within_7 : decode cX0_within 7 = .ok (.if_icmp .ge 39, 3) := by decide +kernel
theorem dX0_within_10 : decode cX0_within 10 = .ok (.aload_n 0, 1) := by decide +kernel
theorem dX0_within_11 : decode cX0_within 11 = .ok (.iload_n 3, 1) := by decide +kernel
theorem dX0_within_12 : decode cX0_within 12 = .ok (.iload_n 1, 1) := by decide +kernel
theorem dX0_within_13 : decode cX0_within 13 = .ok (.invokevirtual 68, 3) := by decide +kernel
theorem dX0_within_16 : decode cX0_within 16 = .ok (.ifCond .eq 24, 3) := by decide +kernel
theorem dX0_within_19 : decode cX0_within 19 = .ok (.aload_n 0, 1) := by decide +kernel
theorem dX0_within_20 : decode cX0_within 20 = .ok (.iload_n 3, 1) := by decide +kernel
theorem dX0_within_21 : decode cX0_within 21 = .ok (.invokevirtual 48, 3) := by decide +kernel
theorem dX0_within_24 : decode cX0_within 24 = .ok (.iload_n 2, 1) := by decide +kernel
theorem dX0_within_25 : decode cX0_within 25 = .ok (.aload_n 0, 1) := by decide +kernel
theorem dX0_within_26 : decode cX0_within 26 = .ok (.getfield 52, 3) := by decide +kernel
theorem dX0_within_29 : decode cX0_within 29 = .ok (.iload_n 1, 1) := by decide +kernel
theorem dX0_within_30 : decode cX0_within 30 = .ok (.if_icmp .gt 7, 3) := by decide +kernel
theorem dX0_within_33 : decode cX0_within 33 = .ok (.iconst 1, 1) := by decide +kernel
theorem dX0_within_34 : decode cX0_within 34 = .ok (.goto 4, 3) := by decide +kernel
theorem dX0_within_37 : decode cX0_within 37 = .ok (.iconst 0, 1) := by decide +kernel
theorem dX0_within_38 : decode cX0_within 38 = .ok (.iadd, 1) := by decide +kernel
theorem dX0_within_39 : decode cX0_within 39 = .ok (.istore_n 2, 1) := by decide +kernel
theorem dX0_within_40 : decode cX0_within 40 = .ok (.iinc 3 1, 3) := by decide +kernel
theorem dX0_within_43 : decode cX0_within 43 = .ok (.goto (-39), 3) := by decide +kernel
theorem dX0_within_46 : decode cX0_within 46 = .ok (.iload_n 2, 1) := by decide +kernel
theorem dX0_within_47 : decode cX0_within 47 = .ok (.ireturn, 1) := by decide +kernel
abbrev cX0_mayBeWithin : ByteArray := prog_1_method_15_code
def yX0_mayBeWithin : MethodName := ⟨RX0, "mayBeWithin", "(II)Z"⟩
theorem dX0_mayBeWithin_0 : decode cX0_mayBeWithin 0 = .ok (.iload_n 2, 1) := by decide +kernel
theorem dX0_mayBeWithin_1 : decode cX0_mayBeWithin 1 = .ok (.ifCond .ge 5, 3) := by decide +kernel
theorem dX0_mayBeWithin_4 : decode cX0_mayBeWithin 4 = .ok (.iconst 0, 1) := by decide +kernel
theorem dX0_mayBeWithin_5 : decode cX0_mayBeWithin 5 = .ok (.ireturn, 1) := by decide +kernel
theorem dX0_mayBeWithin_6 : decode cX0_mayBeWithin 6 = .ok (.iload_n 2, 1) := by decide +kernel
theorem dX0_mayBeWithin_7 : decode cX0_mayBeWithin 7 = .ok (.aload_n 0, 1) := by decide +kernel
theorem dX0_mayBeWithin_8 : decode cX0_mayBeWithin 8 = .ok (.getfield 44, 3) := by decide +kernel
theorem dX0_mayBeWithin_11 : decode cX0_mayBeWithin 11 = .ok (.if_icmp .lt 5, 3) := by decide +kernel
theorem dX0_mayBeWithin_14 : decode cX0_mayBeWithin 14 = .ok (.iconst 1, 1) := by decide +kernel
theorem dX0_mayBeWithin_15 : decode cX0_mayBeWithin 15 = .ok (.ireturn, 1) := by decide +kernel
theorem dX0_mayBeWithin_16 : decode cX0_mayBeWithin 16 = .ok (.aload_n 0, 1) := by decide +kernel
theorem dX0_mayBeWithin_17 : decode cX0_mayBeWithin 17 = .ok (.iload_n 1, 1) := by decide +kernel
theorem dX0_mayBeWithin_18 : decode cX0_mayBeWithin 18 = .ok (.invokevirtual 72, 3) := by decide +kernel
theorem dX0_mayBeWithin_21 : decode cX0_mayBeWithin 21 = .ok (.istore_n 3, 1) := by decide +kernel
theorem dX0_mayBeWithin_22 : decode cX0_mayBeWithin 22 = .ok (.iload_n 3, 1) := by decide +kernel
theorem dX0_mayBeWithin_23 : decode cX0_mayBeWithin 23 = .ok (.aload_n 0, 1) := by decide +kernel
theorem dX0_mayBeWithin_24 : decode cX0_mayBeWithin 24 = .ok (.getfield 44, 3) := by decide +kernel
theorem dX0_mayBeWithin_27 : decode cX0_mayBeWithin 27 = .ok (.iconst 1, 1) := by decide +kernel
theorem dX0_mayBeWithin_28 : decode cX0_mayBeWithin 28 = .ok (.isub, 1) := by decide +kernel
theorem dX0_mayBeWithin_29 : decode cX0_mayBeWithin 29 = .ok (.iconst 2, 1) := by decide +kernel
theorem dX0_mayBeWithin_30 : decode cX0_mayBeWithin 30 = .ok (.iload_n 2, 1) := by decide +kernel
theorem dX0_mayBeWithin_31 : decode cX0_mayBeWithin 31 = .ok (.imul, 1) := by decide +kernel
theorem dX0_mayBeWithin_32 : decode cX0_mayBeWithin 32 = .ok (.isub, 1) := by decide +kernel
theorem dX0_mayBeWithin_33 : decode cX0_mayBeWithin 33 = .ok (.if_icmp .lt 7, 3) := by decide +kernel
theorem dX0_mayBeWithin_36 : decode cX0_mayBeWithin 36 = .ok (.iconst 1, 1) := by decide +kernel
theorem dX0_mayBeWithin_37 : decode cX0_mayBeWithin 37 = .ok (.goto 4, 3) := by decide +kernel
theorem dX0_mayBeWithin_40 : decode cX0_mayBeWithin 40 = .ok (.iconst 0, 1) := by decide +kernel
theorem dX0_mayBeWithin_41 : decode cX0_mayBeWithin 41 = .ok (.ireturn, 1) := by decide +kernel
abbrev cX0_sharedPairs : ByteArray := prog_1_method_14_code
def yX0_sharedPairs : MethodName := ⟨RX0, "sharedPairs", "(I)I"⟩
theorem dX0_sharedPairs_0 : decode cX0_sharedPairs 0 = .ok (.iconst 0, 1) := by decide +kernel
theorem dX0_sharedPairs_1 : decode cX0_sharedPairs 1 = .ok (.istore_n 2, 1) := by decide +kernel
theorem dX0_sharedPairs_2 : decode cX0_sharedPairs 2 = .ok (.iconst 0, 1) := by decide +kernel
theorem dX0_sharedPairs_3 : decode cX0_sharedPairs 3 = .ok (.istore_n 3, 1) := by decide +kernel
theorem dX0_sharedPairs_4 : decode cX0_sharedPairs 4 = .ok (.iload_n 3, 1) := by decide +kernel
theorem dX0_sharedPairs_5 : decode cX0_sharedPairs 5 = .ok (.bipush 16, 2) := by decide +kernel
theorem dX0_sharedPairs_7 : decode cX0_sharedPairs 7 = .ok (.if_icmp .ge 47, 3) := by decide +kernel
theorem dX0_sharedPairs_10 : decode cX0_sharedPairs 10 = .ok (.aload_n 0, 1) := by decide +kernel
theorem dX0_sharedPairs_11 : decode cX0_sharedPairs 11 = .ok (.getfield 16, 3) := by decide +kernel
theorem dX0_sharedPairs_14 : decode cX0_sharedPairs 14 = .ok (.bipush 16, 2) := by decide +kernel
theorem dX0_sharedPairs_16 : decode cX0_sharedPairs 16 = .ok (.iload_n 1, 1) := by decide +kernel
theorem dX0_sharedPairs_17 : decode cX0_sharedPairs 17 = .ok (.imul, 1) := by decide +kernel
theorem dX0_sharedPairs_18 : decode cX0_sharedPairs 18 = .ok (.iload_n 3, 1) := by decide +kernel
theorem dX0_sharedPairs_19 : decode cX0_sharedPairs 19 = .ok (.iadd, 1) := by decide +kernel
theorem dX0_sharedPairs_20 : decode cX0_sharedPairs 20 = .ok (.iaload, 1) := by decide +kernel
theorem dX0_sharedPairs_21 : decode cX0_sharedPairs 21 = .ok (.istore 4, 2) := by decide +kernel
theorem dX0_sharedPairs_23 : decode cX0_sharedPairs 23 = .ok (.iload_n 2, 1) := by decide +kernel
theorem dX0_sharedPairs_24 : decode cX0_sharedPairs 24 = .ok (.iload 4, 2) := by decide +kernel
theorem dX0_sharedPairs_26 : decode cX0_sharedPairs 26 = .ok (.aload_n 0, 1) := by decide +kernel
theorem dX0_sharedPairs_27 : decode cX0_sharedPairs 27 = .ok (.getfield 22, 3) := by decide +kernel
theorem dX0_sharedPairs_30 : decode cX0_sharedPairs 30 = .ok (.iload_n 3, 1) := by decide +kernel
theorem dX0_sharedPairs_31 : decode cX0_sharedPairs 31 = .ok (.iaload, 1) := by decide +kernel
theorem dX0_sharedPairs_32 : decode cX0_sharedPairs 32 = .ok (.if_icmp .ge 8, 3) := by decide +kernel
theorem dX0_sharedPairs_35 : decode cX0_sharedPairs 35 = .ok (.iload 4, 2) := by decide +kernel
theorem dX0_sharedPairs_37 : decode cX0_sharedPairs 37 = .ok (.goto 9, 3) := by decide +kernel
theorem dX0_sharedPairs_40 : decode cX0_sharedPairs 40 = .ok (.aload_n 0, 1) := by decide +kernel
theorem dX0_sharedPairs_41 : decode cX0_sharedPairs 41 = .ok (.getfield 22, 3) := by decide +kernel
theorem dX0_sharedPairs_44 : decode cX0_sharedPairs 44 = .ok (.iload_n 3, 1) := by decide +kernel
theorem dX0_sharedPairs_45 : decode cX0_sharedPairs 45 = .ok (.iaload, 1) := by decide +kernel
theorem dX0_sharedPairs_46 : decode cX0_sharedPairs 46 = .ok (.iadd, 1) := by decide +kernel
theorem dX0_sharedPairs_47 : decode cX0_sharedPairs 47 = .ok (.istore_n 2, 1) := by decide +kernel
theorem dX0_sharedPairs_48 : decode cX0_sharedPairs 48 = .ok (.iinc 3 1, 3) := by decide +kernel
theorem dX0_sharedPairs_51 : decode cX0_sharedPairs 51 = .ok (.goto (-47), 3) := by decide +kernel
theorem dX0_sharedPairs_54 : decode cX0_sharedPairs 54 = .ok (.iload_n 2, 1) := by decide +kernel
theorem dX0_sharedPairs_55 : decode cX0_sharedPairs 55 = .ok (.ireturn, 1) := by decide +kernel
abbrev cX0_nearest : ByteArray := prog_1_method_10_code
def yX0_nearest : MethodName := ⟨RX0, "nearest", "()I"⟩
theorem dX0_nearest_0 : decode cX0_nearest 0 = .ok (.iconst 0, 1) := by decide +kernel
theorem dX0_nearest_1 : decode cX0_nearest 1 = .ok (.istore_n 1, 1) := by decide +kernel
theorem dX0_nearest_2 : decode cX0_nearest 2 = .ok (.aload_n 0, 1) := by decide +kernel
theorem dX0_nearest_3 : decode cX0_nearest 3 = .ok (.iconst 0, 1) := by decide +kernel
theorem dX0_nearest_4 : decode cX0_nearest 4 = .ok (.invokevirtual 48, 3) := by decide +kernel
theorem dX0_nearest_7 : decode cX0_nearest 7 = .ok (.aload_n 0, 1) := by decide +kernel
theorem dX0_nearest_8 : decode cX0_nearest 8 = .ok (.getfield 52, 3) := by decide +kernel
theorem dX0_nearest_11 : decode cX0_nearest 11 = .ok (.istore_n 2, 1) := by decide +kernel
theorem dX0_nearest_12 : decode cX0_nearest 12 = .ok (.iconst 1, 1) := by decide +kernel
theorem dX0_nearest_13 : decode cX0_nearest 13 = .ok (.istore_n 3, 1) := by decide +kernel
theorem dX0_nearest_14 : decode cX0_nearest 14 = .ok (.iload_n 3, 1) := by decide +kernel
theorem dX0_nearest_15 : decode cX0_nearest 15 = .ok (.bipush 8, 2) := by decide +kernel
theorem dX0_nearest_17 : decode cX0_nearest 17 = .ok (.if_icmp .ge 40, 3) := by decide +kernel
theorem dX0_nearest_20 : decode cX0_nearest 20 = .ok (.aload_n 0, 1) := by decide +kernel
theorem dX0_nearest_21 : decode cX0_nearest 21 = .ok (.iload_n 3, 1) := by decide +kernel
theorem dX0_nearest_22 : decode cX0_nearest 22 = .ok (.iload_n 2, 1) := by decide +kernel
theorem dX0_nearest_23 : decode cX0_nearest 23 = .ok (.iconst 1, 1) := by decide +kernel
theorem dX0_nearest_24 : decode cX0_nearest 24 = .ok (.isub, 1) := by decide +kernel
theorem dX0_nearest_25 : decode cX0_nearest 25 = .ok (.invokevirtual 68, 3) := by decide +kernel
theorem dX0_nearest_28 : decode cX0_nearest 28 = .ok (.ifCond .eq 23, 3) := by decide +kernel
theorem dX0_nearest_31 : decode cX0_nearest 31 = .ok (.aload_n 0, 1) := by decide +kernel
theorem dX0_nearest_32 : decode cX0_nearest 32 = .ok (.iload_n 3, 1) := by decide +kernel
theorem dX0_nearest_33 : decode cX0_nearest 33 = .ok (.invokevirtual 48, 3) := by decide +kernel
theorem dX0_nearest_36 : decode cX0_nearest 36 = .ok (.aload_n 0, 1) := by decide +kernel
theorem dX0_nearest_37 : decode cX0_nearest 37 = .ok (.getfield 52, 3) := by decide +kernel
theorem dX0_nearest_40 : decode cX0_nearest 40 = .ok (.iload_n 2, 1) := by decide +kernel
theorem dX0_nearest_41 : decode cX0_nearest 41 = .ok (.if_icmp .ge 10, 3) := by decide +kernel
theorem dX0_nearest_44 : decode cX0_nearest 44 = .ok (.aload_n 0, 1) := by decide +kernel
theorem dX0_nearest_45 : decode cX0_nearest 45 = .ok (.getfield 52, 3) := by decide +kernel
theorem dX0_nearest_48 : decode cX0_nearest 48 = .ok (.istore_n 2, 1) := by decide +kernel
theorem dX0_nearest_49 : decode cX0_nearest 49 = .ok (.iload_n 3, 1) := by decide +kernel
theorem dX0_nearest_50 : decode cX0_nearest 50 = .ok (.istore_n 1, 1) := by decide +kernel
theorem dX0_nearest_51 : decode cX0_nearest 51 = .ok (.iinc 3 1, 3) := by decide +kernel
theorem dX0_nearest_54 : decode cX0_nearest 54 = .ok (.goto (-40), 3) := by decide +kernel
theorem dX0_nearest_57 : decode cX0_nearest 57 = .ok (.iload_n 1, 1) := by decide +kernel
theorem dX0_nearest_58 : decode cX0_nearest 58 = .ok (.ireturn, 1) := by decide +kernel
abbrev cX0_between : ByteArray := prog_1_method_11_code
def yX0_between : MethodName := ⟨RX0, "between", "(II)I"⟩
theorem dX0_between_0 : decode cX0_between 0 = .ok (.iload_n 1, 1) := by decide +kernel
theorem dX0_between_1 : decode cX0_between 1 = .ok (.invokestatic 40, 3) := by decide +kernel
theorem dX0_between_4 : decode cX0_between 4 = .ok (.ifCond .eq 10, 3) := by decide +kernel
theorem dX0_between_7 : decode cX0_between 7 = .ok (.iload_n 2, 1) := by decide +kernel
theorem dX0_between_8 : decode cX0_between 8 = .ok (.invokestatic 40, 3) := by decide +kernel
theorem dX0_between_11 : decode cX0_between 11 = .ok (.ifCond .ne 5, 3) := by decide +kernel
theorem dX0_between_14 : decode cX0_between 14 = .ok (.iconst (-1), 1) := by decide +kernel
theorem dX0_between_15 : decode cX0_between 15 = .ok (.ireturn, 1) := by decide +kernel
theorem dX0_between_16 : decode cX0_between 16 = .ok (.iconst 0, 1) := by decide +kernel
theorem dX0_between_17 : decode cX0_between 17 = .ok (.istore_n 3, 1) := by decide +kernel
theorem dX0_between_18 : decode cX0_between 18 = .ok (.iload_n 3, 1) := by decide +kernel
theorem dX0_between_19 : decode cX0_between 19 = .ok (.aload_n 0, 1) := by decide +kernel
theorem dX0_between_20 : decode cX0_between 20 = .ok (.getfield 7, 3) := by decide +kernel
theorem dX0_between_23 : decode cX0_between 23 = .ok (.iload_n 1, 1) := by decide +kernel
theorem dX0_between_24 : decode cX0_between 24 = .ok (.iaload, 1) := by decide +kernel
theorem dX0_between_25 : decode cX0_between 25 = .ok (.if_icmp .ge 26, 3) := by decide +kernel
theorem dX0_between_28 : decode cX0_between 28 = .ok (.aload_n 0, 1) := by decide +kernel
theorem dX0_between_29 : decode cX0_between 29 = .ok (.getfield 28, 3) := by decide +kernel
theorem dX0_between_32 : decode cX0_between 32 = .ok (.iload_n 3, 1) := by decide +kernel
theorem dX0_between_33 : decode cX0_between 33 = .ok (.aload_n 0, 1) := by decide +kernel
theorem dX0_between_34 : decode cX0_between 34 = .ok (.getfield 13, 3) := by decide +kernel
theorem dX0_between_37 : decode cX0_between 37 = .ok (.bipush 16, 2) := by decide +kernel
theorem dX0_between_39 : decode cX0_between 39 = .ok (.iload_n 1, 1) := by decide +kernel
theorem dX0_between_40 : decode cX0_between 40 = .ok (.imul, 1) := by decide +kernel
theorem dX0_between_41 : decode cX0_between 41 = .ok (.iload_n 3, 1) := by decide +kernel
theorem dX0_between_42 : decode cX0_between 42 = .ok (.iadd, 1) := by decide +kernel
theorem dX0_between_43 : decode cX0_between 43 = .ok (.iaload, 1) := by decide +kernel
theorem dX0_between_44 : decode cX0_between 44 = .ok (.iastore, 1) := by decide +kernel
theorem dX0_between_45 : decode cX0_between 45 = .ok (.iinc 3 1, 3) := by decide +kernel
theorem dX0_between_48 : decode cX0_between 48 = .ok (.goto (-30), 3) := by decide +kernel
theorem dX0_between_51 : decode cX0_between 51 = .ok (.aload_n 0, 1) := by decide +kernel
theorem dX0_between_52 : decode cX0_between 52 = .ok (.aload_n 0, 1) := by decide +kernel
theorem dX0_between_53 : decode cX0_between 53 = .ok (.getfield 7, 3) := by decide +kernel
theorem dX0_between_56 : decode cX0_between 56 = .ok (.iload_n 1, 1) := by decide +kernel
theorem dX0_between_57 : decode cX0_between 57 = .ok (.iaload, 1) := by decide +kernel
theorem dX0_between_58 : decode cX0_between 58 = .ok (.putfield 58, 3) := by decide +kernel
theorem dX0_between_61 : decode cX0_between 61 = .ok (.aload_n 0, 1) := by decide +kernel
theorem dX0_between_62 : decode cX0_between 62 = .ok (.iload_n 2, 1) := by decide +kernel
theorem dX0_between_63 : decode cX0_between 63 = .ok (.invokevirtual 61, 3) := by decide +kernel
theorem dX0_between_66 : decode cX0_between 66 = .ok (.aload_n 0, 1) := by decide +kernel
theorem dX0_between_67 : decode cX0_between 67 = .ok (.invokevirtual 64, 3) := by decide +kernel
theorem dX0_between_70 : decode cX0_between 70 = .ok (.ireturn, 1) := by decide +kernel
abbrev cX0_pairs : ByteArray := prog_1_method_12_code
def yX0_pairs : MethodName := ⟨RX0, "pairs", "(I)I"⟩
theorem dX0_pairs_0 : decode cX0_pairs 0 = .ok (.iload_n 1, 1) := by decide +kernel
theorem dX0_pairs_1 : decode cX0_pairs 1 = .ok (.invokestatic 40, 3) := by decide +kernel
theorem dX0_pairs_4 : decode cX0_pairs 4 = .ok (.ifCond .eq 11, 3) := by decide +kernel
theorem dX0_pairs_7 : decode cX0_pairs 7 = .ok (.aload_n 0, 1) := by decide +kernel
theorem dX0_pairs_8 : decode cX0_pairs 8 = .ok (.iload_n 1, 1) := by decide +kernel
theorem dX0_pairs_9 : decode cX0_pairs 9 = .ok (.invokevirtual 72, 3) := by decide +kernel
theorem dX0_pairs_12 : decode cX0_pairs 12 = .ok (.goto 4, 3) := by decide +kernel
theorem dX0_pairs_15 : decode cX0_pairs 15 = .ok (.iconst (-1), 1) := by decide +kernel
theorem dX0_pairs_16 : decode cX0_pairs 16 = .ok (.ireturn, 1) := by decide +kernel
theorem q15 : (Jvm.Cond.initialized "NearDocs") ∈ lw_all := lw_g (lw_at lw_m1 1 rfl) rfl
theorem q18 : (Jvm.Cond.instantiable "NearDocs" (15 : Nat)) ∈ lw_all := lw_g (lw_at lw_m1 4 rfl) rfl
theorem q20 : (Jvm.Cond.instanceMethod ({ cls := "NearDocs", name := "<init>", desc := "()V" } : Jvm.MethodName)) ∈ lw_all := lw_g (lw_at lw_m1 6 rfl) rfl
theorem q21 : (Jvm.Cond.code ({ cls := "NearDocs", name := "<init>", desc := "()V" } : Jvm.MethodName) prog_1_method_1_code (1 : Nat) (Option.none : Option Jvm.ClassFile.FieldType)) ∈ lw_all := lw_g (lw_at lw_m1 7 rfl) rfl
theorem q22 : (Jvm.Cond.methodLink "NearDocs" (1 : Nat) ({ cls := "java/lang/Object", name := "<init>", desc := "()V" } : Jvm.MethodName)) ∈ lw_all := lw_g (lw_at lw_m1 8 rfl) rfl
theorem q25 : (Jvm.Cond.fieldLink "NearDocs" (7 : Nat) "NearDocs" "length" "[I") ∈ lw_all := lw_g (lw_at lw_m1 11 rfl) rfl
theorem q26 : (Jvm.Cond.fieldLink "NearDocs" (13 : Nat) "NearDocs" "letters" "[I") ∈ lw_all := lw_g (lw_at lw_m1 12 rfl) rfl
theorem q27 : (Jvm.Cond.fieldLink "NearDocs" (16 : Nat) "NearDocs" "pairCount" "[I") ∈ lw_all := lw_g (lw_at lw_m1 13 rfl) rfl
theorem q28 : (Jvm.Cond.fieldLink "NearDocs" (44 : Nat) "NearDocs" "queryLength" "I") ∈ lw_all := lw_g (lw_at lw_m1 14 rfl) rfl
theorem q29 : (Jvm.Cond.fieldLink "NearDocs" (19 : Nat) "NearDocs" "query" "[I") ∈ lw_all := lw_g (lw_at lw_m1 15 rfl) rfl
theorem q30 : (Jvm.Cond.fieldLink "NearDocs" (22 : Nat) "NearDocs" "queryPairs" "[I") ∈ lw_all := lw_g (lw_at lw_m1 16 rfl) rfl
theorem q31 : (Jvm.Cond.fieldLink "NearDocs" (25 : Nat) "NearDocs" "masks" "[I") ∈ lw_all := lw_g (lw_at lw_m1 17 rfl) rfl
theorem q32 : (Jvm.Cond.fieldLink "NearDocs" (52 : Nat) "NearDocs" "bestDistance" "I") ∈ lw_all := lw_g (lw_at lw_m1 18 rfl) rfl
theorem q33 : (Jvm.Cond.fieldLink "NearDocs" (55 : Nat) "NearDocs" "bestEnd" "I") ∈ lw_all := lw_g (lw_at lw_m1 19 rfl) rfl
theorem q34 : (Jvm.Cond.fieldLink "NearDocs" (58 : Nat) "NearDocs" "xLength" "I") ∈ lw_all := lw_g (lw_at lw_m1 20 rfl) rfl
theorem q35 : (Jvm.Cond.fieldLink "NearDocs" (76 : Nat) "NearDocs" "yLength" "I") ∈ lw_all := lw_g (lw_at lw_m1 21 rfl) rfl
theorem q36 : (Jvm.Cond.fieldLink "NearDocs" (28 : Nat) "NearDocs" "x" "[I") ∈ lw_all := lw_g (lw_at lw_m1 22 rfl) rfl
theorem q37 : (Jvm.Cond.fieldLink "NearDocs" (31 : Nat) "NearDocs" "y" "[I") ∈ lw_all := lw_g (lw_at lw_m1 23 rfl) rfl
theorem q38 : (Jvm.Cond.fieldLink "NearDocs" (34 : Nat) "NearDocs" "column" "[I") ∈ lw_all := lw_g (lw_at lw_m1 24 rfl) rfl
theorem q39 : (Jvm.Cond.fieldLink "NearDocs" (37 : Nat) "NearDocs" "nextColumn" "[I") ∈ lw_all := lw_g (lw_at lw_m1 25 rfl) rfl
theorem q40 : (Jvm.Cond.laysFinal "NearDocs" "NearDocs" "length" "[I") ∈ lw_all := lw_g (lw_at lw_m1 26 rfl) rfl
theorem q41 : (Jvm.Cond.soleField "NearDocs" "length") ∈ lw_all := lw_g (lw_at lw_m1 27 rfl) rfl
theorem q42 : (Jvm.Cond.laysFinal "NearDocs" "NearDocs" "letters" "[I") ∈ lw_all := lw_g (lw_at lw_m1 28 rfl) rfl
theorem q43 : (Jvm.Cond.soleField "NearDocs" "letters") ∈ lw_all := lw_g (lw_at lw_m1 29 rfl) rfl
theorem q44 : (Jvm.Cond.laysFinal "NearDocs" "NearDocs" "pairCount" "[I") ∈ lw_all := lw_g (lw_at lw_m1 30 rfl) rfl
theorem q45 : (Jvm.Cond.soleField "NearDocs" "pairCount") ∈ lw_all := lw_g (lw_at lw_m1 31 rfl) rfl
theorem q46 : (Jvm.Cond.lays "NearDocs" "NearDocs" "queryLength" "I") ∈ lw_all := lw_g (lw_at lw_m1 32 rfl) rfl
theorem q47 : (Jvm.Cond.soleField "NearDocs" "queryLength") ∈ lw_all := lw_g (lw_at lw_m1 33 rfl) rfl
theorem q48 : (Jvm.Cond.laysFinal "NearDocs" "NearDocs" "query" "[I") ∈ lw_all := lw_g (lw_at lw_m1 34 rfl) rfl
theorem q49 : (Jvm.Cond.soleField "NearDocs" "query") ∈ lw_all := lw_g (lw_at lw_m1 35 rfl) rfl
theorem q50 : (Jvm.Cond.laysFinal "NearDocs" "NearDocs" "queryPairs" "[I") ∈ lw_all := lw_g (lw_at lw_m1 36 rfl) rfl
theorem q51 : (Jvm.Cond.soleField "NearDocs" "queryPairs") ∈ lw_all := lw_g (lw_at lw_m1 37 rfl) rfl
theorem q52 : (Jvm.Cond.laysFinal "NearDocs" "NearDocs" "masks" "[I") ∈ lw_all := lw_g (lw_at lw_m1 38 rfl) rfl
theorem q53 : (Jvm.Cond.soleField "NearDocs" "masks") ∈ lw_all := lw_g (lw_at lw_m1 39 rfl) rfl
theorem q54 : (Jvm.Cond.lays "NearDocs" "NearDocs" "bestDistance" "I") ∈ lw_all := lw_g (lw_at lw_m1 40 rfl) rfl
theorem q55 : (Jvm.Cond.soleField "NearDocs" "bestDistance") ∈ lw_all := lw_g (lw_at lw_m1 41 rfl) rfl
theorem q56 : (Jvm.Cond.lays "NearDocs" "NearDocs" "bestEnd" "I") ∈ lw_all := lw_g (lw_at lw_m1 42 rfl) rfl
theorem q57 : (Jvm.Cond.soleField "NearDocs" "bestEnd") ∈ lw_all := lw_g (lw_at lw_m1 43 rfl) rfl
theorem q58 : (Jvm.Cond.lays "NearDocs" "NearDocs" "xLength" "I") ∈ lw_all := lw_g (lw_at lw_m1 44 rfl) rfl
theorem q59 : (Jvm.Cond.soleField "NearDocs" "xLength") ∈ lw_all := lw_g (lw_at lw_m1 45 rfl) rfl
theorem q60 : (Jvm.Cond.lays "NearDocs" "NearDocs" "yLength" "I") ∈ lw_all := lw_g (lw_at lw_m1 46 rfl) rfl
theorem q61 : (Jvm.Cond.soleField "NearDocs" "yLength") ∈ lw_all := lw_g (lw_at lw_m1 47 rfl) rfl
theorem q62 : (Jvm.Cond.laysFinal "NearDocs" "NearDocs" "x" "[I") ∈ lw_all := lw_g (lw_at lw_m1 48 rfl) rfl
theorem q63 : (Jvm.Cond.soleField "NearDocs" "x") ∈ lw_all := lw_g (lw_at lw_m1 49 rfl) rfl
theorem q64 : (Jvm.Cond.laysFinal "NearDocs" "NearDocs" "y" "[I") ∈ lw_all := lw_g (lw_at lw_m1 50 rfl) rfl
theorem q65 : (Jvm.Cond.soleField "NearDocs" "y") ∈ lw_all := lw_g (lw_at lw_m1 51 rfl) rfl
theorem q66 : (Jvm.Cond.laysFinal "NearDocs" "NearDocs" "column" "[I") ∈ lw_all := lw_g (lw_at lw_m1 52 rfl) rfl
theorem q67 : (Jvm.Cond.soleField "NearDocs" "column") ∈ lw_all := lw_g (lw_at lw_m1 53 rfl) rfl
theorem q68 : (Jvm.Cond.laysFinal "NearDocs" "NearDocs" "nextColumn" "[I") ∈ lw_all := lw_g (lw_at lw_m1 54 rfl) rfl
theorem q69 : (Jvm.Cond.soleField "NearDocs" "nextColumn") ∈ lw_all := lw_g (lw_at lw_m1 55 rfl) rfl
theorem q70 : (Jvm.Cond.superclass "NearDocs" "java/lang/Object") ∈ lw_all := lw_g (lw_at lw_m1 56 rfl) rfl
theorem q73 : (Jvm.Cond.instanceMethod ({ cls := "NearDocs", name := "write", desc := "(II)I" } : Jvm.MethodName)) ∈ lw_all := lw_g (lw_at lw_m1 59 rfl) rfl
theorem q74 : (Jvm.Cond.selects "NearDocs" ({ cls := "NearDocs", name := "write", desc := "(II)I" } : Jvm.MethodName) ({ cls := "NearDocs", name := "write", desc := "(II)I" } : Jvm.MethodName)) ∈ lw_all := lw_g (lw_at lw_m1 60 rfl) rfl
theorem q75 : (Jvm.Cond.code ({ cls := "NearDocs", name := "write", desc := "(II)I" } : Jvm.MethodName) prog_1_method_2_code (4 : Nat) (Option.some Jvm.ClassFile.FieldType.int)) ∈ lw_all := lw_g (lw_at lw_m1 61 rfl) rfl
theorem q76 : (Jvm.Cond.methodLink "NearDocs" (40 : Nat) ({ cls := "NearDocs", name := "isDoc", desc := "(I)Z" } : Jvm.MethodName)) ∈ lw_all := lw_g (lw_at lw_m1 62 rfl) rfl
theorem q77 : (Jvm.Cond.static ({ cls := "NearDocs", name := "isDoc", desc := "(I)Z" } : Jvm.MethodName)) ∈ lw_all := lw_g (lw_at lw_m1 63 rfl) rfl
theorem q78 : (Jvm.Cond.code ({ cls := "NearDocs", name := "isDoc", desc := "(I)Z" } : Jvm.MethodName) prog_1_method_13_code (1 : Nat) (Option.some Jvm.ClassFile.FieldType.boolean)) ∈ lw_all := lw_g (lw_at lw_m1 64 rfl) rfl
theorem q80 : (Jvm.Cond.instanceMethod ({ cls := "NearDocs", name := "wipe", desc := "(I)I" } : Jvm.MethodName)) ∈ lw_all := lw_g (lw_at lw_m1 66 rfl) rfl
theorem q81 : (Jvm.Cond.selects "NearDocs" ({ cls := "NearDocs", name := "wipe", desc := "(I)I" } : Jvm.MethodName) ({ cls := "NearDocs", name := "wipe", desc := "(I)I" } : Jvm.MethodName)) ∈ lw_all := lw_g (lw_at lw_m1 67 rfl) rfl
theorem q82 : (Jvm.Cond.code ({ cls := "NearDocs", name := "wipe", desc := "(I)I" } : Jvm.MethodName) prog_1_method_3_code (4 : Nat) (Option.some Jvm.ClassFile.FieldType.int)) ∈ lw_all := lw_g (lw_at lw_m1 68 rfl) rfl
theorem q84 : (Jvm.Cond.instanceMethod ({ cls := "NearDocs", name := "type", desc := "(I)I" } : Jvm.MethodName)) ∈ lw_all := lw_g (lw_at lw_m1 70 rfl) rfl
theorem q85 : (Jvm.Cond.selects "NearDocs" ({ cls := "NearDocs", name := "type", desc := "(I)I" } : Jvm.MethodName) ({ cls := "NearDocs", name := "type", desc := "(I)I" } : Jvm.MethodName)) ∈ lw_all := lw_g (lw_at lw_m1 71 rfl) rfl
theorem q86 : (Jvm.Cond.code ({ cls := "NearDocs", name := "type", desc := "(I)I" } : Jvm.MethodName) prog_1_method_4_code (2 : Nat) (Option.some Jvm.ClassFile.FieldType.int)) ∈ lw_all := lw_g (lw_at lw_m1 72 rfl) rfl
theorem q88 : (Jvm.Cond.instanceMethod ({ cls := "NearDocs", name := "clear", desc := "()V" } : Jvm.MethodName)) ∈ lw_all := lw_g (lw_at lw_m1 74 rfl) rfl
theorem q89 : (Jvm.Cond.selects "NearDocs" ({ cls := "NearDocs", name := "clear", desc := "()V" } : Jvm.MethodName) ({ cls := "NearDocs", name := "clear", desc := "()V" } : Jvm.MethodName)) ∈ lw_all := lw_g (lw_at lw_m1 75 rfl) rfl
theorem q90 : (Jvm.Cond.code ({ cls := "NearDocs", name := "clear", desc := "()V" } : Jvm.MethodName) prog_1_method_5_code (2 : Nat) (Option.none : Option Jvm.ClassFile.FieldType)) ∈ lw_all := lw_g (lw_at lw_m1 76 rfl) rfl
theorem q92 : (Jvm.Cond.instanceMethod ({ cls := "NearDocs", name := "distance", desc := "(I)I" } : Jvm.MethodName)) ∈ lw_all := lw_g (lw_at lw_m1 78 rfl) rfl
theorem q93 : (Jvm.Cond.selects "NearDocs" ({ cls := "NearDocs", name := "distance", desc := "(I)I" } : Jvm.MethodName) ({ cls := "NearDocs", name := "distance", desc := "(I)I" } : Jvm.MethodName)) ∈ lw_all := lw_g (lw_at lw_m1 79 rfl) rfl
theorem q94 : (Jvm.Cond.code ({ cls := "NearDocs", name := "distance", desc := "(I)I" } : Jvm.MethodName) prog_1_method_6_code (2 : Nat) (Option.some Jvm.ClassFile.FieldType.int)) ∈ lw_all := lw_g (lw_at lw_m1 80 rfl) rfl
theorem q95 : (Jvm.Cond.methodLink "NearDocs" (48 : Nat) ({ cls := "NearDocs", name := "search", desc := "(I)V" } : Jvm.MethodName)) ∈ lw_all := lw_g (lw_at lw_m1 81 rfl) rfl
theorem q96 : (Jvm.Cond.privateMethod ({ cls := "NearDocs", name := "search", desc := "(I)V" } : Jvm.MethodName)) ∈ lw_tbl := lw_at lw_m1 82 rfl
theorem q97 : (Jvm.Cond.instanceMethod ({ cls := "NearDocs", name := "search", desc := "(I)V" } : Jvm.MethodName)) ∈ lw_all := lw_g (lw_at lw_m1 83 rfl) rfl
theorem q98 : (Jvm.Cond.code ({ cls := "NearDocs", name := "search", desc := "(I)V" } : Jvm.MethodName) prog_1_method_16_code (13 : Nat) (Option.none : Option Jvm.ClassFile.FieldType)) ∈ lw_all := lw_g (lw_at lw_m1 84 rfl) rfl
theorem q100 : (Jvm.Cond.instanceMethod ({ cls := "NearDocs", name := "end", desc := "(I)I" } : Jvm.MethodName)) ∈ lw_all := lw_g (lw_at lw_m1 86 rfl) rfl
theorem q101 : (Jvm.Cond.selects "NearDocs" ({ cls := "NearDocs", name := "end", desc := "(I)I" } : Jvm.MethodName) ({ cls := "NearDocs", name := "end", desc := "(I)I" } : Jvm.MethodName)) ∈ lw_all := lw_g (lw_at lw_m1 87 rfl) rfl
theorem q102 : (Jvm.Cond.code ({ cls := "NearDocs", name := "end", desc := "(I)I" } : Jvm.MethodName) prog_1_method_7_code (2 : Nat) (Option.some Jvm.ClassFile.FieldType.int)) ∈ lw_all := lw_g (lw_at lw_m1 88 rfl) rfl
theorem q104 : (Jvm.Cond.instanceMethod ({ cls := "NearDocs", name := "whole", desc := "(I)I" } : Jvm.MethodName)) ∈ lw_all := lw_g (lw_at lw_m1 90 rfl) rfl
theorem q105 : (Jvm.Cond.selects "NearDocs" ({ cls := "NearDocs", name := "whole", desc := "(I)I" } : Jvm.MethodName) ({ cls := "NearDocs", name := "whole", desc := "(I)I" } : Jvm.MethodName)) ∈ lw_all := lw_g (lw_at lw_m1 91 rfl) rfl
theorem q106 : (Jvm.Cond.code ({ cls := "NearDocs", name := "whole", desc := "(I)I" } : Jvm.MethodName) prog_1_method_8_code (3 : Nat) (Option.some Jvm.ClassFile.FieldType.int)) ∈ lw_all := lw_g (lw_at lw_m1 92 rfl) rfl
theorem q107 : (Jvm.Cond.methodLink "NearDocs" (61 : Nat) ({ cls := "NearDocs", name := "takeAsY", desc := "(I)V" } : Jvm.MethodName)) ∈ lw_all := lw_g (lw_at lw_m1 93 rfl) rfl
theorem q108 : (Jvm.Cond.privateMethod ({ cls := "NearDocs", name := "takeAsY", desc := "(I)V" } : Jvm.MethodName)) ∈ lw_tbl := lw_at lw_m1 94 rfl
theorem q109 : (Jvm.Cond.instanceMethod ({ cls := "NearDocs", name := "takeAsY", desc := "(I)V" } : Jvm.MethodName)) ∈ lw_all := lw_g (lw_at lw_m1 95 rfl) rfl
theorem q110 : (Jvm.Cond.code ({ cls := "NearDocs", name := "takeAsY", desc := "(I)V" } : Jvm.MethodName) prog_1_method_17_code (3 : Nat) (Option.none : Option Jvm.ClassFile.FieldType)) ∈ lw_all := lw_g (lw_at lw_m1 96 rfl) rfl
theorem q111 : (Jvm.Cond.methodLink "NearDocs" (64 : Nat) ({ cls := "NearDocs", name := "wholeDistance", desc := "()I" } : Jvm.MethodName)) ∈ lw_all := lw_g (lw_at lw_m1 97 rfl) rfl
theorem q112 : (Jvm.Cond.privateMethod ({ cls := "NearDocs", name := "wholeDistance", desc := "()I" } : Jvm.MethodName)) ∈ lw_tbl := lw_at lw_m1 98 rfl
theorem q113 : (Jvm.Cond.instanceMethod ({ cls := "NearDocs", name := "wholeDistance", desc := "()I" } : Jvm.MethodName)) ∈ lw_all := lw_g (lw_at lw_m1 99 rfl) rfl
theorem q114 : (Jvm.Cond.code ({ cls := "NearDocs", name := "wholeDistance", desc := "()I" } : Jvm.MethodName) prog_1_method_18_code (5 : Nat) (Option.some Jvm.ClassFile.FieldType.int)) ∈ lw_all := lw_g (lw_at lw_m1 100 rfl) rfl
theorem q115 : (Jvm.Cond.methodLink "NearDocs" (79 : Nat) ({ cls := "NearDocs", name := "bandDistance", desc := "(I)I" } : Jvm.MethodName)) ∈ lw_all := lw_g (lw_at lw_m1 101 rfl) rfl
theorem q116 : (Jvm.Cond.privateMethod ({ cls := "NearDocs", name := "bandDistance", desc := "(I)I" } : Jvm.MethodName)) ∈ lw_tbl := lw_at lw_m1 102 rfl
theorem q117 : (Jvm.Cond.instanceMethod ({ cls := "NearDocs", name := "bandDistance", desc := "(I)I" } : Jvm.MethodName)) ∈ lw_all := lw_g (lw_at lw_m1 103 rfl) rfl
theorem q118 : (Jvm.Cond.code ({ cls := "NearDocs", name := "bandDistance", desc := "(I)I" } : Jvm.MethodName) prog_1_method_19_code (4 : Nat) (Option.some Jvm.ClassFile.FieldType.int)) ∈ lw_all := lw_g (lw_at lw_m1 104 rfl) rfl
theorem q119 : (Jvm.Cond.methodLink "NearDocs" (82 : Nat) ({ cls := "NearDocs", name := "cell", desc := "(III)I" } : Jvm.MethodName)) ∈ lw_all := lw_g (lw_at lw_m1 105 rfl) rfl
theorem q120 : (Jvm.Cond.privateMethod ({ cls := "NearDocs", name := "cell", desc := "(III)I" } : Jvm.MethodName)) ∈ lw_tbl := lw_at lw_m1 106 rfl
theorem q121 : (Jvm.Cond.instanceMethod ({ cls := "NearDocs", name := "cell", desc := "(III)I" } : Jvm.MethodName)) ∈ lw_all := lw_g (lw_at lw_m1 107 rfl) rfl
theorem q122 : (Jvm.Cond.code ({ cls := "NearDocs", name := "cell", desc := "(III)I" } : Jvm.MethodName) prog_1_method_20_code (7 : Nat) (Option.some Jvm.ClassFile.FieldType.int)) ∈ lw_all := lw_g (lw_at lw_m1 108 rfl) rfl
theorem q124 : (Jvm.Cond.instanceMethod ({ cls := "NearDocs", name := "within", desc := "(I)I" } : Jvm.MethodName)) ∈ lw_all := lw_g (lw_at lw_m1 110 rfl) rfl
theorem q125 : (Jvm.Cond.selects "NearDocs" ({ cls := "NearDocs", name := "within", desc := "(I)I" } : Jvm.MethodName) ({ cls := "NearDocs", name := "within", desc := "(I)I" } : Jvm.MethodName)) ∈ lw_all := lw_g (lw_at lw_m1 111 rfl) rfl
theorem q126 : (Jvm.Cond.code ({ cls := "NearDocs", name := "within", desc := "(I)I" } : Jvm.MethodName) prog_1_method_9_code (4 : Nat) (Option.some Jvm.ClassFile.FieldType.int)) ∈ lw_all := lw_g (lw_at lw_m1 112 rfl) rfl
theorem q127 : (Jvm.Cond.methodLink "NearDocs" (68 : Nat) ({ cls := "NearDocs", name := "mayBeWithin", desc := "(II)Z" } : Jvm.MethodName)) ∈ lw_all := lw_g (lw_at lw_m1 113 rfl) rfl
theorem q128 : (Jvm.Cond.privateMethod ({ cls := "NearDocs", name := "mayBeWithin", desc := "(II)Z" } : Jvm.MethodName)) ∈ lw_tbl := lw_at lw_m1 114 rfl
theorem q129 : (Jvm.Cond.instanceMethod ({ cls := "NearDocs", name := "mayBeWithin", desc := "(II)Z" } : Jvm.MethodName)) ∈ lw_all := lw_g (lw_at lw_m1 115 rfl) rfl
theorem q130 : (Jvm.Cond.code ({ cls := "NearDocs", name := "mayBeWithin", desc := "(II)Z" } : Jvm.MethodName) prog_1_method_15_code (4 : Nat) (Option.some Jvm.ClassFile.FieldType.boolean)) ∈ lw_all := lw_g (lw_at lw_m1 116 rfl) rfl
theorem q131 : (Jvm.Cond.methodLink "NearDocs" (72 : Nat) ({ cls := "NearDocs", name := "sharedPairs", desc := "(I)I" } : Jvm.MethodName)) ∈ lw_all := lw_g (lw_at lw_m1 117 rfl) rfl
theorem q132 : (Jvm.Cond.privateMethod ({ cls := "NearDocs", name := "sharedPairs", desc := "(I)I" } : Jvm.MethodName)) ∈ lw_tbl := lw_at lw_m1 118 rfl
theorem q133 : (Jvm.Cond.instanceMethod ({ cls := "NearDocs", name := "sharedPairs", desc := "(I)I" } : Jvm.MethodName)) ∈ lw_all := lw_g (lw_at lw_m1 119 rfl) rfl
theorem q134 : (Jvm.Cond.code ({ cls := "NearDocs", name := "sharedPairs", desc := "(I)I" } : Jvm.MethodName) prog_1_method_14_code (5 : Nat) (Option.some Jvm.ClassFile.FieldType.int)) ∈ lw_all := lw_g (lw_at lw_m1 120 rfl) rfl
theorem q136 : (Jvm.Cond.instanceMethod ({ cls := "NearDocs", name := "nearest", desc := "()I" } : Jvm.MethodName)) ∈ lw_all := lw_g (lw_at lw_m1 122 rfl) rfl
theorem q137 : (Jvm.Cond.selects "NearDocs" ({ cls := "NearDocs", name := "nearest", desc := "()I" } : Jvm.MethodName) ({ cls := "NearDocs", name := "nearest", desc := "()I" } : Jvm.MethodName)) ∈ lw_all := lw_g (lw_at lw_m1 123 rfl) rfl
theorem q138 : (Jvm.Cond.code ({ cls := "NearDocs", name := "nearest", desc := "()I" } : Jvm.MethodName) prog_1_method_10_code (4 : Nat) (Option.some Jvm.ClassFile.FieldType.int)) ∈ lw_all := lw_g (lw_at lw_m1 124 rfl) rfl
theorem q140 : (Jvm.Cond.instanceMethod ({ cls := "NearDocs", name := "between", desc := "(II)I" } : Jvm.MethodName)) ∈ lw_all := lw_g (lw_at lw_m1 126 rfl) rfl
theorem q141 : (Jvm.Cond.selects "NearDocs" ({ cls := "NearDocs", name := "between", desc := "(II)I" } : Jvm.MethodName) ({ cls := "NearDocs", name := "between", desc := "(II)I" } : Jvm.MethodName)) ∈ lw_all := lw_g (lw_at lw_m1 127 rfl) rfl
theorem q142 : (Jvm.Cond.code ({ cls := "NearDocs", name := "between", desc := "(II)I" } : Jvm.MethodName) prog_1_method_11_code (4 : Nat) (Option.some Jvm.ClassFile.FieldType.int)) ∈ lw_all := lw_g (lw_at lw_m1 128 rfl) rfl
theorem q144 : (Jvm.Cond.instanceMethod ({ cls := "NearDocs", name := "pairs", desc := "(I)I" } : Jvm.MethodName)) ∈ lw_all := lw_g (lw_at lw_m1 130 rfl) rfl
theorem q145 : (Jvm.Cond.selects "NearDocs" ({ cls := "NearDocs", name := "pairs", desc := "(I)I" } : Jvm.MethodName) ({ cls := "NearDocs", name := "pairs", desc := "(I)I" } : Jvm.MethodName)) ∈ lw_all := lw_g (lw_at lw_m1 131 rfl) rfl
theorem q146 : (Jvm.Cond.code ({ cls := "NearDocs", name := "pairs", desc := "(I)I" } : Jvm.MethodName) prog_1_method_12_code (2 : Nat) (Option.some Jvm.ClassFile.FieldType.int)) ∈ lw_all := lw_g (lw_at lw_m1 132 rfl) rfl
theorem in_X0 : ∀ w ∈ wsX00, w ∈ lw_all := lw_in wsX00 [40, 42, 44, 46, 48, 50, 52, 54, 56, 58, 60, 62, 64, 66, 68] (by decide +kernel) (by decide +kernel)
end
section
/-! NearDocsModel -/
set_option maxRecDepth 100000
def RX1 : String := "NearDocsModel"
def TX1 : u_T := fun k => match k with
  | 0 => ("NearDocsModel", "letters", "[I", true)
  | 1 => ("NearDocsModel", "length", "[I", true)
  | 2 => ("NearDocsModel", "query", "[I", true)
  | 3 => ("NearDocsModel", "typed", "I", false)
  | 4 => ("NearDocsModel", "left", "[I", true)
  | 5 => ("NearDocsModel", "lefts", "I", false)
  | 6 => ("NearDocsModel", "right", "[I", true)
  | 7 => ("NearDocsModel", "rights", "I", false)
  | 8 => ("NearDocsModel", "table", "[I", true)
  | _ => ("NearDocsModel", "foundEnd", "I", false)
def tyX1 : Nat → FieldType := fun k => match k with
  | 0 => .array .int
  | 1 => .array .int
  | 2 => .array .int
  | 3 => .int
  | 4 => .array .int
  | 5 => .int
  | 6 => .array .int
  | 7 => .int
  | 8 => .array .int
  | _ => .int
abbrev wsX10 : List Cond := u_ws RX1 TX1 10
theorem nmX1 : ∀ a, a < 10 → ∀ b, b < 10 → a ≠ b → (TX1 a).2.1 ≠ (TX1 b).2.1 := by decide +kernel
theorem tyX1_ok : ∀ k, k < 10 → parseFieldDescriptor (TX1 k).2.2.1 = some (tyX1 k) := by decide +kernel
abbrev cX1_init : ByteArray := prog_3_method_1_code
def yX1_init : MethodName := ⟨RX1, "<init>", "()V"⟩
theorem dX1_init_0 : decode cX1_init 0 = .ok (.aload_n 0, 1) := by decide +kernel
theorem dX1_init_1 : decode cX1_init 1 = .ok (.invokespecial 1, 3) := by decide +kernel
theorem dX1_init_4 : decode cX1_init 4 = .ok (.aload_n 0, 1) := by decide +kernel
theorem dX1_init_5 : decode cX1_init 5 = .ok (.sipush 128, 3) := by decide +kernel
theorem dX1_init_8 : decode cX1_init 8 = .ok (.newarray .int, 2) := by decide +kernel
theorem dX1_init_10 : decode cX1_init 10 = .ok (.putfield 7, 3) := by decide +kernel
theorem dX1_init_13 : decode cX1_init 13 = .ok (.aload_n 0, 1) := by decide +kernel
theorem dX1_init_14 : decode cX1_init 14 = .ok (.bipush 8, 2) := by decide +kernel
theorem dX1_init_16 : decode cX1_init 16 = .ok (.newarray .int, 2) := by decide +kernel
theorem dX1_init_18 : decode cX1_init 18 = .ok (.putfield 13, 3) := by decide +kernel
theorem dX1_init_21 : decode cX1_init 21 = .ok (.aload_n 0, 1) := by decide +kernel
theorem dX1_init_22 : decode cX1_init 22 = .ok (.bipush 8, 2) := by decide +kernel
theorem dX1_init_24 : decode cX1_init 24 = .ok (.newarray .int, 2) := by decide +kernel
theorem dX1_init_26 : decode cX1_init 26 = .ok (.putfield 16, 3) := by decide +kernel
theorem dX1_init_29 : decode cX1_init 29 = .ok (.aload_n 0, 1) := by decide +kernel
theorem dX1_init_30 : decode cX1_init 30 = .ok (.bipush 16, 2) := by decide +kernel
theorem dX1_init_32 : decode cX1_init 32 = .ok (.newarray .int, 2) := by decide +kernel
theorem dX1_init_34 : decode cX1_init 34 = .ok (.putfield 19, 3) := by decide +kernel
theorem dX1_init_37 : decode cX1_init 37 = .ok (.aload_n 0, 1) := by decide +kernel
theorem dX1_init_38 : decode cX1_init 38 = .ok (.bipush 16, 2) := by decide +kernel
theorem dX1_init_40 : decode cX1_init 40 = .ok (.newarray .int, 2) := by decide +kernel
theorem dX1_init_42 : decode cX1_init 42 = .ok (.putfield 22, 3) := by decide +kernel
theorem dX1_init_45 : decode cX1_init 45 = .ok (.aload_n 0, 1) := by decide +kernel
theorem dX1_init_46 : decode cX1_init 46 = .ok (.sipush 289, 3) := by decide +kernel
theorem dX1_init_49 : decode cX1_init 49 = .ok (.newarray .int, 2) := by decide +kernel
theorem dX1_init_51 : decode cX1_init 51 = .ok (.putfield 25, 3) := by decide +kernel
theorem dX1_init_54 : decode cX1_init 54 = .ok (.return_, 1) := by decide +kernel
abbrev cX1_write : ByteArray := prog_3_method_3_code
def yX1_write : MethodName := ⟨RX1, "write", "(II)I"⟩
theorem dX1_write_0 : decode cX1_write 0 = .ok (.iload_n 1, 1) := by decide +kernel
theorem dX1_write_1 : decode cX1_write 1 = .ok (.invokestatic 28, 3) := by decide +kernel
theorem dX1_write_4 : decode cX1_write 4 = .ok (.ifCond .ne 14, 3) := by decide +kernel
theorem dX1_write_7 : decode cX1_write 7 = .ok (.aload_n 0, 1) := by decide +kernel
theorem dX1_write_8 : decode cX1_write 8 = .ok (.getfield 13, 3) := by decide +kernel
theorem dX1_write_11 : decode cX1_write 11 = .ok (.iload_n 1, 1) := by decide +kernel
theorem dX1_write_12 : decode cX1_write 12 = .ok (.iaload, 1) := by decide +kernel
theorem dX1_write_13 : decode cX1_write 13 = .ok (.bipush 16, 2) := by decide +kernel
theorem dX1_write_15 : decode cX1_write 15 = .ok (.if_icmp .ne 5, 3) := by decide +kernel
theorem dX1_write_18 : decode cX1_write 18 = .ok (.iconst (-1), 1) := by decide +kernel
theorem dX1_write_19 : decode cX1_write 19 = .ok (.ireturn, 1) := by decide +kernel
theorem dX1_write_20 : decode cX1_write 20 = .ok (.aload_n 0, 1) := by decide +kernel
theorem dX1_write_21 : decode cX1_write 21 = .ok (.getfield 7, 3) := by decide +kernel
theorem dX1_write_24 : decode cX1_write 24 = .ok (.bipush 16, 2) := by decide +kernel
theorem dX1_write_26 : decode cX1_write 26 = .ok (.iload_n 1, 1) := by decide +kernel
theorem dX1_write_27 : decode cX1_write 27 = .ok (.imul, 1) := by decide +kernel
theorem dX1_write_28 : decode cX1_write 28 = .ok (.aload_n 0, 1) := by decide +kernel
theorem dX1_write_29 : decode cX1_write 29 = .ok (.getfield 13, 3) := by decide +kernel
theorem dX1_write_32 : decode cX1_write 32 = .ok (.iload_n 1, 1) := by decide +kernel
theorem dX1_write_33 : decode cX1_write 33 = .ok (.iaload, 1) := by decide +kernel
theorem dX1_write_34 : decode cX1_write 34 = .ok (.iadd, 1) := by decide +kernel
theorem dX1_write_35 : decode cX1_write 35 = .ok (.iload_n 2, 1) := by decide +kernel
theorem dX1_write_36 : decode cX1_write 36 = .ok (.iconst 3, 1) := by decide +kernel
theorem dX1_write_37 : decode cX1_write 37 = .ok (.iand, 1) := by decide +kernel
theorem dX1_write_38 : decode cX1_write 38 = .ok (.iastore, 1) := by decide +kernel
theorem dX1_write_39 : decode cX1_write 39 = .ok (.aload_n 0, 1) := by decide +kernel
theorem dX1_write_40 : decode cX1_write 40 = .ok (.getfield 13, 3) := by decide +kernel
theorem dX1_write_43 : decode cX1_write 43 = .ok (.iload_n 1, 1) := by decide +kernel
theorem dX1_write_44 : decode cX1_write 44 = .ok (.dup2, 1) := by decide +kernel
theorem dX1_write_45 : decode cX1_write 45 = .ok (.iaload, 1) := by decide +kernel
theorem dX1_write_46 : decode cX1_write 46 = .ok (.iconst 1, 1) := by decide +kernel
theorem dX1_write_47 : decode cX1_write 47 = .ok (.iadd, 1) := by decide +kernel
theorem dX1_write_48 : decode cX1_write 48 = .ok (.iastore, 1) := by decide +kernel
theorem dX1_write_49 : decode cX1_write 49 = .ok (.aload_n 0, 1) := by decide +kernel
theorem dX1_write_50 : decode cX1_write 50 = .ok (.getfield 13, 3) := by decide +kernel
theorem dX1_write_53 : decode cX1_write 53 = .ok (.iload_n 1, 1) := by decide +kernel
theorem dX1_write_54 : decode cX1_write 54 = .ok (.iaload, 1) := by decide +kernel
theorem dX1_write_55 : decode cX1_write 55 = .ok (.ireturn, 1) := by decide +kernel
abbrev cX1_bad : ByteArray := prog_3_method_2_code
def yX1_bad : MethodName := ⟨RX1, "bad", "(I)Z"⟩
theorem dX1_bad_0 : decode cX1_bad 0 = .ok (.iload_n 0, 1) := by decide +kernel
theorem dX1_bad_1 : decode cX1_bad 1 = .ok (.ifCond .lt 9, 3) := by decide +kernel
theorem dX1_bad_4 : decode cX1_bad 4 = .ok (.iload_n 0, 1) := by decide +kernel
theorem dX1_bad_5 : decode cX1_bad 5 = .ok (.bipush 7, 2) := by decide +kernel
theorem dX1_bad_7 : decode cX1_bad 7 = .ok (.if_icmp .le 7, 3) := by decide +kernel
theorem dX1_bad_10 : decode cX1_bad 10 = .ok (.iconst 1, 1) := by decide +kernel
theorem dX1_bad_11 : decode cX1_bad 11 = .ok (.goto 4, 3) := by decide +kernel
theorem dX1_bad_14 : decode cX1_bad 14 = .ok (.iconst 0, 1) := by decide +kernel
theorem dX1_bad_15 : decode cX1_bad 15 = .ok (.ireturn, 1) := by decide +kernel
abbrev cX1_wipe : ByteArray := prog_3_method_4_code
def yX1_wipe : MethodName := ⟨RX1, "wipe", "(I)I"⟩
theorem dX1_wipe_0 : decode cX1_wipe 0 = .ok (.iload_n 1, 1) := by decide +kernel
theorem dX1_wipe_1 : decode cX1_wipe 1 = .ok (.invokestatic 28, 3) := by decide +kernel
theorem dX1_wipe_4 : decode cX1_wipe 4 = .ok (.ifCond .eq 5, 3) := by decide +kernel
theorem dX1_wipe_7 : decode cX1_wipe 7 = .ok (.iconst (-1), 1) := by decide +kernel
theorem dX1_wipe_8 : decode cX1_wipe 8 = .ok (.ireturn, 1) := by decide +kernel
theorem dX1_wipe_9 : decode cX1_wipe 9 = .ok (.aload_n 0, 1) := by decide +kernel
theorem dX1_wipe_10 : decode cX1_wipe 10 = .ok (.getfield 13, 3) := by decide +kernel
theorem dX1_wipe_13 : decode cX1_wipe 13 = .ok (.iload_n 1, 1) := by decide +kernel
theorem dX1_wipe_14 : decode cX1_wipe 14 = .ok (.iaload, 1) := by decide +kernel
theorem dX1_wipe_15 : decode cX1_wipe 15 = .ok (.istore_n 2, 1) := by decide +kernel
theorem dX1_wipe_16 : decode cX1_wipe 16 = .ok (.aload_n 0, 1) := by decide +kernel
theorem dX1_wipe_17 : decode cX1_wipe 17 = .ok (.getfield 13, 3) := by decide +kernel
theorem dX1_wipe_20 : decode cX1_wipe 20 = .ok (.iload_n 1, 1) := by decide +kernel
theorem dX1_wipe_21 : decode cX1_wipe 21 = .ok (.iconst 0, 1) := by decide +kernel
theorem dX1_wipe_22 : decode cX1_wipe 22 = .ok (.iastore, 1) := by decide +kernel
theorem dX1_wipe_23 : decode cX1_wipe 23 = .ok (.iload_n 2, 1) := by decide +kernel
theorem dX1_wipe_24 : decode cX1_wipe 24 = .ok (.ireturn, 1) := by decide +kernel
abbrev cX1_type : ByteArray := prog_3_method_5_code
def yX1_type : MethodName := ⟨RX1, "type", "(I)I"⟩
theorem dX1_type_0 : decode cX1_type 0 = .ok (.aload_n 0, 1) := by decide +kernel
theorem dX1_type_1 : decode cX1_type 1 = .ok (.getfield 32, 3) := by decide +kernel
theorem dX1_type_4 : decode cX1_type 4 = .ok (.bipush 8, 2) := by decide +kernel
theorem dX1_type_6 : decode cX1_type 6 = .ok (.if_icmp .ne 5, 3) := by decide +kernel
theorem dX1_type_9 : decode cX1_type 9 = .ok (.iconst (-1), 1) := by decide +kernel
theorem dX1_type_10 : decode cX1_type 10 = .ok (.ireturn, 1) := by decide +kernel
theorem dX1_type_11 : decode cX1_type 11 = .ok (.aload_n 0, 1) := by decide +kernel
theorem dX1_type_12 : decode cX1_type 12 = .ok (.getfield 16, 3) := by decide +kernel
theorem dX1_type_15 : decode cX1_type 15 = .ok (.aload_n 0, 1) := by decide +kernel
theorem dX1_type_16 : decode cX1_type 16 = .ok (.getfield 32, 3) := by decide +kernel
theorem dX1_type_19 : decode cX1_type 19 = .ok (.iload_n 1, 1) := by decide +kernel
theorem dX1_type_20 : decode cX1_type 20 = .ok (.iconst 3, 1) := by decide +kernel
theorem dX1_type_21 : decode cX1_type 21 = .ok (.iand, 1) := by decide +kernel
theorem dX1_type_22 : decode cX1_type 22 = .ok (.iastore, 1) := by decide +kernel
theorem dX1_type_23 : decode cX1_type 23 = .ok (.aload_n 0, 1) := by decide +kernel
theorem dX1_type_24 : decode cX1_type 24 = .ok (.dup, 1) := by decide +kernel
theorem dX1_type_25 : decode cX1_type 25 = .ok (.getfield 32, 3) := by decide +kernel
theorem dX1_type_28 : decode cX1_type 28 = .ok (.iconst 1, 1) := by decide +kernel
theorem dX1_type_29 : decode cX1_type 29 = .ok (.iadd, 1) := by decide +kernel
theorem dX1_type_30 : decode cX1_type 30 = .ok (.putfield 32, 3) := by decide +kernel
theorem dX1_type_33 : decode cX1_type 33 = .ok (.aload_n 0, 1) := by decide +kernel
theorem dX1_type_34 : decode cX1_type 34 = .ok (.getfield 32, 3) := by decide +kernel
theorem dX1_type_37 : decode cX1_type 37 = .ok (.ireturn, 1) := by decide +kernel
abbrev cX1_clear : ByteArray := prog_3_method_6_code
def yX1_clear : MethodName := ⟨RX1, "clear", "()V"⟩
theorem dX1_clear_0 : decode cX1_clear 0 = .ok (.aload_n 0, 1) := by decide +kernel
theorem dX1_clear_1 : decode cX1_clear 1 = .ok (.iconst 0, 1) := by decide +kernel
theorem dX1_clear_2 : decode cX1_clear 2 = .ok (.putfield 32, 3) := by decide +kernel
theorem dX1_clear_5 : decode cX1_clear 5 = .ok (.return_, 1) := by decide +kernel
abbrev cX1_distance : ByteArray := prog_3_method_12_code
def yX1_distance : MethodName := ⟨RX1, "distance", "(I)I"⟩
theorem dX1_distance_0 : decode cX1_distance 0 = .ok (.iload_n 1, 1) := by decide +kernel
theorem dX1_distance_1 : decode cX1_distance 1 = .ok (.invokestatic 28, 3) := by decide +kernel
theorem dX1_distance_4 : decode cX1_distance 4 = .ok (.ifCond .eq 7, 3) := by decide +kernel
theorem dX1_distance_7 : decode cX1_distance 7 = .ok (.iconst (-1), 1) := by decide +kernel
theorem dX1_distance_8 : decode cX1_distance 8 = .ok (.goto 8, 3) := by decide +kernel
theorem dX1_distance_11 : decode cX1_distance 11 = .ok (.aload_n 0, 1) := by decide +kernel
theorem dX1_distance_12 : decode cX1_distance 12 = .ok (.iload_n 1, 1) := by decide +kernel
theorem dX1_distance_13 : decode cX1_distance 13 = .ok (.invokevirtual 60, 3) := by decide +kernel
theorem dX1_distance_16 : decode cX1_distance 16 = .ok (.ireturn, 1) := by decide +kernel
abbrev cX1_search : ByteArray := prog_3_method_11_code
def yX1_search : MethodName := ⟨RX1, "search", "(I)I"⟩
theorem dX1_search_0 : decode cX1_search 0 = .ok (.bipush 100, 2) := by decide +kernel
theorem dX1_search_2 : decode cX1_search 2 = .ok (.istore_n 2, 1) := by decide +kernel
theorem dX1_search_3 : decode cX1_search 3 = .ok (.aload_n 0, 1) := by decide +kernel
theorem dX1_search_4 : decode cX1_search 4 = .ok (.invokevirtual 46, 3) := by decide +kernel
theorem dX1_search_7 : decode cX1_search 7 = .ok (.aload_n 0, 1) := by decide +kernel
theorem dX1_search_8 : decode cX1_search 8 = .ok (.iconst 0, 1) := by decide +kernel
theorem dX1_search_9 : decode cX1_search 9 = .ok (.putfield 49, 3) := by decide +kernel
theorem dX1_search_12 : decode cX1_search 12 = .ok (.iconst 0, 1) := by decide +kernel
theorem dX1_search_13 : decode cX1_search 13 = .ok (.istore_n 3, 1) := by decide +kernel
theorem dX1_search_14 : decode cX1_search 14 = .ok (.iload_n 3, 1) := by decide +kernel
theorem dX1_search_15 : decode cX1_search 15 = .ok (.aload_n 0, 1) := by decide +kernel
theorem dX1_search_16 : decode cX1_search 16 = .ok (.getfield 13, 3) := by decide +kernel
theorem dX1_search_19 : decode cX1_search 19 = .ok (.iload_n 1, 1) := by decide +kernel
theorem dX1_search_20 : decode cX1_search 20 = .ok (.iaload, 1) := by decide +kernel
theorem dX1_search_21 : decode cX1_search 21 = .ok (.if_icmp .gt 52, 3) := by decide +kernel
theorem dX1_search_24 : decode cX1_search 24 = .ok (.iconst 0, 1) := by decide +kernel
theorem dX1_search_25 : decode cX1_search 25 = .ok (.istore 4, 2) := by decide +kernel
theorem dX1_search_27 : decode cX1_search 27 = .ok (.iload 4, 2) := by decide +kernel
theorem dX1_search_29 : decode cX1_search 29 = .ok (.iload_n 3, 1) := by decide +kernel
theorem dX1_search_30 : decode cX1_search 30 = .ok (.if_icmp .gt 37, 3) := by decide +kernel
theorem dX1_search_33 : decode cX1_search 33 = .ok (.aload_n 0, 1) := by decide +kernel
theorem dX1_search_34 : decode cX1_search 34 = .ok (.iload_n 1, 1) := by decide +kernel
theorem dX1_search_35 : decode cX1_search 35 = .ok (.iload 4, 2) := by decide +kernel
theorem dX1_search_37 : decode cX1_search 37 = .ok (.iload_n 3, 1) := by decide +kernel
theorem dX1_search_38 : decode cX1_search 38 = .ok (.invokevirtual 52, 3) := by decide +kernel
theorem dX1_search_41 : decode cX1_search 41 = .ok (.aload_n 0, 1) := by decide +kernel
theorem dX1_search_42 : decode cX1_search 42 = .ok (.invokevirtual 56, 3) := by decide +kernel
theorem dX1_search_45 : decode cX1_search 45 = .ok (.istore 5, 2) := by decide +kernel
theorem dX1_search_47 : decode cX1_search 47 = .ok (.iload 5, 2) := by decide +kernel
theorem dX1_search_49 : decode cX1_search 49 = .ok (.iload_n 2, 1) := by decide +kernel
theorem dX1_search_50 : decode cX1_search 50 = .ok (.if_icmp .ge 11, 3) := by decide +kernel
theorem dX1_search_53 : decode cX1_search 53 = .ok (.iload 5, 2) := by decide +kernel
theorem dX1_search_55 : decode cX1_search 55 = .ok (.istore_n 2, 1) := by decide +kernel
theorem dX1_search_56 : decode cX1_search 56 = .ok (.aload_n 0, 1) := by decide +kernel
theorem dX1_search_57 : decode cX1_search 57 = .ok (.iload_n 3, 1) := by decide +kernel
theorem dX1_search_58 : decode cX1_search 58 = .ok (.putfield 49, 3) := by decide +kernel
theorem dX1_search_61 : decode cX1_search 61 = .ok (.iinc 4 1, 3) := by decide +kernel
theorem dX1_search_64 : decode cX1_search 64 = .ok (.goto (-37), 3) := by decide +kernel
theorem dX1_search_67 : decode cX1_search 67 = .ok (.iinc 3 1, 3) := by decide +kernel
theorem dX1_search_70 : decode cX1_search 70 = .ok (.goto (-56), 3) := by decide +kernel
theorem dX1_search_73 : decode cX1_search 73 = .ok (.iload_n 2, 1) := by decide +kernel
theorem dX1_search_74 : decode cX1_search 74 = .ok (.ireturn, 1) := by decide +kernel
abbrev cX1_layQuery : ByteArray := prog_3_method_9_code
def yX1_layQuery : MethodName := ⟨RX1, "layQuery", "()V"⟩
theorem dX1_layQuery_0 : decode cX1_layQuery 0 = .ok (.aload_n 0, 1) := by decide +kernel
theorem dX1_layQuery_1 : decode cX1_layQuery 1 = .ok (.aload_n 0, 1) := by decide +kernel
theorem dX1_layQuery_2 : decode cX1_layQuery 2 = .ok (.getfield 32, 3) := by decide +kernel
theorem dX1_layQuery_5 : decode cX1_layQuery 5 = .ok (.putfield 36, 3) := by decide +kernel
theorem dX1_layQuery_8 : decode cX1_layQuery 8 = .ok (.iconst 0, 1) := by decide +kernel
theorem dX1_layQuery_9 : decode cX1_layQuery 9 = .ok (.istore_n 1, 1) := by decide +kernel
theorem dX1_layQuery_10 : decode cX1_layQuery 10 = .ok (.iload_n 1, 1) := by decide +kernel
theorem dX1_layQuery_11 : decode cX1_layQuery 11 = .ok (.aload_n 0, 1) := by decide +kernel
theorem dX1_layQuery_12 : decode cX1_layQuery 12 = .ok (.getfield 32, 3) := by decide +kernel
theorem dX1_layQuery_15 : decode cX1_layQuery 15 = .ok (.if_icmp .ge 21, 3) := by decide +kernel
theorem dX1_layQuery_18 : decode cX1_layQuery 18 = .ok (.aload_n 0, 1) := by decide +kernel
theorem dX1_layQuery_19 : decode cX1_layQuery 19 = .ok (.getfield 19, 3) := by decide +kernel
theorem dX1_layQuery_22 : decode cX1_layQuery 22 = .ok (.iload_n 1, 1) := by decide +kernel
theorem dX1_layQuery_23 : decode cX1_layQuery 23 = .ok (.aload_n 0, 1) := by decide +kernel
theorem dX1_layQuery_24 : decode cX1_layQuery 24 = .ok (.getfield 16, 3) := by decide +kernel
theorem dX1_layQuery_27 : decode cX1_layQuery 27 = .ok (.iload_n 1, 1) := by decide +kernel
theorem dX1_layQuery_28 : decode cX1_layQuery 28 = .ok (.iaload, 1) := by decide +kernel
theorem dX1_layQuery_29 : decode cX1_layQuery 29 = .ok (.iastore, 1) := by decide +kernel
theorem dX1_layQuery_30 : decode cX1_layQuery 30 = .ok (.iinc 1 1, 3) := by decide +kernel
theorem dX1_layQuery_33 : decode cX1_layQuery 33 = .ok (.goto (-23), 3) := by decide +kernel
theorem dX1_layQuery_36 : decode cX1_layQuery 36 = .ok (.return_, 1) := by decide +kernel
abbrev cX1_layPart : ByteArray := prog_3_method_10_code
def yX1_layPart : MethodName := ⟨RX1, "layPart", "(III)V"⟩
theorem dX1_layPart_0 : decode cX1_layPart 0 = .ok (.aload_n 0, 1) := by decide +kernel
theorem dX1_layPart_1 : decode cX1_layPart 1 = .ok (.iload_n 3, 1) := by decide +kernel
theorem dX1_layPart_2 : decode cX1_layPart 2 = .ok (.iload_n 2, 1) := by decide +kernel
theorem dX1_layPart_3 : decode cX1_layPart 3 = .ok (.isub, 1) := by decide +kernel
theorem dX1_layPart_4 : decode cX1_layPart 4 = .ok (.putfield 39, 3) := by decide +kernel
theorem dX1_layPart_7 : decode cX1_layPart 7 = .ok (.iconst 0, 1) := by decide +kernel
theorem dX1_layPart_8 : decode cX1_layPart 8 = .ok (.istore 4, 2) := by decide +kernel
theorem dX1_layPart_10 : decode cX1_layPart 10 = .ok (.iload 4, 2) := by decide +kernel
theorem dX1_layPart_12 : decode cX1_layPart 12 = .ok (.aload_n 0, 1) := by decide +kernel
theorem dX1_layPart_13 : decode cX1_layPart 13 = .ok (.getfield 39, 3) := by decide +kernel
theorem dX1_layPart_16 : decode cX1_layPart 16 = .ok (.if_icmp .ge 30, 3) := by decide +kernel
theorem dX1_layPart_19 : decode cX1_layPart 19 = .ok (.aload_n 0, 1) := by decide +kernel
theorem dX1_layPart_20 : decode cX1_layPart 20 = .ok (.getfield 22, 3) := by decide +kernel
theorem dX1_layPart_23 : decode cX1_layPart 23 = .ok (.iload 4, 2) := by decide +kernel
theorem dX1_layPart_25 : decode cX1_layPart 25 = .ok (.aload_n 0, 1) := by decide +kernel
theorem dX1_layPart_26 : decode cX1_layPart 26 = .ok (.getfield 7, 3) := by decide +kernel
theorem dX1_layPart_29 : decode cX1_layPart 29 = .ok (.bipush 16, 2) := by decide +kernel
theorem dX1_layPart_31 : decode cX1_layPart 31 = .ok (.iload_n 1, 1) := by decide +kernel
theorem dX1_layPart_32 : decode cX1_layPart 32 = .ok (.imul, 1) := by decide +kernel
theorem dX1_layPart_33 : decode cX1_layPart 33 = .ok (.iload_n 2, 1) := by decide +kernel
theorem dX1_layPart_34 : decode cX1_layPart 34 = .ok (.iadd, 1) := by decide +kernel
theorem dX1_layPart_35 : decode cX1_layPart 35 = .ok (.iload 4, 2) := by decide +kernel
theorem dX1_layPart_37 : decode cX1_layPart 37 = .ok (.iadd, 1) := by decide +kernel
theorem dX1_layPart_38 : decode cX1_layPart 38 = .ok (.iaload, 1) := by decide +kernel
theorem dX1_layPart_39 : decode cX1_layPart 39 = .ok (.iastore, 1) := by decide +kernel
theorem dX1_layPart_40 : decode cX1_layPart 40 = .ok (.iinc 4 1, 3) := by decide +kernel
theorem dX1_layPart_43 : decode cX1_layPart 43 = .ok (.goto (-33), 3) := by decide +kernel
theorem dX1_layPart_46 : decode cX1_layPart 46 = .ok (.return_, 1) := by decide +kernel
abbrev cX1_compared : ByteArray := prog_3_method_8_code
def yX1_compared : MethodName := ⟨RX1, "compared", "()I"⟩
theorem dX1_compared_0 : decode cX1_compared 0 = .ok (.iconst 0, 1) := by decide +kernel
theorem dX1_compared_1 : decode cX1_compared 1 = .ok (.istore_n 1, 1) := by decide +kernel
theorem dX1_compared_2 : decode cX1_compared 2 = .ok (.iload_n 1, 1) := by decide +kernel
theorem dX1_compared_3 : decode cX1_compared 3 = .ok (.aload_n 0, 1) := by decide +kernel
theorem dX1_compared_4 : decode cX1_compared 4 = .ok (.getfield 36, 3) := by decide +kernel
theorem dX1_compared_7 : decode cX1_compared 7 = .ok (.if_icmp .gt 42, 3) := by decide +kernel
theorem dX1_compared_10 : decode cX1_compared 10 = .ok (.iconst 0, 1) := by decide +kernel
theorem dX1_compared_11 : decode cX1_compared 11 = .ok (.istore_n 2, 1) := by decide +kernel
theorem dX1_compared_12 : decode cX1_compared 12 = .ok (.iload_n 2, 1) := by decide +kernel
theorem dX1_compared_13 : decode cX1_compared 13 = .ok (.aload_n 0, 1) := by decide +kernel
theorem dX1_compared_14 : decode cX1_compared 14 = .ok (.getfield 39, 3) := by decide +kernel
theorem dX1_compared_17 : decode cX1_compared 17 = .ok (.if_icmp .gt 26, 3) := by decide +kernel
theorem dX1_compared_20 : decode cX1_compared 20 = .ok (.aload_n 0, 1) := by decide +kernel
theorem dX1_compared_21 : decode cX1_compared 21 = .ok (.getfield 25, 3) := by decide +kernel
theorem dX1_compared_24 : decode cX1_compared 24 = .ok (.bipush 17, 2) := by decide +kernel
theorem dX1_compared_26 : decode cX1_compared 26 = .ok (.iload_n 1, 1) := by decide +kernel
theorem dX1_compared_27 : decode cX1_compared 27 = .ok (.imul, 1) := by decide +kernel
theorem dX1_compared_28 : decode cX1_compared 28 = .ok (.iload_n 2, 1) := by decide +kernel
theorem dX1_compared_29 : decode cX1_compared 29 = .ok (.iadd, 1) := by decide +kernel
theorem dX1_compared_30 : decode cX1_compared 30 = .ok (.aload_n 0, 1) := by decide +kernel
theorem dX1_compared_31 : decode cX1_compared 31 = .ok (.iload_n 1, 1) := by decide +kernel
theorem dX1_compared_32 : decode cX1_compared 32 = .ok (.iload_n 2, 1) := by decide +kernel
theorem dX1_compared_33 : decode cX1_compared 33 = .ok (.invokevirtual 42, 3) := by decide +kernel
theorem dX1_compared_36 : decode cX1_compared 36 = .ok (.iastore, 1) := by decide +kernel
theorem dX1_compared_37 : decode cX1_compared 37 = .ok (.iinc 2 1, 3) := by decide +kernel
theorem dX1_compared_40 : decode cX1_compared 40 = .ok (.goto (-28), 3) := by decide +kernel
theorem dX1_compared_43 : decode cX1_compared 43 = .ok (.iinc 1 1, 3) := by decide +kernel
theorem dX1_compared_46 : decode cX1_compared 46 = .ok (.goto (-44), 3) := by decide +kernel
theorem dX1_compared_49 : decode cX1_compared 49 = .ok (.aload_n 0, 1) := by decide +kernel
theorem dX1_compared_50 : decode cX1_compared 50 = .ok (.getfield 25, 3) := by decide +kernel
theorem dX1_compared_53 : decode cX1_compared 53 = .ok (.bipush 17, 2) := by decide +kernel
theorem dX1_compared_55 : decode cX1_compared 55 = .ok (.aload_n 0, 1) := by decide +kernel
theorem dX1_compared_56 : decode cX1_compared 56 = .ok (.getfield 36, 3) := by decide +kernel
theorem dX1_compared_59 : decode cX1_compared 59 = .ok (.imul, 1) := by decide +kernel
theorem dX1_compared_60 : decode cX1_compared 60 = .ok (.aload_n 0, 1) := by decide +kernel
theorem dX1_compared_61 : decode cX1_compared 61 = .ok (.getfield 39, 3) := by decide +kernel
theorem dX1_compared_64 : decode cX1_compared 64 = .ok (.iadd, 1) := by decide +kernel
theorem dX1_compared_65 : decode cX1_compared 65 = .ok (.iaload, 1) := by decide +kernel
theorem dX1_compared_66 : decode cX1_compared 66 = .ok (.ireturn, 1) := by decide +kernel
abbrev cX1_cell : ByteArray := prog_3_method_7_code
def yX1_cell : MethodName := ⟨RX1, "cell", "(II)I"⟩
theorem dX1_cell_0 : decode cX1_cell 0 = .ok (.iload_n 1, 1) := by decide +kernel
theorem dX1_cell_1 : decode cX1_cell 1 = .ok (.ifCond .ne 5, 3) := by decide +kernel
theorem dX1_cell_4 : decode cX1_cell 4 = .ok (.iload_n 2, 1) := by decide +kernel
theorem dX1_cell_5 : decode cX1_cell 5 = .ok (.ireturn, 1) := by decide +kernel
theorem dX1_cell_6 : decode cX1_cell 6 = .ok (.iload_n 2, 1) := by decide +kernel
theorem dX1_cell_7 : decode cX1_cell 7 = .ok (.ifCond .ne 5, 3) := by decide +kernel
theorem dX1_cell_10 : decode cX1_cell 10 = .ok (.iload_n 1, 1) := by decide +kernel
theorem dX1_cell_11 : decode cX1_cell 11 = .ok (.ireturn, 1) := by decide +kernel
theorem dX1_cell_12 : decode cX1_cell 12 = .ok (.aload_n 0, 1) := by decide +kernel
theorem dX1_cell_13 : decode cX1_cell 13 = .ok (.getfield 25, 3) := by decide +kernel
theorem dX1_cell_16 : decode cX1_cell 16 = .ok (.bipush 17, 2) := by decide +kernel
theorem dX1_cell_18 : decode cX1_cell 18 = .ok (.iload_n 1, 1) := by decide +kernel
theorem dX1_cell_19 : decode cX1_cell 19 = .ok (.iconst 1, 1) := by decide +kernel
theorem dX1_cell_20 : decode cX1_cell 20 = .ok (.isub, 1) := by decide +kernel
theorem dX1_cell_21 : decode cX1_cell 21 = .ok (.imul, 1) := by decide +kernel
theorem dX1_cell_22 : decode cX1_cell 22 = .ok (.iload_n 2, 1) := by decide +kernel
theorem dX1_cell_23 : decode cX1_cell 23 = .ok (.iadd, 1) := by decide +kernel
theorem dX1_cell_24 : decode cX1_cell 24 = .ok (.iaload, 1) := by decide +kernel
theorem dX1_cell_25 : decode cX1_cell 25 = .ok (.iconst 1, 1) := by decide +kernel
theorem dX1_cell_26 : decode cX1_cell 26 = .ok (.iadd, 1) := by decide +kernel
theorem dX1_cell_27 : decode cX1_cell 27 = .ok (.istore_n 3, 1) := by decide +kernel
theorem dX1_cell_28 : decode cX1_cell 28 = .ok (.aload_n 0, 1) := by decide +kernel
theorem dX1_cell_29 : decode cX1_cell 29 = .ok (.getfield 25, 3) := by decide +kernel
theorem dX1_cell_32 : decode cX1_cell 32 = .ok (.bipush 17, 2) := by decide +kernel
theorem dX1_cell_34 : decode cX1_cell 34 = .ok (.iload_n 1, 1) := by decide +kernel
theorem dX1_cell_35 : decode cX1_cell 35 = .ok (.imul, 1) := by decide +kernel
theorem dX1_cell_36 : decode cX1_cell 36 = .ok (.iload_n 2, 1) := by decide +kernel
theorem dX1_cell_37 : decode cX1_cell 37 = .ok (.iadd, 1) := by decide +kernel
theorem dX1_cell_38 : decode cX1_cell 38 = .ok (.iconst 1, 1) := by decide +kernel
theorem dX1_cell_39 : decode cX1_cell 39 = .ok (.isub, 1) := by decide +kernel
theorem dX1_cell_40 : decode cX1_cell 40 = .ok (.iaload, 1) := by decide +kernel
theorem dX1_cell_41 : decode cX1_cell 41 = .ok (.iconst 1, 1) := by decide +kernel
theorem dX1_cell_42 : decode cX1_cell 42 = .ok (.iadd, 1) := by decide +kernel
theorem dX1_cell_43 : decode cX1_cell 43 = .ok (.istore 4, 2) := by decide +kernel
theorem dX1_cell_45 : decode cX1_cell 45 = .ok (.aload_n 0, 1) := by decide +kernel
theorem dX1_cell_46 : decode cX1_cell 46 = .ok (.getfield 25, 3) := by decide +kernel
theorem dX1_cell_49 : decode cX1_cell 49 = .ok (.bipush 17, 2) := by decide +kernel
theorem dX1_cell_51 : decode cX1_cell 51 = .ok (.iload_n 1, 1) := by decide +kernel
theorem dX1_cell_52 : decode cX1_cell 52 = .ok (.iconst 1, 1) := by decide +kernel
theorem dX1_cell_53 : decode cX1_cell 53 = .ok (.isub, 1) := by decide +kernel
theorem dX1_cell_54 : decode cX1_cell 54 = .ok (.imul, 1) := by decide +kernel
theorem dX1_cell_55 : decode cX1_cell 55 = .ok (.iload_n 2, 1) := by decide +kernel
theorem dX1_cell_56 : decode cX1_cell 56 = .ok (.iadd, 1) := by decide +kernel
theorem dX1_cell_57 : decode cX1_cell 57 = .ok (.iconst 1, 1) := by decide +kernel
theorem dX1_cell_58 : decode cX1_cell 58 = .ok (.isub, 1) := by decide +kernel
theorem dX1_cell_59 : decode cX1_cell 59 = .ok (.iaload, 1) := by decide +kernel
theorem dX1_cell_60 : decode cX1_cell 60 = .ok (.aload_n 0, 1) := by decide +kernel
theorem dX1_cell_61 : decode cX1_cell 61 = .ok (.getfield 19, 3) := by decide +kernel
theorem dX1_cell_64 : decode cX1_cell 64 = .ok (.iload_n 1, 1) := by decide +kernel
theorem dX1_cell_65 : decode cX1_cell 65 = .ok (.iconst 1, 1) := by decide +kernel
theorem dX1_cell_66 : decode cX1_cell 66 = .ok (.isub, 1) := by decide +kernel
theorem dX1_cell_67 : decode cX1_cell 67 = .ok (.iaload, 1) := by decide +kernel
theorem dX1_cell_68 : decode cX1_cell 68 = .ok (.aload_n 0, 1) := by decide +kernel
theorem dX1_cell_69 : decode cX1_cell 69 = .ok (.getfield 22, 3) := by decide +kernel
theorem dX1_cell_72 : decode cX1_cell 72 = .ok (.iload_n 2, 1) := by decide +kernel
theorem dX1_cell_73 : decode cX1_cell 73 = .ok (.iconst 1, 1) := by decide +kernel
theorem dX1_cell_74 : decode cX1_cell 74 = .ok (.isub, 1) := by decide +kernel
theorem dX1_cell_75 : decode cX1_cell 75 = .ok (.iaload, 1) := by decide +kernel
theorem dX1_cell_76 : decode cX1_cell 76 = .ok (.if_icmp .ne 7, 3) := by decide +kernel
theorem dX1_cell_79 : decode cX1_cell 79 = .ok (.iconst 0, 1) := by decide +kernel
theorem dX1_cell_80 : decode cX1_cell 80 = .ok (.goto 4, 3) := by decide +kernel
theorem dX1_cell_83 : decode cX1_cell 83 = .ok (.iconst 1, 1) := by decide +kernel
theorem dX1_cell_84 : decode cX1_cell 84 = .ok (.iadd, 1) := by decide +kernel
theorem dX1_cell_85 : decode cX1_cell 85 = .ok (.istore 5, 2) := by decide +kernel
theorem dX1_cell_87 : decode cX1_cell 87 = .ok (.iload_n 3, 1) := by decide +kernel
theorem dX1_cell_88 : decode cX1_cell 88 = .ok (.iload 4, 2) := by decide +kernel
theorem dX1_cell_90 : decode cX1_cell 90 = .ok (.if_icmp .ge 7, 3) := by decide +kernel
theorem dX1_cell_93 : decode cX1_cell 93 = .ok (.iload_n 3, 1) := by decide +kernel
theorem dX1_cell_94 : decode cX1_cell 94 = .ok (.goto 5, 3) := by decide +kernel
theorem dX1_cell_97 : decode cX1_cell 97 = .ok (.iload 4, 2) := by decide +kernel
theorem dX1_cell_99 : decode cX1_cell 99 = .ok (.istore 6, 2) := by decide +kernel
theorem dX1_cell_101 : decode cX1_cell 101 = .ok (.iload 5, 2) := by decide +kernel
theorem dX1_cell_103 : decode cX1_cell 103 = .ok (.iload 6, 2) := by decide +kernel
theorem dX1_cell_105 : decode cX1_cell 105 = .ok (.if_icmp .ge 8, 3) := by decide +kernel
theorem dX1_cell_108 : decode cX1_cell 108 = .ok (.iload 5, 2) := by decide +kernel
theorem dX1_cell_110 : decode cX1_cell 110 = .ok (.goto 5, 3) := by decide +kernel
theorem dX1_cell_113 : decode cX1_cell 113 = .ok (.iload 6, 2) := by decide +kernel
theorem dX1_cell_115 : decode cX1_cell 115 = .ok (.ireturn, 1) := by decide +kernel
abbrev cX1_end : ByteArray := prog_3_method_13_code
def yX1_end : MethodName := ⟨RX1, "end", "(I)I"⟩
theorem dX1_end_0 : decode cX1_end 0 = .ok (.iload_n 1, 1) := by decide +kernel
theorem dX1_end_1 : decode cX1_end 1 = .ok (.invokestatic 28, 3) := by decide +kernel
theorem dX1_end_4 : decode cX1_end 4 = .ok (.ifCond .eq 5, 3) := by decide +kernel
theorem dX1_end_7 : decode cX1_end 7 = .ok (.iconst (-1), 1) := by decide +kernel
theorem dX1_end_8 : decode cX1_end 8 = .ok (.ireturn, 1) := by decide +kernel
theorem dX1_end_9 : decode cX1_end 9 = .ok (.aload_n 0, 1) := by decide +kernel
theorem dX1_end_10 : decode cX1_end 10 = .ok (.iload_n 1, 1) := by decide +kernel
theorem dX1_end_11 : decode cX1_end 11 = .ok (.invokevirtual 60, 3) := by decide +kernel
theorem dX1_end_14 : decode cX1_end 14 = .ok (.pop, 1) := by decide +kernel
theorem dX1_end_15 : decode cX1_end 15 = .ok (.aload_n 0, 1) := by decide +kernel
theorem dX1_end_16 : decode cX1_end 16 = .ok (.getfield 49, 3) := by decide +kernel
theorem dX1_end_19 : decode cX1_end 19 = .ok (.ireturn, 1) := by decide +kernel
abbrev cX1_whole : ByteArray := prog_3_method_14_code
def yX1_whole : MethodName := ⟨RX1, "whole", "(I)I"⟩
theorem dX1_whole_0 : decode cX1_whole 0 = .ok (.iload_n 1, 1) := by decide +kernel
theorem dX1_whole_1 : decode cX1_whole 1 = .ok (.invokestatic 28, 3) := by decide +kernel
theorem dX1_whole_4 : decode cX1_whole 4 = .ok (.ifCond .eq 5, 3) := by decide +kernel
theorem dX1_whole_7 : decode cX1_whole 7 = .ok (.iconst (-1), 1) := by decide +kernel
theorem dX1_whole_8 : decode cX1_whole 8 = .ok (.ireturn, 1) := by decide +kernel
theorem dX1_whole_9 : decode cX1_whole 9 = .ok (.aload_n 0, 1) := by decide +kernel
theorem dX1_whole_10 : decode cX1_whole 10 = .ok (.invokevirtual 46, 3) := by decide +kernel
theorem dX1_whole_13 : decode cX1_whole 13 = .ok (.aload_n 0, 1) := by decide +kernel
theorem dX1_whole_14 : decode cX1_whole 14 = .ok (.iload_n 1, 1) := by decide +kernel
theorem dX1_whole_15 : decode cX1_whole 15 = .ok (.iconst 0, 1) := by decide +kernel
theorem dX1_whole_16 : decode cX1_whole 16 = .ok (.aload_n 0, 1) := by decide +kernel
theorem dX1_whole_17 : decode cX1_whole 17 = .ok (.getfield 13, 3) := by decide +kernel
theorem dX1_whole_20 : decode cX1_whole 20 = .ok (.iload_n 1, 1) := by decide +kernel
theorem dX1_whole_21 : decode cX1_whole 21 = .ok (.iaload, 1) := by decide +kernel
theorem dX1_whole_22 : decode cX1_whole 22 = .ok (.invokevirtual 52, 3) := by decide +kernel
theorem dX1_whole_25 : decode cX1_whole 25 = .ok (.aload_n 0, 1) := by decide +kernel
theorem dX1_whole_26 : decode cX1_whole 26 = .ok (.invokevirtual 56, 3) := by decide +kernel
theorem dX1_whole_29 : decode cX1_whole 29 = .ok (.ireturn, 1) := by decide +kernel
abbrev cX1_within : ByteArray := prog_3_method_15_code
def yX1_within : MethodName := ⟨RX1, "within", "(I)I"⟩
theorem dX1_within_0 : decode cX1_within 0 = .ok (.iconst 0, 1) := by decide +kernel
theorem dX1_within_1 : decode cX1_within 1 = .ok (.istore_n 2, 1) := by decide +kernel
theorem dX1_within_2 : decode cX1_within 2 = .ok (.iconst 0, 1) := by decide +kernel
theorem dX1_within_3 : decode cX1_within 3 = .ok (.istore_n 3, 1) := by decide +kernel
theorem dX1_within_4 : decode cX1_within 4 = .ok (.iload_n 3, 1) := by decide +kernel
theorem dX1_within_5 : decode cX1_within 5 = .ok (.bipush 8, 2) := by decide +kernel
theorem dX1_within_7 : decode cX1_within 7 = .ok (.if_icmp .ge 21, 3) := by decide +kernel
theorem dX1_within_10 : decode cX1_within 10 = .ok (.aload_n 0, 1) := by decide +kernel
theorem dX1_within_11 : decode cX1_within 11 = .ok (.iload_n 3, 1) := by decide +kernel
theorem dX1_within_12 : decode cX1_within 12 = .ok (.invokevirtual 60, 3) := by decide +kernel
theorem dX1_within_15 : decode cX1_within 15 = .ok (.iload_n 1, 1) := by decide +kernel
theorem dX1_within_16 : decode cX1_within 16 = .ok (.if_icmp .gt 6, 3) := by decide +kernel
theorem dX1_within_19 : decode cX1_within 19 = .ok (.iinc 2 1, 3) := by decide +kernel
theorem dX1_within_22 : decode cX1_within 22 = .ok (.iinc 3 1, 3) := by decide +kernel
theorem dX1_within_25 : decode cX1_within 25 = .ok (.goto (-21), 3) := by decide +kernel
theorem dX1_within_28 : decode cX1_within 28 = .ok (.iload_n 2, 1) := by decide +kernel
theorem dX1_within_29 : decode cX1_within 29 = .ok (.ireturn, 1) := by decide +kernel
abbrev cX1_nearest : ByteArray := prog_3_method_16_code
def yX1_nearest : MethodName := ⟨RX1, "nearest", "()I"⟩
theorem dX1_nearest_0 : decode cX1_nearest 0 = .ok (.iconst 0, 1) := by decide +kernel
theorem dX1_nearest_1 : decode cX1_nearest 1 = .ok (.istore_n 1, 1) := by decide +kernel
theorem dX1_nearest_2 : decode cX1_nearest 2 = .ok (.bipush 100, 2) := by decide +kernel
theorem dX1_nearest_4 : decode cX1_nearest 4 = .ok (.istore_n 2, 1) := by decide +kernel
theorem dX1_nearest_5 : decode cX1_nearest 5 = .ok (.iconst 0, 1) := by decide +kernel
theorem dX1_nearest_6 : decode cX1_nearest 6 = .ok (.istore_n 3, 1) := by decide +kernel
theorem dX1_nearest_7 : decode cX1_nearest 7 = .ok (.iload_n 3, 1) := by decide +kernel
theorem dX1_nearest_8 : decode cX1_nearest 8 = .ok (.bipush 8, 2) := by decide +kernel
theorem dX1_nearest_10 : decode cX1_nearest 10 = .ok (.if_icmp .ge 27, 3) := by decide +kernel
theorem dX1_nearest_13 : decode cX1_nearest 13 = .ok (.aload_n 0, 1) := by decide +kernel
theorem dX1_nearest_14 : decode cX1_nearest 14 = .ok (.iload_n 3, 1) := by decide +kernel
theorem dX1_nearest_15 : decode cX1_nearest 15 = .ok (.invokevirtual 60, 3) := by decide +kernel
theorem dX1_nearest_18 : decode cX1_nearest 18 = .ok (.istore 4, 2) := by decide +kernel
theorem dX1_nearest_20 : decode cX1_nearest 20 = .ok (.iload 4, 2) := by decide +kernel
theorem dX1_nearest_22 : decode cX1_nearest 22 = .ok (.iload_n 2, 1) := by decide +kernel
theorem dX1_nearest_23 : decode cX1_nearest 23 = .ok (.if_icmp .ge 8, 3) := by decide +kernel
theorem dX1_nearest_26 : decode cX1_nearest 26 = .ok (.iload 4, 2) := by decide +kernel
theorem dX1_nearest_28 : decode cX1_nearest 28 = .ok (.istore_n 2, 1) := by decide +kernel
theorem dX1_nearest_29 : decode cX1_nearest 29 = .ok (.iload_n 3, 1) := by decide +kernel
theorem dX1_nearest_30 : decode cX1_nearest 30 = .ok (.istore_n 1, 1) := by decide +kernel
theorem dX1_nearest_31 : decode cX1_nearest 31 = .ok (.iinc 3 1, 3) := by decide +kernel
theorem dX1_nearest_34 : decode cX1_nearest 34 = .ok (.goto (-27), 3) := by decide +kernel
theorem dX1_nearest_37 : decode cX1_nearest 37 = .ok (.iload_n 1, 1) := by decide +kernel
theorem dX1_nearest_38 : decode cX1_nearest 38 = .ok (.ireturn, 1) := by decide +kernel
abbrev cX1_between : ByteArray := prog_3_method_17_code
def yX1_between : MethodName := ⟨RX1, "between", "(II)I"⟩
theorem dX1_between_0 : decode cX1_between 0 = .ok (.iload_n 1, 1) := by decide +kernel
theorem dX1_between_1 : decode cX1_between 1 = .ok (.invokestatic 28, 3) := by decide +kernel
theorem dX1_between_4 : decode cX1_between 4 = .ok (.ifCond .ne 10, 3) := by decide +kernel
theorem dX1_between_7 : decode cX1_between 7 = .ok (.iload_n 2, 1) := by decide +kernel
theorem dX1_between_8 : decode cX1_between 8 = .ok (.invokestatic 28, 3) := by decide +kernel
theorem dX1_between_11 : decode cX1_between 11 = .ok (.ifCond .eq 5, 3) := by decide +kernel
theorem dX1_between_14 : decode cX1_between 14 = .ok (.iconst (-1), 1) := by decide +kernel
theorem dX1_between_15 : decode cX1_between 15 = .ok (.ireturn, 1) := by decide +kernel
theorem dX1_between_16 : decode cX1_between 16 = .ok (.aload_n 0, 1) := by decide +kernel
theorem dX1_between_17 : decode cX1_between 17 = .ok (.aload_n 0, 1) := by decide +kernel
theorem dX1_between_18 : decode cX1_between 18 = .ok (.getfield 13, 3) := by decide +kernel
theorem dX1_between_21 : decode cX1_between 21 = .ok (.iload_n 1, 1) := by decide +kernel
theorem dX1_between_22 : decode cX1_between 22 = .ok (.iaload, 1) := by decide +kernel
theorem dX1_between_23 : decode cX1_between 23 = .ok (.putfield 36, 3) := by decide +kernel
theorem dX1_between_26 : decode cX1_between 26 = .ok (.iconst 0, 1) := by decide +kernel
theorem dX1_between_27 : decode cX1_between 27 = .ok (.istore_n 3, 1) := by decide +kernel
theorem dX1_between_28 : decode cX1_between 28 = .ok (.iload_n 3, 1) := by decide +kernel
theorem dX1_between_29 : decode cX1_between 29 = .ok (.aload_n 0, 1) := by decide +kernel
theorem dX1_between_30 : decode cX1_between 30 = .ok (.getfield 36, 3) := by decide +kernel
theorem dX1_between_33 : decode cX1_between 33 = .ok (.if_icmp .ge 26, 3) := by decide +kernel
theorem dX1_between_36 : decode cX1_between 36 = .ok (.aload_n 0, 1) := by decide +kernel
theorem dX1_between_37 : decode cX1_between 37 = .ok (.getfield 19, 3) := by decide +kernel
theorem dX1_between_40 : decode cX1_between 40 = .ok (.iload_n 3, 1) := by decide +kernel
theorem dX1_between_41 : decode cX1_between 41 = .ok (.aload_n 0, 1) := by decide +kernel
theorem dX1_between_42 : decode cX1_between 42 = .ok (.getfield 7, 3) := by decide +kernel
theorem dX1_between_45 : decode cX1_between 45 = .ok (.bipush 16, 2) := by decide +kernel
theorem dX1_between_47 : decode cX1_between 47 = .ok (.iload_n 1, 1) := by decide +kernel
theorem dX1_between_48 : decode cX1_between 48 = .ok (.imul, 1) := by decide +kernel
theorem dX1_between_49 : decode cX1_between 49 = .ok (.iload_n 3, 1) := by decide +kernel
theorem dX1_between_50 : decode cX1_between 50 = .ok (.iadd, 1) := by decide +kernel
theorem dX1_between_51 : decode cX1_between 51 = .ok (.iaload, 1) := by decide +kernel
theorem dX1_between_52 : decode cX1_between 52 = .ok (.iastore, 1) := by decide +kernel
theorem dX1_between_53 : decode cX1_between 53 = .ok (.iinc 3 1, 3) := by decide +kernel
theorem dX1_between_56 : decode cX1_between 56 = .ok (.goto (-28), 3) := by decide +kernel
theorem dX1_between_59 : decode cX1_between 59 = .ok (.aload_n 0, 1) := by decide +kernel
theorem dX1_between_60 : decode cX1_between 60 = .ok (.iload_n 2, 1) := by decide +kernel
theorem dX1_between_61 : decode cX1_between 61 = .ok (.iconst 0, 1) := by decide +kernel
theorem dX1_between_62 : decode cX1_between 62 = .ok (.aload_n 0, 1) := by decide +kernel
theorem dX1_between_63 : decode cX1_between 63 = .ok (.getfield 13, 3) := by decide +kernel
theorem dX1_between_66 : decode cX1_between 66 = .ok (.iload_n 2, 1) := by decide +kernel
theorem dX1_between_67 : decode cX1_between 67 = .ok (.iaload, 1) := by decide +kernel
theorem dX1_between_68 : decode cX1_between 68 = .ok (.invokevirtual 52, 3) := by decide +kernel
theorem dX1_between_71 : decode cX1_between 71 = .ok (.aload_n 0, 1) := by decide +kernel
theorem dX1_between_72 : decode cX1_between 72 = .ok (.invokevirtual 56, 3) := by decide +kernel
theorem dX1_between_75 : decode cX1_between 75 = .ok (.ireturn, 1) := by decide +kernel
abbrev cX1_pairs : ByteArray := prog_3_method_20_code
def yX1_pairs : MethodName := ⟨RX1, "pairs", "(I)I"⟩
theorem dX1_pairs_0 : decode cX1_pairs 0 = .ok (.iload_n 1, 1) := by decide +kernel
theorem dX1_pairs_1 : decode cX1_pairs 1 = .ok (.invokestatic 28, 3) := by decide +kernel
theorem dX1_pairs_4 : decode cX1_pairs 4 = .ok (.ifCond .eq 5, 3) := by decide +kernel
theorem dX1_pairs_7 : decode cX1_pairs 7 = .ok (.iconst (-1), 1) := by decide +kernel
theorem dX1_pairs_8 : decode cX1_pairs 8 = .ok (.ireturn, 1) := by decide +kernel
theorem dX1_pairs_9 : decode cX1_pairs 9 = .ok (.iconst 0, 1) := by decide +kernel
theorem dX1_pairs_10 : decode cX1_pairs 10 = .ok (.istore_n 2, 1) := by decide +kernel
theorem dX1_pairs_11 : decode cX1_pairs 11 = .ok (.iconst 0, 1) := by decide +kernel
theorem dX1_pairs_12 : decode cX1_pairs 12 = .ok (.istore_n 3, 1) := by decide +kernel
theorem dX1_pairs_13 : decode cX1_pairs 13 = .ok (.iload_n 3, 1) := by decide +kernel
theorem dX1_pairs_14 : decode cX1_pairs 14 = .ok (.bipush 16, 2) := by decide +kernel
theorem dX1_pairs_16 : decode cX1_pairs 16 = .ok (.if_icmp .ge 51, 3) := by decide +kernel
theorem dX1_pairs_19 : decode cX1_pairs 19 = .ok (.aload_n 0, 1) := by decide +kernel
theorem dX1_pairs_20 : decode cX1_pairs 20 = .ok (.iload_n 3, 1) := by decide +kernel
theorem dX1_pairs_21 : decode cX1_pairs 21 = .ok (.iconst 4, 1) := by decide +kernel
theorem dX1_pairs_22 : decode cX1_pairs 22 = .ok (.idiv, 1) := by decide +kernel
theorem dX1_pairs_23 : decode cX1_pairs 23 = .ok (.iload_n 3, 1) := by decide +kernel
theorem dX1_pairs_24 : decode cX1_pairs 24 = .ok (.iconst 4, 1) := by decide +kernel
theorem dX1_pairs_25 : decode cX1_pairs 25 = .ok (.irem, 1) := by decide +kernel
theorem dX1_pairs_26 : decode cX1_pairs 26 = .ok (.invokevirtual 64, 3) := by decide +kernel
theorem dX1_pairs_29 : decode cX1_pairs 29 = .ok (.istore 4, 2) := by decide +kernel
theorem dX1_pairs_31 : decode cX1_pairs 31 = .ok (.aload_n 0, 1) := by decide +kernel
theorem dX1_pairs_32 : decode cX1_pairs 32 = .ok (.iload_n 1, 1) := by decide +kernel
theorem dX1_pairs_33 : decode cX1_pairs 33 = .ok (.iload_n 3, 1) := by decide +kernel
theorem dX1_pairs_34 : decode cX1_pairs 34 = .ok (.iconst 4, 1) := by decide +kernel
theorem dX1_pairs_35 : decode cX1_pairs 35 = .ok (.idiv, 1) := by decide +kernel
theorem dX1_pairs_36 : decode cX1_pairs 36 = .ok (.iload_n 3, 1) := by decide +kernel
theorem dX1_pairs_37 : decode cX1_pairs 37 = .ok (.iconst 4, 1) := by decide +kernel
theorem dX1_pairs_38 : decode cX1_pairs 38 = .ok (.irem, 1) := by decide +kernel
theorem dX1_pairs_39 : decode cX1_pairs 39 = .ok (.invokevirtual 67, 3) := by decide +kernel
theorem dX1_pairs_42 : decode cX1_pairs 42 = .ok (.istore 5, 2) := by decide +kernel
theorem dX1_pairs_44 : decode cX1_pairs 44 = .ok (.iload_n 2, 1) := by decide +kernel
theorem dX1_pairs_45 : decode cX1_pairs 45 = .ok (.iload 4, 2) := by decide +kernel
theorem dX1_pairs_47 : decode cX1_pairs 47 = .ok (.iload 5, 2) := by decide +kernel
theorem dX1_pairs_49 : decode cX1_pairs 49 = .ok (.if_icmp .ge 8, 3) := by decide +kernel
theorem dX1_pairs_52 : decode cX1_pairs 52 = .ok (.iload 4, 2) := by decide +kernel
theorem dX1_pairs_54 : decode cX1_pairs 54 = .ok (.goto 5, 3) := by decide +kernel
theorem dX1_pairs_57 : decode cX1_pairs 57 = .ok (.iload 5, 2) := by decide +kernel
theorem dX1_pairs_59 : decode cX1_pairs 59 = .ok (.iadd, 1) := by decide +kernel
theorem dX1_pairs_60 : decode cX1_pairs 60 = .ok (.istore_n 2, 1) := by decide +kernel
theorem dX1_pairs_61 : decode cX1_pairs 61 = .ok (.iinc 3 1, 3) := by decide +kernel
theorem dX1_pairs_64 : decode cX1_pairs 64 = .ok (.goto (-51), 3) := by decide +kernel
theorem dX1_pairs_67 : decode cX1_pairs 67 = .ok (.iload_n 2, 1) := by decide +kernel
theorem dX1_pairs_68 : decode cX1_pairs 68 = .ok (.ireturn, 1) := by decide +kernel
abbrev cX1_inQuery : ByteArray := prog_3_method_19_code
def yX1_inQuery : MethodName := ⟨RX1, "inQuery", "(II)I"⟩
theorem dX1_inQuery_0 : decode cX1_inQuery 0 = .ok (.iconst 0, 1) := by decide +kernel
theorem dX1_inQuery_1 : decode cX1_inQuery 1 = .ok (.istore_n 3, 1) := by decide +kernel
theorem dX1_inQuery_2 : decode cX1_inQuery 2 = .ok (.iconst 0, 1) := by decide +kernel
theorem dX1_inQuery_3 : decode cX1_inQuery 3 = .ok (.istore 4, 2) := by decide +kernel
theorem dX1_inQuery_5 : decode cX1_inQuery 5 = .ok (.iload 4, 2) := by decide +kernel
theorem dX1_inQuery_7 : decode cX1_inQuery 7 = .ok (.iconst 1, 1) := by decide +kernel
theorem dX1_inQuery_8 : decode cX1_inQuery 8 = .ok (.iadd, 1) := by decide +kernel
theorem dX1_inQuery_9 : decode cX1_inQuery 9 = .ok (.aload_n 0, 1) := by decide +kernel
theorem dX1_inQuery_10 : decode cX1_inQuery 10 = .ok (.getfield 32, 3) := by decide +kernel
theorem dX1_inQuery_13 : decode cX1_inQuery 13 = .ok (.if_icmp .ge 36, 3) := by decide +kernel
theorem dX1_inQuery_16 : decode cX1_inQuery 16 = .ok (.aload_n 0, 1) := by decide +kernel
theorem dX1_inQuery_17 : decode cX1_inQuery 17 = .ok (.getfield 16, 3) := by decide +kernel
theorem dX1_inQuery_20 : decode cX1_inQuery 20 = .ok (.iload 4, 2) := by decide +kernel
theorem dX1_inQuery_22 : decode cX1_inQuery 22 = .ok (.iaload, 1) := by decide +kernel
theorem dX1_inQuery_23 : decode cX1_inQuery 23 = .ok (.iload_n 1, 1) := by decide +kernel
theorem dX1_inQuery_24 : decode cX1_inQuery 24 = .ok (.if_icmp .ne 19, 3) := by decide +kernel
theorem dX1_inQuery_27 : decode cX1_inQuery 27 = .ok (.aload_n 0, 1) := by decide +kernel
theorem dX1_inQuery_28 : decode cX1_inQuery 28 = .ok (.getfield 16, 3) := by decide +kernel
theorem dX1_inQuery_31 : decode cX1_inQuery 31 = .ok (.iload 4, 2) := by decide +kernel
theorem dX1_inQuery_33 : decode cX1_inQuery 33 = .ok (.iconst 1, 1) := by decide +kernel
theorem dX1_inQuery_34 : decode cX1_inQuery 34 = .ok (.iadd, 1) := by decide +kernel
theorem dX1_inQuery_35 : decode cX1_inQuery 35 = .ok (.iaload, 1) := by decide +kernel
theorem dX1_inQuery_36 : decode cX1_inQuery 36 = .ok (.iload_n 2, 1) := by decide +kernel
theorem dX1_inQuery_37 : decode cX1_inQuery 37 = .ok (.if_icmp .ne 6, 3) := by decide +kernel
theorem dX1_inQuery_40 : decode cX1_inQuery 40 = .ok (.iinc 3 1, 3) := by decide +kernel
theorem dX1_inQuery_43 : decode cX1_inQuery 43 = .ok (.iinc 4 1, 3) := by decide +kernel
theorem dX1_inQuery_46 : decode cX1_inQuery 46 = .ok (.goto (-41), 3) := by decide +kernel
theorem dX1_inQuery_49 : decode cX1_inQuery 49 = .ok (.iload_n 3, 1) := by decide +kernel
theorem dX1_inQuery_50 : decode cX1_inQuery 50 = .ok (.ireturn, 1) := by decide +kernel
abbrev cX1_inDoc : ByteArray := prog_3_method_18_code
def yX1_inDoc : MethodName := ⟨RX1, "inDoc", "(III)I"⟩
theorem dX1_inDoc_0 : decode cX1_inDoc 0 = .ok (.iconst 0, 1) := by decide +kernel
theorem dX1_inDoc_1 : decode cX1_inDoc 1 = .ok (.istore 4, 2) := by decide +kernel
theorem dX1_inDoc_3 : decode cX1_inDoc 3 = .ok (.iconst 0, 1) := by decide +kernel
theorem dX1_inDoc_4 : decode cX1_inDoc 4 = .ok (.istore 5, 2) := by decide +kernel
theorem dX1_inDoc_6 : decode cX1_inDoc 6 = .ok (.iload 5, 2) := by decide +kernel
theorem dX1_inDoc_8 : decode cX1_inDoc 8 = .ok (.iconst 1, 1) := by decide +kernel
theorem dX1_inDoc_9 : decode cX1_inDoc 9 = .ok (.iadd, 1) := by decide +kernel
theorem dX1_inDoc_10 : decode cX1_inDoc 10 = .ok (.aload_n 0, 1) := by decide +kernel
theorem dX1_inDoc_11 : decode cX1_inDoc 11 = .ok (.getfield 13, 3) := by decide +kernel
theorem dX1_inDoc_14 : decode cX1_inDoc 14 = .ok (.iload_n 1, 1) := by decide +kernel
theorem dX1_inDoc_15 : decode cX1_inDoc 15 = .ok (.iaload, 1) := by decide +kernel
theorem dX1_inDoc_16 : decode cX1_inDoc 16 = .ok (.if_icmp .ge 46, 3) := by decide +kernel
theorem dX1_inDoc_19 : decode cX1_inDoc 19 = .ok (.aload_n 0, 1) := by decide +kernel
theorem dX1_inDoc_20 : decode cX1_inDoc 20 = .ok (.getfield 7, 3) := by decide +kernel
theorem dX1_inDoc_23 : decode cX1_inDoc 23 = .ok (.bipush 16, 2) := by decide +kernel
theorem dX1_inDoc_25 : decode cX1_inDoc 25 = .ok (.iload_n 1, 1) := by decide +kernel
theorem dX1_inDoc_26 : decode cX1_inDoc 26 = .ok (.imul, 1) := by decide +kernel
theorem dX1_inDoc_27 : decode cX1_inDoc 27 = .ok (.iload 5, 2) := by decide +kernel
theorem dX1_inDoc_29 : decode cX1_inDoc 29 = .ok (.iadd, 1) := by decide +kernel
theorem dX1_inDoc_30 : decode cX1_inDoc 30 = .ok (.iaload, 1) := by decide +kernel
theorem dX1_inDoc_31 : decode cX1_inDoc 31 = .ok (.iload_n 2, 1) := by decide +kernel
theorem dX1_inDoc_32 : decode cX1_inDoc 32 = .ok (.if_icmp .ne 24, 3) := by decide +kernel
theorem dX1_inDoc_35 : decode cX1_inDoc 35 = .ok (.aload_n 0, 1) := by decide +kernel
theorem dX1_inDoc_36 : decode cX1_inDoc 36 = .ok (.getfield 7, 3) := by decide +kernel
theorem dX1_inDoc_39 : decode cX1_inDoc 39 = .ok (.bipush 16, 2) := by decide +kernel
theorem dX1_inDoc_41 : decode cX1_inDoc 41 = .ok (.iload_n 1, 1) := by decide +kernel
theorem dX1_inDoc_42 : decode cX1_inDoc 42 = .ok (.imul, 1) := by decide +kernel
theorem dX1_inDoc_43 : decode cX1_inDoc 43 = .ok (.iload 5, 2) := by decide +kernel
theorem dX1_inDoc_45 : decode cX1_inDoc 45 = .ok (.iadd, 1) := by decide +kernel
theorem dX1_inDoc_46 : decode cX1_inDoc 46 = .ok (.iconst 1, 1) := by decide +kernel
theorem dX1_inDoc_47 : decode cX1_inDoc 47 = .ok (.iadd, 1) := by decide +kernel
theorem dX1_inDoc_48 : decode cX1_inDoc 48 = .ok (.iaload, 1) := by decide +kernel
theorem dX1_inDoc_49 : decode cX1_inDoc 49 = .ok (.iload_n 3, 1) := by decide +kernel
theorem dX1_inDoc_50 : decode cX1_inDoc 50 = .ok (.if_icmp .ne 6, 3) := by decide +kernel
theorem dX1_inDoc_53 : decode cX1_inDoc 53 = .ok (.iinc 4 1, 3) := by decide +kernel
theorem dX1_inDoc_56 : decode cX1_inDoc 56 = .ok (.iinc 5 1, 3) := by decide +kernel
theorem dX1_inDoc_59 : decode cX1_inDoc 59 = .ok (.goto (-53), 3) := by decide +kernel
theorem dX1_inDoc_62 : decode cX1_inDoc 62 = .ok (.iload 4, 2) := by decide +kernel
theorem dX1_inDoc_64 : decode cX1_inDoc 64 = .ok (.ireturn, 1) := by decide +kernel
theorem q16 : (Jvm.Cond.initialized "NearDocsModel") ∈ lw_all := lw_g (lw_at lw_m1 2 rfl) rfl
theorem q148 : (Jvm.Cond.instantiable "NearDocsModel" (10 : Nat)) ∈ lw_all := lw_g (lw_at lw_m1 134 rfl) rfl
theorem q150 : (Jvm.Cond.instanceMethod ({ cls := "NearDocsModel", name := "<init>", desc := "()V" } : Jvm.MethodName)) ∈ lw_all := lw_g (lw_at lw_m1 136 rfl) rfl
theorem q151 : (Jvm.Cond.code ({ cls := "NearDocsModel", name := "<init>", desc := "()V" } : Jvm.MethodName) prog_3_method_1_code (1 : Nat) (Option.none : Option Jvm.ClassFile.FieldType)) ∈ lw_all := lw_g (lw_at lw_m1 137 rfl) rfl
theorem q152 : (Jvm.Cond.methodLink "NearDocsModel" (1 : Nat) ({ cls := "java/lang/Object", name := "<init>", desc := "()V" } : Jvm.MethodName)) ∈ lw_all := lw_g (lw_at lw_m1 138 rfl) rfl
theorem q153 : (Jvm.Cond.fieldLink "NearDocsModel" (7 : Nat) "NearDocsModel" "letters" "[I") ∈ lw_all := lw_g (lw_at lw_m1 139 rfl) rfl
theorem q154 : (Jvm.Cond.fieldLink "NearDocsModel" (13 : Nat) "NearDocsModel" "length" "[I") ∈ lw_all := lw_g (lw_at lw_m1 140 rfl) rfl
theorem q155 : (Jvm.Cond.fieldLink "NearDocsModel" (16 : Nat) "NearDocsModel" "query" "[I") ∈ lw_all := lw_g (lw_at lw_m1 141 rfl) rfl
theorem q156 : (Jvm.Cond.fieldLink "NearDocsModel" (32 : Nat) "NearDocsModel" "typed" "I") ∈ lw_all := lw_g (lw_at lw_m1 142 rfl) rfl
theorem q157 : (Jvm.Cond.fieldLink "NearDocsModel" (19 : Nat) "NearDocsModel" "left" "[I") ∈ lw_all := lw_g (lw_at lw_m1 143 rfl) rfl
theorem q158 : (Jvm.Cond.fieldLink "NearDocsModel" (36 : Nat) "NearDocsModel" "lefts" "I") ∈ lw_all := lw_g (lw_at lw_m1 144 rfl) rfl
theorem q159 : (Jvm.Cond.fieldLink "NearDocsModel" (22 : Nat) "NearDocsModel" "right" "[I") ∈ lw_all := lw_g (lw_at lw_m1 145 rfl) rfl
theorem q160 : (Jvm.Cond.fieldLink "NearDocsModel" (39 : Nat) "NearDocsModel" "rights" "I") ∈ lw_all := lw_g (lw_at lw_m1 146 rfl) rfl
theorem q161 : (Jvm.Cond.fieldLink "NearDocsModel" (25 : Nat) "NearDocsModel" "table" "[I") ∈ lw_all := lw_g (lw_at lw_m1 147 rfl) rfl
theorem q162 : (Jvm.Cond.fieldLink "NearDocsModel" (49 : Nat) "NearDocsModel" "foundEnd" "I") ∈ lw_all := lw_g (lw_at lw_m1 148 rfl) rfl
theorem q163 : (Jvm.Cond.laysFinal "NearDocsModel" "NearDocsModel" "letters" "[I") ∈ lw_all := lw_g (lw_at lw_m1 149 rfl) rfl
theorem q164 : (Jvm.Cond.soleField "NearDocsModel" "letters") ∈ lw_all := lw_g (lw_at lw_m1 150 rfl) rfl
theorem q165 : (Jvm.Cond.laysFinal "NearDocsModel" "NearDocsModel" "length" "[I") ∈ lw_all := lw_g (lw_at lw_m1 151 rfl) rfl
theorem q166 : (Jvm.Cond.soleField "NearDocsModel" "length") ∈ lw_all := lw_g (lw_at lw_m1 152 rfl) rfl
theorem q167 : (Jvm.Cond.laysFinal "NearDocsModel" "NearDocsModel" "query" "[I") ∈ lw_all := lw_g (lw_at lw_m1 153 rfl) rfl
theorem q168 : (Jvm.Cond.soleField "NearDocsModel" "query") ∈ lw_all := lw_g (lw_at lw_m1 154 rfl) rfl
theorem q169 : (Jvm.Cond.lays "NearDocsModel" "NearDocsModel" "typed" "I") ∈ lw_all := lw_g (lw_at lw_m1 155 rfl) rfl
theorem q170 : (Jvm.Cond.soleField "NearDocsModel" "typed") ∈ lw_all := lw_g (lw_at lw_m1 156 rfl) rfl
theorem q171 : (Jvm.Cond.laysFinal "NearDocsModel" "NearDocsModel" "left" "[I") ∈ lw_all := lw_g (lw_at lw_m1 157 rfl) rfl
theorem q172 : (Jvm.Cond.soleField "NearDocsModel" "left") ∈ lw_all := lw_g (lw_at lw_m1 158 rfl) rfl
theorem q173 : (Jvm.Cond.lays "NearDocsModel" "NearDocsModel" "lefts" "I") ∈ lw_all := lw_g (lw_at lw_m1 159 rfl) rfl
theorem q174 : (Jvm.Cond.soleField "NearDocsModel" "lefts") ∈ lw_all := lw_g (lw_at lw_m1 160 rfl) rfl
theorem q175 : (Jvm.Cond.laysFinal "NearDocsModel" "NearDocsModel" "right" "[I") ∈ lw_all := lw_g (lw_at lw_m1 161 rfl) rfl
theorem q176 : (Jvm.Cond.soleField "NearDocsModel" "right") ∈ lw_all := lw_g (lw_at lw_m1 162 rfl) rfl
theorem q177 : (Jvm.Cond.lays "NearDocsModel" "NearDocsModel" "rights" "I") ∈ lw_all := lw_g (lw_at lw_m1 163 rfl) rfl
theorem q178 : (Jvm.Cond.soleField "NearDocsModel" "rights") ∈ lw_all := lw_g (lw_at lw_m1 164 rfl) rfl
theorem q179 : (Jvm.Cond.laysFinal "NearDocsModel" "NearDocsModel" "table" "[I") ∈ lw_all := lw_g (lw_at lw_m1 165 rfl) rfl
theorem q180 : (Jvm.Cond.soleField "NearDocsModel" "table") ∈ lw_all := lw_g (lw_at lw_m1 166 rfl) rfl
theorem q181 : (Jvm.Cond.lays "NearDocsModel" "NearDocsModel" "foundEnd" "I") ∈ lw_all := lw_g (lw_at lw_m1 167 rfl) rfl
theorem q182 : (Jvm.Cond.soleField "NearDocsModel" "foundEnd") ∈ lw_all := lw_g (lw_at lw_m1 168 rfl) rfl
theorem q183 : (Jvm.Cond.superclass "NearDocsModel" "java/lang/Object") ∈ lw_all := lw_g (lw_at lw_m1 169 rfl) rfl
theorem q185 : (Jvm.Cond.instanceMethod ({ cls := "NearDocsModel", name := "write", desc := "(II)I" } : Jvm.MethodName)) ∈ lw_all := lw_g (lw_at lw_m1 171 rfl) rfl
theorem q186 : (Jvm.Cond.selects "NearDocsModel" ({ cls := "NearDocsModel", name := "write", desc := "(II)I" } : Jvm.MethodName) ({ cls := "NearDocsModel", name := "write", desc := "(II)I" } : Jvm.MethodName)) ∈ lw_all := lw_g (lw_at lw_m1 172 rfl) rfl
theorem q187 : (Jvm.Cond.code ({ cls := "NearDocsModel", name := "write", desc := "(II)I" } : Jvm.MethodName) prog_3_method_3_code (3 : Nat) (Option.some Jvm.ClassFile.FieldType.int)) ∈ lw_all := lw_g (lw_at lw_m1 173 rfl) rfl
theorem q188 : (Jvm.Cond.methodLink "NearDocsModel" (28 : Nat) ({ cls := "NearDocsModel", name := "bad", desc := "(I)Z" } : Jvm.MethodName)) ∈ lw_all := lw_g (lw_at lw_m1 174 rfl) rfl
theorem q189 : (Jvm.Cond.static ({ cls := "NearDocsModel", name := "bad", desc := "(I)Z" } : Jvm.MethodName)) ∈ lw_all := lw_g (lw_at lw_m1 175 rfl) rfl
theorem q190 : (Jvm.Cond.code ({ cls := "NearDocsModel", name := "bad", desc := "(I)Z" } : Jvm.MethodName) prog_3_method_2_code (1 : Nat) (Option.some Jvm.ClassFile.FieldType.boolean)) ∈ lw_all := lw_g (lw_at lw_m1 176 rfl) rfl
theorem q192 : (Jvm.Cond.instanceMethod ({ cls := "NearDocsModel", name := "wipe", desc := "(I)I" } : Jvm.MethodName)) ∈ lw_all := lw_g (lw_at lw_m1 178 rfl) rfl
theorem q193 : (Jvm.Cond.selects "NearDocsModel" ({ cls := "NearDocsModel", name := "wipe", desc := "(I)I" } : Jvm.MethodName) ({ cls := "NearDocsModel", name := "wipe", desc := "(I)I" } : Jvm.MethodName)) ∈ lw_all := lw_g (lw_at lw_m1 179 rfl) rfl
theorem q194 : (Jvm.Cond.code ({ cls := "NearDocsModel", name := "wipe", desc := "(I)I" } : Jvm.MethodName) prog_3_method_4_code (3 : Nat) (Option.some Jvm.ClassFile.FieldType.int)) ∈ lw_all := lw_g (lw_at lw_m1 180 rfl) rfl
theorem q196 : (Jvm.Cond.instanceMethod ({ cls := "NearDocsModel", name := "type", desc := "(I)I" } : Jvm.MethodName)) ∈ lw_all := lw_g (lw_at lw_m1 182 rfl) rfl
theorem q197 : (Jvm.Cond.selects "NearDocsModel" ({ cls := "NearDocsModel", name := "type", desc := "(I)I" } : Jvm.MethodName) ({ cls := "NearDocsModel", name := "type", desc := "(I)I" } : Jvm.MethodName)) ∈ lw_all := lw_g (lw_at lw_m1 183 rfl) rfl
theorem q198 : (Jvm.Cond.code ({ cls := "NearDocsModel", name := "type", desc := "(I)I" } : Jvm.MethodName) prog_3_method_5_code (2 : Nat) (Option.some Jvm.ClassFile.FieldType.int)) ∈ lw_all := lw_g (lw_at lw_m1 184 rfl) rfl
theorem q200 : (Jvm.Cond.instanceMethod ({ cls := "NearDocsModel", name := "clear", desc := "()V" } : Jvm.MethodName)) ∈ lw_all := lw_g (lw_at lw_m1 186 rfl) rfl
theorem q201 : (Jvm.Cond.selects "NearDocsModel" ({ cls := "NearDocsModel", name := "clear", desc := "()V" } : Jvm.MethodName) ({ cls := "NearDocsModel", name := "clear", desc := "()V" } : Jvm.MethodName)) ∈ lw_all := lw_g (lw_at lw_m1 187 rfl) rfl
theorem q202 : (Jvm.Cond.code ({ cls := "NearDocsModel", name := "clear", desc := "()V" } : Jvm.MethodName) prog_3_method_6_code (1 : Nat) (Option.none : Option Jvm.ClassFile.FieldType)) ∈ lw_all := lw_g (lw_at lw_m1 188 rfl) rfl
theorem q204 : (Jvm.Cond.instanceMethod ({ cls := "NearDocsModel", name := "distance", desc := "(I)I" } : Jvm.MethodName)) ∈ lw_all := lw_g (lw_at lw_m1 190 rfl) rfl
theorem q205 : (Jvm.Cond.selects "NearDocsModel" ({ cls := "NearDocsModel", name := "distance", desc := "(I)I" } : Jvm.MethodName) ({ cls := "NearDocsModel", name := "distance", desc := "(I)I" } : Jvm.MethodName)) ∈ lw_all := lw_g (lw_at lw_m1 191 rfl) rfl
theorem q206 : (Jvm.Cond.code ({ cls := "NearDocsModel", name := "distance", desc := "(I)I" } : Jvm.MethodName) prog_3_method_12_code (2 : Nat) (Option.some Jvm.ClassFile.FieldType.int)) ∈ lw_all := lw_g (lw_at lw_m1 192 rfl) rfl
theorem q207 : (Jvm.Cond.methodLink "NearDocsModel" (60 : Nat) ({ cls := "NearDocsModel", name := "search", desc := "(I)I" } : Jvm.MethodName)) ∈ lw_all := lw_g (lw_at lw_m1 193 rfl) rfl
theorem q208 : (Jvm.Cond.privateMethod ({ cls := "NearDocsModel", name := "search", desc := "(I)I" } : Jvm.MethodName)) ∈ lw_tbl := lw_at lw_m1 194 rfl
theorem q209 : (Jvm.Cond.instanceMethod ({ cls := "NearDocsModel", name := "search", desc := "(I)I" } : Jvm.MethodName)) ∈ lw_all := lw_g (lw_at lw_m1 195 rfl) rfl
theorem q210 : (Jvm.Cond.code ({ cls := "NearDocsModel", name := "search", desc := "(I)I" } : Jvm.MethodName) prog_3_method_11_code (6 : Nat) (Option.some Jvm.ClassFile.FieldType.int)) ∈ lw_all := lw_g (lw_at lw_m1 196 rfl) rfl
theorem q211 : (Jvm.Cond.methodLink "NearDocsModel" (46 : Nat) ({ cls := "NearDocsModel", name := "layQuery", desc := "()V" } : Jvm.MethodName)) ∈ lw_all := lw_g (lw_at lw_m1 197 rfl) rfl
theorem q212 : (Jvm.Cond.privateMethod ({ cls := "NearDocsModel", name := "layQuery", desc := "()V" } : Jvm.MethodName)) ∈ lw_tbl := lw_at lw_m1 198 rfl
theorem q213 : (Jvm.Cond.instanceMethod ({ cls := "NearDocsModel", name := "layQuery", desc := "()V" } : Jvm.MethodName)) ∈ lw_all := lw_g (lw_at lw_m1 199 rfl) rfl
theorem q214 : (Jvm.Cond.code ({ cls := "NearDocsModel", name := "layQuery", desc := "()V" } : Jvm.MethodName) prog_3_method_9_code (2 : Nat) (Option.none : Option Jvm.ClassFile.FieldType)) ∈ lw_all := lw_g (lw_at lw_m1 200 rfl) rfl
theorem q215 : (Jvm.Cond.methodLink "NearDocsModel" (52 : Nat) ({ cls := "NearDocsModel", name := "layPart", desc := "(III)V" } : Jvm.MethodName)) ∈ lw_all := lw_g (lw_at lw_m1 201 rfl) rfl
theorem q216 : (Jvm.Cond.privateMethod ({ cls := "NearDocsModel", name := "layPart", desc := "(III)V" } : Jvm.MethodName)) ∈ lw_tbl := lw_at lw_m1 202 rfl
theorem q217 : (Jvm.Cond.instanceMethod ({ cls := "NearDocsModel", name := "layPart", desc := "(III)V" } : Jvm.MethodName)) ∈ lw_all := lw_g (lw_at lw_m1 203 rfl) rfl
theorem q218 : (Jvm.Cond.code ({ cls := "NearDocsModel", name := "layPart", desc := "(III)V" } : Jvm.MethodName) prog_3_method_10_code (5 : Nat) (Option.none : Option Jvm.ClassFile.FieldType)) ∈ lw_all := lw_g (lw_at lw_m1 204 rfl) rfl
theorem q219 : (Jvm.Cond.methodLink "NearDocsModel" (56 : Nat) ({ cls := "NearDocsModel", name := "compared", desc := "()I" } : Jvm.MethodName)) ∈ lw_all := lw_g (lw_at lw_m1 205 rfl) rfl
theorem q220 : (Jvm.Cond.privateMethod ({ cls := "NearDocsModel", name := "compared", desc := "()I" } : Jvm.MethodName)) ∈ lw_tbl := lw_at lw_m1 206 rfl
theorem q221 : (Jvm.Cond.instanceMethod ({ cls := "NearDocsModel", name := "compared", desc := "()I" } : Jvm.MethodName)) ∈ lw_all := lw_g (lw_at lw_m1 207 rfl) rfl
theorem q222 : (Jvm.Cond.code ({ cls := "NearDocsModel", name := "compared", desc := "()I" } : Jvm.MethodName) prog_3_method_8_code (3 : Nat) (Option.some Jvm.ClassFile.FieldType.int)) ∈ lw_all := lw_g (lw_at lw_m1 208 rfl) rfl
theorem q223 : (Jvm.Cond.methodLink "NearDocsModel" (42 : Nat) ({ cls := "NearDocsModel", name := "cell", desc := "(II)I" } : Jvm.MethodName)) ∈ lw_all := lw_g (lw_at lw_m1 209 rfl) rfl
theorem q224 : (Jvm.Cond.privateMethod ({ cls := "NearDocsModel", name := "cell", desc := "(II)I" } : Jvm.MethodName)) ∈ lw_tbl := lw_at lw_m1 210 rfl
theorem q225 : (Jvm.Cond.instanceMethod ({ cls := "NearDocsModel", name := "cell", desc := "(II)I" } : Jvm.MethodName)) ∈ lw_all := lw_g (lw_at lw_m1 211 rfl) rfl
theorem q226 : (Jvm.Cond.code ({ cls := "NearDocsModel", name := "cell", desc := "(II)I" } : Jvm.MethodName) prog_3_method_7_code (7 : Nat) (Option.some Jvm.ClassFile.FieldType.int)) ∈ lw_all := lw_g (lw_at lw_m1 212 rfl) rfl
theorem q228 : (Jvm.Cond.instanceMethod ({ cls := "NearDocsModel", name := "end", desc := "(I)I" } : Jvm.MethodName)) ∈ lw_all := lw_g (lw_at lw_m1 214 rfl) rfl
theorem q229 : (Jvm.Cond.selects "NearDocsModel" ({ cls := "NearDocsModel", name := "end", desc := "(I)I" } : Jvm.MethodName) ({ cls := "NearDocsModel", name := "end", desc := "(I)I" } : Jvm.MethodName)) ∈ lw_all := lw_g (lw_at lw_m1 215 rfl) rfl
theorem q230 : (Jvm.Cond.code ({ cls := "NearDocsModel", name := "end", desc := "(I)I" } : Jvm.MethodName) prog_3_method_13_code (2 : Nat) (Option.some Jvm.ClassFile.FieldType.int)) ∈ lw_all := lw_g (lw_at lw_m1 216 rfl) rfl
theorem q232 : (Jvm.Cond.instanceMethod ({ cls := "NearDocsModel", name := "whole", desc := "(I)I" } : Jvm.MethodName)) ∈ lw_all := lw_g (lw_at lw_m1 218 rfl) rfl
theorem q233 : (Jvm.Cond.selects "NearDocsModel" ({ cls := "NearDocsModel", name := "whole", desc := "(I)I" } : Jvm.MethodName) ({ cls := "NearDocsModel", name := "whole", desc := "(I)I" } : Jvm.MethodName)) ∈ lw_all := lw_g (lw_at lw_m1 219 rfl) rfl
theorem q234 : (Jvm.Cond.code ({ cls := "NearDocsModel", name := "whole", desc := "(I)I" } : Jvm.MethodName) prog_3_method_14_code (2 : Nat) (Option.some Jvm.ClassFile.FieldType.int)) ∈ lw_all := lw_g (lw_at lw_m1 220 rfl) rfl
theorem q236 : (Jvm.Cond.instanceMethod ({ cls := "NearDocsModel", name := "within", desc := "(I)I" } : Jvm.MethodName)) ∈ lw_all := lw_g (lw_at lw_m1 222 rfl) rfl
theorem q237 : (Jvm.Cond.selects "NearDocsModel" ({ cls := "NearDocsModel", name := "within", desc := "(I)I" } : Jvm.MethodName) ({ cls := "NearDocsModel", name := "within", desc := "(I)I" } : Jvm.MethodName)) ∈ lw_all := lw_g (lw_at lw_m1 223 rfl) rfl
theorem q238 : (Jvm.Cond.code ({ cls := "NearDocsModel", name := "within", desc := "(I)I" } : Jvm.MethodName) prog_3_method_15_code (4 : Nat) (Option.some Jvm.ClassFile.FieldType.int)) ∈ lw_all := lw_g (lw_at lw_m1 224 rfl) rfl
theorem q240 : (Jvm.Cond.instanceMethod ({ cls := "NearDocsModel", name := "nearest", desc := "()I" } : Jvm.MethodName)) ∈ lw_all := lw_g (lw_at lw_m1 226 rfl) rfl
theorem q241 : (Jvm.Cond.selects "NearDocsModel" ({ cls := "NearDocsModel", name := "nearest", desc := "()I" } : Jvm.MethodName) ({ cls := "NearDocsModel", name := "nearest", desc := "()I" } : Jvm.MethodName)) ∈ lw_all := lw_g (lw_at lw_m1 227 rfl) rfl
theorem q242 : (Jvm.Cond.code ({ cls := "NearDocsModel", name := "nearest", desc := "()I" } : Jvm.MethodName) prog_3_method_16_code (5 : Nat) (Option.some Jvm.ClassFile.FieldType.int)) ∈ lw_all := lw_g (lw_at lw_m1 228 rfl) rfl
theorem q244 : (Jvm.Cond.instanceMethod ({ cls := "NearDocsModel", name := "between", desc := "(II)I" } : Jvm.MethodName)) ∈ lw_all := lw_g (lw_at lw_m1 230 rfl) rfl
theorem q245 : (Jvm.Cond.selects "NearDocsModel" ({ cls := "NearDocsModel", name := "between", desc := "(II)I" } : Jvm.MethodName) ({ cls := "NearDocsModel", name := "between", desc := "(II)I" } : Jvm.MethodName)) ∈ lw_all := lw_g (lw_at lw_m1 231 rfl) rfl
theorem q246 : (Jvm.Cond.code ({ cls := "NearDocsModel", name := "between", desc := "(II)I" } : Jvm.MethodName) prog_3_method_17_code (4 : Nat) (Option.some Jvm.ClassFile.FieldType.int)) ∈ lw_all := lw_g (lw_at lw_m1 232 rfl) rfl
theorem q248 : (Jvm.Cond.instanceMethod ({ cls := "NearDocsModel", name := "pairs", desc := "(I)I" } : Jvm.MethodName)) ∈ lw_all := lw_g (lw_at lw_m1 234 rfl) rfl
theorem q249 : (Jvm.Cond.selects "NearDocsModel" ({ cls := "NearDocsModel", name := "pairs", desc := "(I)I" } : Jvm.MethodName) ({ cls := "NearDocsModel", name := "pairs", desc := "(I)I" } : Jvm.MethodName)) ∈ lw_all := lw_g (lw_at lw_m1 235 rfl) rfl
theorem q250 : (Jvm.Cond.code ({ cls := "NearDocsModel", name := "pairs", desc := "(I)I" } : Jvm.MethodName) prog_3_method_20_code (6 : Nat) (Option.some Jvm.ClassFile.FieldType.int)) ∈ lw_all := lw_g (lw_at lw_m1 236 rfl) rfl
theorem q251 : (Jvm.Cond.methodLink "NearDocsModel" (64 : Nat) ({ cls := "NearDocsModel", name := "inQuery", desc := "(II)I" } : Jvm.MethodName)) ∈ lw_all := lw_g (lw_at lw_m1 237 rfl) rfl
theorem q252 : (Jvm.Cond.privateMethod ({ cls := "NearDocsModel", name := "inQuery", desc := "(II)I" } : Jvm.MethodName)) ∈ lw_tbl := lw_at lw_m1 238 rfl
theorem q253 : (Jvm.Cond.instanceMethod ({ cls := "NearDocsModel", name := "inQuery", desc := "(II)I" } : Jvm.MethodName)) ∈ lw_all := lw_g (lw_at lw_m1 239 rfl) rfl
theorem q254 : (Jvm.Cond.code ({ cls := "NearDocsModel", name := "inQuery", desc := "(II)I" } : Jvm.MethodName) prog_3_method_19_code (5 : Nat) (Option.some Jvm.ClassFile.FieldType.int)) ∈ lw_all := lw_g (lw_at lw_m2 0 rfl) rfl
theorem q255 : (Jvm.Cond.methodLink "NearDocsModel" (67 : Nat) ({ cls := "NearDocsModel", name := "inDoc", desc := "(III)I" } : Jvm.MethodName)) ∈ lw_all := lw_g (lw_at lw_m2 1 rfl) rfl
theorem q256 : (Jvm.Cond.privateMethod ({ cls := "NearDocsModel", name := "inDoc", desc := "(III)I" } : Jvm.MethodName)) ∈ lw_tbl := lw_at lw_m2 2 rfl
theorem q257 : (Jvm.Cond.instanceMethod ({ cls := "NearDocsModel", name := "inDoc", desc := "(III)I" } : Jvm.MethodName)) ∈ lw_all := lw_g (lw_at lw_m2 3 rfl) rfl
theorem q258 : (Jvm.Cond.code ({ cls := "NearDocsModel", name := "inDoc", desc := "(III)I" } : Jvm.MethodName) prog_3_method_18_code (6 : Nat) (Option.some Jvm.ClassFile.FieldType.int)) ∈ lw_all := lw_g (lw_at lw_m2 4 rfl) rfl
theorem in_X1 : ∀ w ∈ wsX10, w ∈ lw_all := lw_in wsX10 [163, 165, 167, 169, 171, 173, 175, 177, 179, 181] (by decide +kernel) (by decide +kernel)
end
section
set_option maxRecDepth 100000
set_option maxRecDepth 100000
def RJ0 : String := "java/lang/Object"
abbrev cJ0_init : ByteArray := object_method_1_code
def yJ0_init : MethodName := ⟨RJ0, "<init>", "()V"⟩
theorem dJ0_init_0 : decode cJ0_init 0 = .ok (.return_, 1) := by decide +kernel
theorem q23 : (Jvm.Cond.instanceMethod ({ cls := "java/lang/Object", name := "<init>", desc := "()V" } : Jvm.MethodName)) ∈ lw_all := lw_g (lw_at lw_m1 9 rfl) rfl
theorem q24 : (Jvm.Cond.code ({ cls := "java/lang/Object", name := "<init>", desc := "()V" } : Jvm.MethodName) object_method_1_code (1 : Nat) (Option.none : Option Jvm.ClassFile.FieldType)) ∈ lw_all := lw_g (lw_at lw_m1 10 rfl) rfl

set_option maxRecDepth 100000
abbrev cL_law : ByteArray := code
theorem dL_law_0 : decode cL_law 0 = .ok (.new 7, 3) := by decide +kernel
theorem dL_law_3 : decode cL_law 3 = .ok (.dup, 1) := by decide +kernel
theorem dL_law_4 : decode cL_law 4 = .ok (.invokespecial 9, 3) := by decide +kernel
theorem dL_law_7 : decode cL_law 7 = .ok (.astore_n 1, 1) := by decide +kernel
theorem dL_law_8 : decode cL_law 8 = .ok (.new 10, 3) := by decide +kernel
theorem dL_law_11 : decode cL_law 11 = .ok (.dup, 1) := by decide +kernel
theorem dL_law_12 : decode cL_law 12 = .ok (.invokespecial 12, 3) := by decide +kernel
theorem dL_law_15 : decode cL_law 15 = .ok (.astore_n 2, 1) := by decide +kernel
theorem dL_law_16 : decode cL_law 16 = .ok (.iconst 0, 1) := by decide +kernel
theorem dL_law_17 : decode cL_law 17 = .ok (.istore_n 3, 1) := by decide +kernel
theorem dL_law_18 : decode cL_law 18 = .ok (.iload_n 3, 1) := by decide +kernel
theorem dL_law_19 : decode cL_law 19 = .ok (.aload_n 0, 1) := by decide +kernel
theorem dL_law_20 : decode cL_law 20 = .ok (.arraylength, 1) := by decide +kernel
theorem dL_law_21 : decode cL_law 21 = .ok (.iconst 3, 1) := by decide +kernel
theorem dL_law_22 : decode cL_law 22 = .ok (.isub, 1) := by decide +kernel
theorem dL_law_23 : decode cL_law 23 = .ok (.if_icmp .gt 326, 3) := by decide +kernel
theorem dL_law_26 : decode cL_law 26 = .ok (.aload_n 0, 1) := by decide +kernel
theorem dL_law_27 : decode cL_law 27 = .ok (.iload_n 3, 1) := by decide +kernel
theorem dL_law_28 : decode cL_law 28 = .ok (.iaload, 1) := by decide +kernel
theorem dL_law_29 : decode cL_law 29 = .ok (.bipush 15, 2) := by decide +kernel
theorem dL_law_31 : decode cL_law 31 = .ok (.iand, 1) := by decide +kernel
theorem dL_law_32 : decode cL_law 32 = .ok (.tableswitch 311 0 10 #[60, 93, 116, 139, 150, 173, 196, 219, 242, 255, 288], 60) := by decide +kernel
theorem dL_law_92 : decode cL_law 92 = .ok (.aload_n 1, 1) := by decide +kernel
theorem dL_law_93 : decode cL_law 93 = .ok (.aload_n 0, 1) := by decide +kernel
theorem dL_law_94 : decode cL_law 94 = .ok (.iload_n 3, 1) := by decide +kernel
theorem dL_law_95 : decode cL_law 95 = .ok (.iconst 1, 1) := by decide +kernel
theorem dL_law_96 : decode cL_law 96 = .ok (.iadd, 1) := by decide +kernel
theorem dL_law_97 : decode cL_law 97 = .ok (.iaload, 1) := by decide +kernel
theorem dL_law_98 : decode cL_law 98 = .ok (.aload_n 0, 1) := by decide +kernel
theorem dL_law_99 : decode cL_law 99 = .ok (.iload_n 3, 1) := by decide +kernel
theorem dL_law_100 : decode cL_law 100 = .ok (.iconst 2, 1) := by decide +kernel
theorem dL_law_101 : decode cL_law 101 = .ok (.iadd, 1) := by decide +kernel
theorem dL_law_102 : decode cL_law 102 = .ok (.iaload, 1) := by decide +kernel
theorem dL_law_103 : decode cL_law 103 = .ok (.invokevirtual 13, 3) := by decide +kernel
theorem dL_law_106 : decode cL_law 106 = .ok (.aload_n 2, 1) := by decide +kernel
theorem dL_law_107 : decode cL_law 107 = .ok (.aload_n 0, 1) := by decide +kernel
theorem dL_law_108 : decode cL_law 108 = .ok (.iload_n 3, 1) := by decide +kernel
theorem dL_law_109 : decode cL_law 109 = .ok (.iconst 1, 1) := by decide +kernel
theorem dL_law_110 : decode cL_law 110 = .ok (.iadd, 1) := by decide +kernel
theorem dL_law_111 : decode cL_law 111 = .ok (.iaload, 1) := by decide +kernel
theorem dL_law_112 : decode cL_law 112 = .ok (.aload_n 0, 1) := by decide +kernel
theorem dL_law_113 : decode cL_law 113 = .ok (.iload_n 3, 1) := by decide +kernel
theorem dL_law_114 : decode cL_law 114 = .ok (.iconst 2, 1) := by decide +kernel
theorem dL_law_115 : decode cL_law 115 = .ok (.iadd, 1) := by decide +kernel
theorem dL_law_116 : decode cL_law 116 = .ok (.iaload, 1) := by decide +kernel
theorem dL_law_117 : decode cL_law 117 = .ok (.invokevirtual 17, 3) := by decide +kernel
theorem dL_law_120 : decode cL_law 120 = .ok (.if_icmp .eq 223, 3) := by decide +kernel
theorem dL_law_123 : decode cL_law 123 = .ok (.iconst 0, 1) := by decide +kernel
theorem dL_law_124 : decode cL_law 124 = .ok (.ireturn, 1) := by decide +kernel
theorem dL_law_125 : decode cL_law 125 = .ok (.aload_n 1, 1) := by decide +kernel
theorem dL_law_126 : decode cL_law 126 = .ok (.aload_n 0, 1) := by decide +kernel
theorem dL_law_127 : decode cL_law 127 = .ok (.iload_n 3, 1) := by decide +kernel
theorem dL_law_128 : decode cL_law 128 = .ok (.iconst 1, 1) := by decide +kernel
theorem dL_law_129 : decode cL_law 129 = .ok (.iadd, 1) := by decide +kernel
theorem dL_law_130 : decode cL_law 130 = .ok (.iaload, 1) := by decide +kernel
theorem dL_law_131 : decode cL_law 131 = .ok (.invokevirtual 18, 3) := by decide +kernel
theorem dL_law_134 : decode cL_law 134 = .ok (.aload_n 2, 1) := by decide +kernel
theorem dL_law_135 : decode cL_law 135 = .ok (.aload_n 0, 1) := by decide +kernel
theorem dL_law_136 : decode cL_law 136 = .ok (.iload_n 3, 1) := by decide +kernel
theorem dL_law_137 : decode cL_law 137 = .ok (.iconst 1, 1) := by decide +kernel
theorem dL_law_138 : decode cL_law 138 = .ok (.iadd, 1) := by decide +kernel
theorem dL_law_139 : decode cL_law 139 = .ok (.iaload, 1) := by decide +kernel
theorem dL_law_140 : decode cL_law 140 = .ok (.invokevirtual 22, 3) := by decide +kernel
theorem dL_law_143 : decode cL_law 143 = .ok (.if_icmp .eq 200, 3) := by decide +kernel
theorem dL_law_146 : decode cL_law 146 = .ok (.iconst 0, 1) := by decide +kernel
theorem dL_law_147 : decode cL_law 147 = .ok (.ireturn, 1) := by decide +kernel
theorem dL_law_148 : decode cL_law 148 = .ok (.aload_n 1, 1) := by decide +kernel
theorem dL_law_149 : decode cL_law 149 = .ok (.aload_n 0, 1) := by decide +kernel
theorem dL_law_150 : decode cL_law 150 = .ok (.iload_n 3, 1) := by decide +kernel
theorem dL_law_151 : decode cL_law 151 = .ok (.iconst 1, 1) := by decide +kernel
theorem dL_law_152 : decode cL_law 152 = .ok (.iadd, 1) := by decide +kernel
theorem dL_law_153 : decode cL_law 153 = .ok (.iaload, 1) := by decide +kernel
theorem dL_law_154 : decode cL_law 154 = .ok (.invokevirtual 23, 3) := by decide +kernel
theorem dL_law_157 : decode cL_law 157 = .ok (.aload_n 2, 1) := by decide +kernel
theorem dL_law_158 : decode cL_law 158 = .ok (.aload_n 0, 1) := by decide +kernel
theorem dL_law_159 : decode cL_law 159 = .ok (.iload_n 3, 1) := by decide +kernel
theorem dL_law_160 : decode cL_law 160 = .ok (.iconst 1, 1) := by decide +kernel
theorem dL_law_161 : decode cL_law 161 = .ok (.iadd, 1) := by decide +kernel
theorem dL_law_162 : decode cL_law 162 = .ok (.iaload, 1) := by decide +kernel
theorem dL_law_163 : decode cL_law 163 = .ok (.invokevirtual 26, 3) := by decide +kernel
theorem dL_law_166 : decode cL_law 166 = .ok (.if_icmp .eq 177, 3) := by decide +kernel
theorem dL_law_169 : decode cL_law 169 = .ok (.iconst 0, 1) := by decide +kernel
theorem dL_law_170 : decode cL_law 170 = .ok (.ireturn, 1) := by decide +kernel
theorem dL_law_171 : decode cL_law 171 = .ok (.aload_n 1, 1) := by decide +kernel
theorem dL_law_172 : decode cL_law 172 = .ok (.invokevirtual 27, 3) := by decide +kernel
theorem dL_law_175 : decode cL_law 175 = .ok (.aload_n 2, 1) := by decide +kernel
theorem dL_law_176 : decode cL_law 176 = .ok (.invokevirtual 30, 3) := by decide +kernel
theorem dL_law_179 : decode cL_law 179 = .ok (.goto 164, 3) := by decide +kernel
theorem dL_law_182 : decode cL_law 182 = .ok (.aload_n 1, 1) := by decide +kernel
theorem dL_law_183 : decode cL_law 183 = .ok (.aload_n 0, 1) := by decide +kernel
theorem dL_law_184 : decode cL_law 184 = .ok (.iload_n 3, 1) := by decide +kernel
theorem dL_law_185 : decode cL_law 185 = .ok (.iconst 1, 1) := by decide +kernel
theorem dL_law_186 : decode cL_law 186 = .ok (.iadd, 1) := by decide +kernel
theorem dL_law_187 : decode cL_law 187 = .ok (.iaload, 1) := by decide +kernel
theorem dL_law_188 : decode cL_law 188 = .ok (.invokevirtual 31, 3) := by decide +kernel
theorem dL_law_191 : decode cL_law 191 = .ok (.aload_n 2, 1) := by decide +kernel
theorem dL_law_192 : decode cL_law 192 = .ok (.aload_n 0, 1) := by decide +kernel
theorem dL_law_193 : decode cL_law 193 = .ok (.iload_n 3, 1) := by decide +kernel
theorem dL_law_194 : decode cL_law 194 = .ok (.iconst 1, 1) := by decide +kernel
theorem dL_law_195 : decode cL_law 195 = .ok (.iadd, 1) := by decide +kernel
theorem dL_law_196 : decode cL_law 196 = .ok (.iaload, 1) := by decide +kernel
theorem dL_law_197 : decode cL_law 197 = .ok (.invokevirtual 34, 3) := by decide +kernel
theorem dL_law_200 : decode cL_law 200 = .ok (.if_icmp .eq 143, 3) := by decide +kernel
theorem dL_law_203 : decode cL_law 203 = .ok (.iconst 0, 1) := by decide +kernel
theorem dL_law_204 : decode cL_law 204 = .ok (.ireturn, 1) := by decide +kernel
theorem dL_law_205 : decode cL_law 205 = .ok (.aload_n 1, 1) := by decide +kernel
theorem dL_law_206 : decode cL_law 206 = .ok (.aload_n 0, 1) := by decide +kernel
theorem dL_law_207 : decode cL_law 207 = .ok (.iload_n 3, 1) := by decide +kernel
theorem dL_law_208 : decode cL_law 208 = .ok (.iconst 1, 1) := by decide +kernel
theorem dL_law_209 : decode cL_law 209 = .ok (.iadd, 1) := by decide +kernel
theorem dL_law_210 : decode cL_law 210 = .ok (.iaload, 1) := by decide +kernel
theorem dL_law_211 : decode cL_law 211 = .ok (.invokevirtual 35, 3) := by decide +kernel
theorem dL_law_214 : decode cL_law 214 = .ok (.aload_n 2, 1) := by decide +kernel
theorem dL_law_215 : decode cL_law 215 = .ok (.aload_n 0, 1) := by decide +kernel
theorem dL_law_216 : decode cL_law 216 = .ok (.iload_n 3, 1) := by decide +kernel
theorem dL_law_217 : decode cL_law 217 = .ok (.iconst 1, 1) := by decide +kernel
theorem dL_law_218 : decode cL_law 218 = .ok (.iadd, 1) := by decide +kernel
theorem dL_law_219 : decode cL_law 219 = .ok (.iaload, 1) := by decide +kernel
theorem dL_law_220 : decode cL_law 220 = .ok (.invokevirtual 38, 3) := by decide +kernel
theorem dL_law_223 : decode cL_law 223 = .ok (.if_icmp .eq 120, 3) := by decide +kernel
theorem dL_law_226 : decode cL_law 226 = .ok (.iconst 0, 1) := by decide +kernel
theorem dL_law_227 : decode cL_law 227 = .ok (.ireturn, 1) := by decide +kernel
theorem dL_law_228 : decode cL_law 228 = .ok (.aload_n 1, 1) := by decide +kernel
theorem dL_law_229 : decode cL_law 229 = .ok (.aload_n 0, 1) := by decide +kernel
theorem dL_law_230 : decode cL_law 230 = .ok (.iload_n 3, 1) := by decide +kernel
theorem dL_law_231 : decode cL_law 231 = .ok (.iconst 1, 1) := by decide +kernel
theorem dL_law_232 : decode cL_law 232 = .ok (.iadd, 1) := by decide +kernel
theorem dL_law_233 : decode cL_law 233 = .ok (.iaload, 1) := by decide +kernel
theorem dL_law_234 : decode cL_law 234 = .ok (.invokevirtual 39, 3) := by decide +kernel
theorem dL_law_237 : decode cL_law 237 = .ok (.aload_n 2, 1) := by decide +kernel
theorem dL_law_238 : decode cL_law 238 = .ok (.aload_n 0, 1) := by decide +kernel
theorem dL_law_239 : decode cL_law 239 = .ok (.iload_n 3, 1) := by decide +kernel
theorem dL_law_240 : decode cL_law 240 = .ok (.iconst 1, 1) := by decide +kernel
theorem dL_law_241 : decode cL_law 241 = .ok (.iadd, 1) := by decide +kernel
theorem dL_law_242 : decode cL_law 242 = .ok (.iaload, 1) := by decide +kernel
theorem dL_law_243 : decode cL_law 243 = .ok (.invokevirtual 42, 3) := by decide +kernel
theorem dL_law_246 : decode cL_law 246 = .ok (.if_icmp .eq 97, 3) := by decide +kernel
theorem dL_law_249 : decode cL_law 249 = .ok (.iconst 0, 1) := by decide +kernel
theorem dL_law_250 : decode cL_law 250 = .ok (.ireturn, 1) := by decide +kernel
theorem dL_law_251 : decode cL_law 251 = .ok (.aload_n 1, 1) := by decide +kernel
theorem dL_law_252 : decode cL_law 252 = .ok (.aload_n 0, 1) := by decide +kernel
theorem dL_law_253 : decode cL_law 253 = .ok (.iload_n 3, 1) := by decide +kernel
theorem dL_law_254 : decode cL_law 254 = .ok (.iconst 1, 1) := by decide +kernel
theorem dL_law_255 : decode cL_law 255 = .ok (.iadd, 1) := by decide +kernel
theorem dL_law_256 : decode cL_law 256 = .ok (.iaload, 1) := by decide +kernel
theorem dL_law_257 : decode cL_law 257 = .ok (.invokevirtual 43, 3) := by decide +kernel
theorem dL_law_260 : decode cL_law 260 = .ok (.aload_n 2, 1) := by decide +kernel
theorem dL_law_261 : decode cL_law 261 = .ok (.aload_n 0, 1) := by decide +kernel
theorem dL_law_262 : decode cL_law 262 = .ok (.iload_n 3, 1) := by decide +kernel
theorem dL_law_263 : decode cL_law 263 = .ok (.iconst 1, 1) := by decide +kernel
theorem dL_law_264 : decode cL_law 264 = .ok (.iadd, 1) := by decide +kernel
theorem dL_law_265 : decode cL_law 265 = .ok (.iaload, 1) := by decide +kernel
theorem dL_law_266 : decode cL_law 266 = .ok (.invokevirtual 46, 3) := by decide +kernel
theorem dL_law_269 : decode cL_law 269 = .ok (.if_icmp .eq 74, 3) := by decide +kernel
theorem dL_law_272 : decode cL_law 272 = .ok (.iconst 0, 1) := by decide +kernel
theorem dL_law_273 : decode cL_law 273 = .ok (.ireturn, 1) := by decide +kernel
theorem dL_law_274 : decode cL_law 274 = .ok (.aload_n 1, 1) := by decide +kernel
theorem dL_law_275 : decode cL_law 275 = .ok (.invokevirtual 47, 3) := by decide +kernel
theorem dL_law_278 : decode cL_law 278 = .ok (.aload_n 2, 1) := by decide +kernel
theorem dL_law_279 : decode cL_law 279 = .ok (.invokevirtual 51, 3) := by decide +kernel
theorem dL_law_282 : decode cL_law 282 = .ok (.if_icmp .eq 61, 3) := by decide +kernel
theorem dL_law_285 : decode cL_law 285 = .ok (.iconst 0, 1) := by decide +kernel
theorem dL_law_286 : decode cL_law 286 = .ok (.ireturn, 1) := by decide +kernel
theorem dL_law_287 : decode cL_law 287 = .ok (.aload_n 1, 1) := by decide +kernel
theorem dL_law_288 : decode cL_law 288 = .ok (.aload_n 0, 1) := by decide +kernel
theorem dL_law_289 : decode cL_law 289 = .ok (.iload_n 3, 1) := by decide +kernel
theorem dL_law_290 : decode cL_law 290 = .ok (.iconst 1, 1) := by decide +kernel
theorem dL_law_291 : decode cL_law 291 = .ok (.iadd, 1) := by decide +kernel
theorem dL_law_292 : decode cL_law 292 = .ok (.iaload, 1) := by decide +kernel
theorem dL_law_293 : decode cL_law 293 = .ok (.aload_n 0, 1) := by decide +kernel
theorem dL_law_294 : decode cL_law 294 = .ok (.iload_n 3, 1) := by decide +kernel
theorem dL_law_295 : decode cL_law 295 = .ok (.iconst 2, 1) := by decide +kernel
theorem dL_law_296 : decode cL_law 296 = .ok (.iadd, 1) := by decide +kernel
theorem dL_law_297 : decode cL_law 297 = .ok (.iaload, 1) := by decide +kernel
theorem dL_law_298 : decode cL_law 298 = .ok (.invokevirtual 52, 3) := by decide +kernel
theorem dL_law_301 : decode cL_law 301 = .ok (.aload_n 2, 1) := by decide +kernel
theorem dL_law_302 : decode cL_law 302 = .ok (.aload_n 0, 1) := by decide +kernel
theorem dL_law_303 : decode cL_law 303 = .ok (.iload_n 3, 1) := by decide +kernel
theorem dL_law_304 : decode cL_law 304 = .ok (.iconst 1, 1) := by decide +kernel
theorem dL_law_305 : decode cL_law 305 = .ok (.iadd, 1) := by decide +kernel
theorem dL_law_306 : decode cL_law 306 = .ok (.iaload, 1) := by decide +kernel
theorem dL_law_307 : decode cL_law 307 = .ok (.aload_n 0, 1) := by decide +kernel
theorem dL_law_308 : decode cL_law 308 = .ok (.iload_n 3, 1) := by decide +kernel
theorem dL_law_309 : decode cL_law 309 = .ok (.iconst 2, 1) := by decide +kernel
theorem dL_law_310 : decode cL_law 310 = .ok (.iadd, 1) := by decide +kernel
theorem dL_law_311 : decode cL_law 311 = .ok (.iaload, 1) := by decide +kernel
theorem dL_law_312 : decode cL_law 312 = .ok (.invokevirtual 55, 3) := by decide +kernel
theorem dL_law_315 : decode cL_law 315 = .ok (.if_icmp .eq 28, 3) := by decide +kernel
theorem dL_law_318 : decode cL_law 318 = .ok (.iconst 0, 1) := by decide +kernel
theorem dL_law_319 : decode cL_law 319 = .ok (.ireturn, 1) := by decide +kernel
theorem dL_law_320 : decode cL_law 320 = .ok (.aload_n 1, 1) := by decide +kernel
theorem dL_law_321 : decode cL_law 321 = .ok (.aload_n 0, 1) := by decide +kernel
theorem dL_law_322 : decode cL_law 322 = .ok (.iload_n 3, 1) := by decide +kernel
theorem dL_law_323 : decode cL_law 323 = .ok (.iconst 1, 1) := by decide +kernel
theorem dL_law_324 : decode cL_law 324 = .ok (.iadd, 1) := by decide +kernel
theorem dL_law_325 : decode cL_law 325 = .ok (.iaload, 1) := by decide +kernel
theorem dL_law_326 : decode cL_law 326 = .ok (.invokevirtual 56, 3) := by decide +kernel
theorem dL_law_329 : decode cL_law 329 = .ok (.aload_n 2, 1) := by decide +kernel
theorem dL_law_330 : decode cL_law 330 = .ok (.aload_n 0, 1) := by decide +kernel
theorem dL_law_331 : decode cL_law 331 = .ok (.iload_n 3, 1) := by decide +kernel
theorem dL_law_332 : decode cL_law 332 = .ok (.iconst 1, 1) := by decide +kernel
theorem dL_law_333 : decode cL_law 333 = .ok (.iadd, 1) := by decide +kernel
theorem dL_law_334 : decode cL_law 334 = .ok (.iaload, 1) := by decide +kernel
theorem dL_law_335 : decode cL_law 335 = .ok (.invokevirtual 59, 3) := by decide +kernel
theorem dL_law_338 : decode cL_law 338 = .ok (.if_icmp .eq 5, 3) := by decide +kernel
theorem dL_law_341 : decode cL_law 341 = .ok (.iconst 0, 1) := by decide +kernel
theorem dL_law_342 : decode cL_law 342 = .ok (.ireturn, 1) := by decide +kernel
theorem dL_law_343 : decode cL_law 343 = .ok (.iinc 3 3, 3) := by decide +kernel
theorem dL_law_346 : decode cL_law 346 = .ok (.goto (-328), 3) := by decide +kernel
theorem dL_law_349 : decode cL_law 349 = .ok (.iconst 1, 1) := by decide +kernel
theorem dL_law_350 : decode cL_law 350 = .ok (.ireturn, 1) := by decide +kernel

theorem q14 : (Jvm.Cond.initialized "NearDocsLaw") ∈ lw_all := lw_g (lw_at lw_m1 0 rfl) rfl
set_option maxRecDepth 100000
theorem q17 : (Jvm.Cond.classLink "NearDocsLaw" (7 : Nat) "NearDocs") ∈ lw_all := lw_g (lw_at lw_m1 3 rfl) rfl
theorem q19 : (Jvm.Cond.methodLink "NearDocsLaw" (9 : Nat) ({ cls := "NearDocs", name := "<init>", desc := "()V" } : Jvm.MethodName)) ∈ lw_all := lw_g (lw_at lw_m1 5 rfl) rfl
theorem q72 : (Jvm.Cond.methodLink "NearDocsLaw" (13 : Nat) ({ cls := "NearDocs", name := "write", desc := "(II)I" } : Jvm.MethodName)) ∈ lw_all := lw_g (lw_at lw_m1 58 rfl) rfl
theorem q79 : (Jvm.Cond.methodLink "NearDocsLaw" (18 : Nat) ({ cls := "NearDocs", name := "wipe", desc := "(I)I" } : Jvm.MethodName)) ∈ lw_all := lw_g (lw_at lw_m1 65 rfl) rfl
theorem q83 : (Jvm.Cond.methodLink "NearDocsLaw" (23 : Nat) ({ cls := "NearDocs", name := "type", desc := "(I)I" } : Jvm.MethodName)) ∈ lw_all := lw_g (lw_at lw_m1 69 rfl) rfl
theorem q87 : (Jvm.Cond.methodLink "NearDocsLaw" (27 : Nat) ({ cls := "NearDocs", name := "clear", desc := "()V" } : Jvm.MethodName)) ∈ lw_all := lw_g (lw_at lw_m1 73 rfl) rfl
theorem q91 : (Jvm.Cond.methodLink "NearDocsLaw" (31 : Nat) ({ cls := "NearDocs", name := "distance", desc := "(I)I" } : Jvm.MethodName)) ∈ lw_all := lw_g (lw_at lw_m1 77 rfl) rfl
theorem q99 : (Jvm.Cond.methodLink "NearDocsLaw" (35 : Nat) ({ cls := "NearDocs", name := "end", desc := "(I)I" } : Jvm.MethodName)) ∈ lw_all := lw_g (lw_at lw_m1 85 rfl) rfl
theorem q103 : (Jvm.Cond.methodLink "NearDocsLaw" (39 : Nat) ({ cls := "NearDocs", name := "whole", desc := "(I)I" } : Jvm.MethodName)) ∈ lw_all := lw_g (lw_at lw_m1 89 rfl) rfl
theorem q123 : (Jvm.Cond.methodLink "NearDocsLaw" (43 : Nat) ({ cls := "NearDocs", name := "within", desc := "(I)I" } : Jvm.MethodName)) ∈ lw_all := lw_g (lw_at lw_m1 109 rfl) rfl
theorem q135 : (Jvm.Cond.methodLink "NearDocsLaw" (47 : Nat) ({ cls := "NearDocs", name := "nearest", desc := "()I" } : Jvm.MethodName)) ∈ lw_all := lw_g (lw_at lw_m1 121 rfl) rfl
theorem q139 : (Jvm.Cond.methodLink "NearDocsLaw" (52 : Nat) ({ cls := "NearDocs", name := "between", desc := "(II)I" } : Jvm.MethodName)) ∈ lw_all := lw_g (lw_at lw_m1 125 rfl) rfl
theorem q143 : (Jvm.Cond.methodLink "NearDocsLaw" (56 : Nat) ({ cls := "NearDocs", name := "pairs", desc := "(I)I" } : Jvm.MethodName)) ∈ lw_all := lw_g (lw_at lw_m1 129 rfl) rfl
theorem q147 : (Jvm.Cond.classLink "NearDocsLaw" (10 : Nat) "NearDocsModel") ∈ lw_all := lw_g (lw_at lw_m1 133 rfl) rfl
theorem q149 : (Jvm.Cond.methodLink "NearDocsLaw" (12 : Nat) ({ cls := "NearDocsModel", name := "<init>", desc := "()V" } : Jvm.MethodName)) ∈ lw_all := lw_g (lw_at lw_m1 135 rfl) rfl
theorem q184 : (Jvm.Cond.methodLink "NearDocsLaw" (17 : Nat) ({ cls := "NearDocsModel", name := "write", desc := "(II)I" } : Jvm.MethodName)) ∈ lw_all := lw_g (lw_at lw_m1 170 rfl) rfl
theorem q191 : (Jvm.Cond.methodLink "NearDocsLaw" (22 : Nat) ({ cls := "NearDocsModel", name := "wipe", desc := "(I)I" } : Jvm.MethodName)) ∈ lw_all := lw_g (lw_at lw_m1 177 rfl) rfl
theorem q195 : (Jvm.Cond.methodLink "NearDocsLaw" (26 : Nat) ({ cls := "NearDocsModel", name := "type", desc := "(I)I" } : Jvm.MethodName)) ∈ lw_all := lw_g (lw_at lw_m1 181 rfl) rfl
theorem q199 : (Jvm.Cond.methodLink "NearDocsLaw" (30 : Nat) ({ cls := "NearDocsModel", name := "clear", desc := "()V" } : Jvm.MethodName)) ∈ lw_all := lw_g (lw_at lw_m1 185 rfl) rfl
theorem q203 : (Jvm.Cond.methodLink "NearDocsLaw" (34 : Nat) ({ cls := "NearDocsModel", name := "distance", desc := "(I)I" } : Jvm.MethodName)) ∈ lw_all := lw_g (lw_at lw_m1 189 rfl) rfl
theorem q227 : (Jvm.Cond.methodLink "NearDocsLaw" (38 : Nat) ({ cls := "NearDocsModel", name := "end", desc := "(I)I" } : Jvm.MethodName)) ∈ lw_all := lw_g (lw_at lw_m1 213 rfl) rfl
theorem q231 : (Jvm.Cond.methodLink "NearDocsLaw" (42 : Nat) ({ cls := "NearDocsModel", name := "whole", desc := "(I)I" } : Jvm.MethodName)) ∈ lw_all := lw_g (lw_at lw_m1 217 rfl) rfl
theorem q235 : (Jvm.Cond.methodLink "NearDocsLaw" (46 : Nat) ({ cls := "NearDocsModel", name := "within", desc := "(I)I" } : Jvm.MethodName)) ∈ lw_all := lw_g (lw_at lw_m1 221 rfl) rfl
theorem q239 : (Jvm.Cond.methodLink "NearDocsLaw" (51 : Nat) ({ cls := "NearDocsModel", name := "nearest", desc := "()I" } : Jvm.MethodName)) ∈ lw_all := lw_g (lw_at lw_m1 225 rfl) rfl
theorem q243 : (Jvm.Cond.methodLink "NearDocsLaw" (55 : Nat) ({ cls := "NearDocsModel", name := "between", desc := "(II)I" } : Jvm.MethodName)) ∈ lw_all := lw_g (lw_at lw_m1 229 rfl) rfl
theorem q247 : (Jvm.Cond.methodLink "NearDocsLaw" (59 : Nat) ({ cls := "NearDocsModel", name := "pairs", desc := "(I)I" } : Jvm.MethodName)) ∈ lw_all := lw_g (lw_at lw_m1 233 rfl) rfl

theorem q71 : (Jvm.Cond.arrayClass Jvm.ClassFile.FieldType.int) ∈ lw_all := lw_g (lw_at lw_m1 57 rfl) rfl
set_option maxRecDepth 100000
end
section
/-! rows of mine over the kit's: numbers as naturals (nI), arrays as functions to naturals (nF), calls by one row, loops by a measure -/
set_option maxRecDepth 100000
def nF (f : Nat → Nat) : Nat → Int32 := fun k => nI (f k)
theorem nF_upd (f : Nat → Nat) (k v : Nat) : upd (nF f) k (nI v) = nF (va_up f k v) := by
  funext j
  unfold upd nF va_up
  by_cases h : j = k
  · simp [h]
  · simp [h]
theorem up_s {α : Type} (f : Nat → α) (k : Nat) (v : α) : va_up f k v k = v := if_pos rfl
theorem up_n {α : Type} (f : Nat → α) {k j : Nat} (v : α) (h : j ≠ k) : va_up f k v j = f j := if_neg h
abbrev vwCl : List vw_C := [(RX0, TX0, 15), (RX1, TX1, 10)]
/-- the cells of a NearDocs -/
abbrev wX0 (ad : Nat → Nat) (cA : ClassId) (ln lt pn : Nat → Nat) (ql : Nat) (q qp : Nat → Nat) (mk : Nat → Int32) (bd be xl yl : Nat) (xx yy co nc : Nat → Nat) : va_W :=
  [(ad 0, .inr (0, [.ref (ad 1), .ref (ad 2), .ref (ad 3), .int (nI ql), .ref (ad 4), .ref (ad 5), .ref (ad 6), .int (nI bd), .int (nI be), .int (nI xl), .int (nI yl), .ref (ad 7), .ref (ad 8), .ref (ad 9), .ref (ad 10)])),
   (ad 1, .inl (cA, 8, .inl (nF ln))), (ad 2, .inl (cA, 128, .inl (nF lt))), (ad 3, .inl (cA, 128, .inl (nF pn))), (ad 4, .inl (cA, 8, .inl (nF q))), (ad 5, .inl (cA, 16, .inl (nF qp))), (ad 6, .inl (cA, 4, .inl mk)),
   (ad 7, .inl (cA, 16, .inl (nF xx))), (ad 8, .inl (cA, 16, .inl (nF yy))), (ad 9, .inl (cA, 17, .inl (nF co))), (ad 10, .inl (cA, 17, .inl (nF nc)))]
/-- the cells of a NearDocsModel -/
abbrev wX1 (ad : Nat → Nat) (cA : ClassId) (lt ln q : Nat → Nat) (ql : Nat) (lf : Nat → Nat) (lfs : Nat) (rg : Nat → Nat) (rgs : Nat) (tb : Nat → Nat) (fe : Nat) : va_W :=
  [(ad 0, .inr (1, [.ref (ad 1), .ref (ad 2), .ref (ad 3), .int (nI ql), .ref (ad 4), .int (nI lfs), .ref (ad 5), .int (nI rgs), .ref (ad 6), .int (nI fe)])),
   (ad 1, .inl (cA, 128, .inl (nF lt))), (ad 2, .inl (cA, 8, .inl (nF ln))), (ad 3, .inl (cA, 8, .inl (nF q))), (ad 4, .inl (cA, 16, .inl (nF lf))), (ad 5, .inl (cA, 16, .inl (nF rg))), (ad 6, .inl (cA, 289, .inl (nF tb)))]
abbrev nW (D : va_G) (cl : List vw_C) (cA : ClassId) (w : va_W) (sz : Nat) : State → Prop := fun U => U.heap.size = sz ∧ va_P D cl w U.heap ∧ va_K D cl [(cA, .int)] U ∧ va_D (fun _ => True) w
abbrev nB {S : Type} (D : va_G) (cl : List vw_C) (cA : ClassId) (A : Nat → Prop) (wf : S → va_W) : S → State → Prop := fun u t => va_P D cl (wf u) t.heap ∧ va_K D cl [(cA, .int)] t ∧ va_D A (wf u)
abbrev rmk (k : Nat) : Room := { frames := k, cells := 0, slots := 0, locals := 40 * k }
/-- a contract of mine with an int (or boolean) answer: level k, arguments av, world w before, wf u behind it, answer and u as post says -/
abbrev nMi {S : Type} (l : Launch) (y : MethodName) (cc : ByteArray) (L : Nat) (r : FieldType) (k : Nat) (av : List Value) (D : va_G) (cl : List vw_C) (cA : ClassId) (w : va_W) (sz : Nat) (post : Int32 → S → Prop) (wf : S → va_W) : Prop :=
  Met l y (ws_ y cc L (some r)) (rmk k) (va_Pc av (nW D cl cA w sz)) (va_Qi post (nB D cl cA (va_A w sz) wf) (va_A w sz)) 0 0 (va_A w sz)
abbrev nMv {S : Type} (l : Launch) (y : MethodName) (cc : ByteArray) (L : Nat) (k : Nat) (av : List Value) (D : va_G) (cl : List vw_C) (cA : ClassId) (w : va_W) (sz : Nat) (post : S → Prop) (wf : S → va_W) : Prop :=
  Met l y (ws_ y cc L none) (rmk k) (va_Pc av (nW D cl cA w sz)) (va_Qv post (nB D cl cA (va_A w sz) wf) (va_A w sz)) 0 0 (va_A w sz)
section NR
variable {p : Program} {l : Launch} {e : Env} {R : Room} {s : State} {m : MethodId} {args : Array Value} {below : List Frame} {meth : Method} {c : Code} {H : Heap} {locs : List Loc} {cells slots : Nat} {Q : State → Prop}
variable {cc : ByteArray} {pc : Nat} {ls : Array Slot} {rest : List Value} {D : va_G} {cl : List vw_C} {A : Nat → Prop} {tys : List (ClassId × FieldType)} {ws : va_W} {H0 : Heap}
theorem nr_as {x y : Int32} (h : x = y) (k : W p l e R s m args below meth c H locs cells slots Q (F0 m pc ls (.int y :: rest))) : W p l e R s m args below meth c H locs cells slots Q (F0 m pc ls (.int x :: rest)) := by
  rw [h]
  exact k
theorem nr_cut {g : JFrame} (g' : JFrame) (hJ : W p l e R s m args below meth c H locs cells slots Q g') (k : W p l e R s m args below meth c H locs cells slots Q g' → W p l e R s m args below meth c H locs cells slots Q g) : W p l e R s m args below meth c H locs cells slots Q g := k hJ
theorem nr_loop {σ : Type} (I : σ → Heap → List Loc → Array Slot → Prop) (μ : σ → Nat)
    (step : ∀ (v : σ) (H : Heap) (locs : List Loc) (ls : Array Slot), I v H locs ls → (∀ (v' : σ) (H' : Heap) (locs' : List Loc) (ls' : Array Slot), I v' H' locs' ls' → μ v' < μ v → W p l e R s m args below meth c H' locs' cells slots Q (F0 m pc ls' [])) → W p l e R s m args below meth c H locs cells slots Q (F0 m pc ls []))
    (v : σ) (h : I v H locs ls) : W p l e R s m args below meth c H locs cells slots Q (F0 m pc ls []) := by
  have key : ∀ (n : Nat) (v : σ) (H : Heap) (locs : List Loc) (ls : Array Slot), μ v < n → I v H locs ls → W p l e R s m args below meth c H locs cells slots Q (F0 m pc ls []) := by
    intro n
    induction n with
    | zero => intro v H locs ls h; omega
    | succ n ih =>
      intro v H locs ls h hI
      exact step v H locs ls hI (fun v' H' locs' ls' hI' hm => ih v' H' locs' ls' (by omega) hI')
  exact key (μ v + 1) v H locs ls (Nat.lt_succ_self _) h
theorem nr_add {a b : Nat} (hx : p.tables.exec = Jvm.exec) (hb : c.code = cc) (hdg : decode cc pc = .ok (.iadd, 1)) (k : W p l e R s m args below meth c H locs cells slots Q (F0 m (pc + 1) ls (.int (nI (a + b)) :: rest))) : W p l e R s m args below meth c H locs cells slots Q (F0 m pc ls (.int (nI b) :: .int (nI a) :: rest)) := lv_iadd hx hb hdg (nr_as (nI_add a b) k)
theorem nr_sub {a b : Nat} (hx : p.tables.exec = Jvm.exec) (hb : c.code = cc) (hdg : decode cc pc = .ok (.isub, 1)) (h : b ≤ a) (k : W p l e R s m args below meth c H locs cells slots Q (F0 m (pc + 1) ls (.int (nI (a - b)) :: rest))) : W p l e R s m args below meth c H locs cells slots Q (F0 m pc ls (.int (nI b) :: .int (nI a) :: rest)) := lv_isub hx hb hdg (nr_as (pk_sub h) k)
theorem nr_mul {a b : Nat} (hx : p.tables.exec = Jvm.exec) (hb : c.code = cc) (hdg : decode cc pc = .ok (.imul, 1)) (k : W p l e R s m args below meth c H locs cells slots Q (F0 m (pc + 1) ls (.int (nI (a * b)) :: rest))) : W p l e R s m args below meth c H locs cells slots Q (F0 m pc ls (.int (nI b) :: .int (nI a) :: rest)) := lv_imul hx hb hdg (nr_as (pk_mul a b) k)
theorem nr_div {a b : Nat} (hx : p.tables.exec = Jvm.exec) (hb : c.code = cc) (hdg : decode cc pc = .ok (.idiv, 1)) (ha : a < 2147483648) (h0 : 0 < b) (hb' : b < 2147483648) (k : W p l e R s m args below meth c H locs cells slots Q (F0 m (pc + 1) ls (.int (nI (a / b)) :: rest))) : W p l e R s m args below meth c H locs cells slots Q (F0 m pc ls (.int (nI b) :: .int (nI a) :: rest)) := lv_idiv hx hb hdg (nI_ne0 h0 hb') (nr_as (pk_div ha h0 hb') k)
theorem nr_rem {a b : Nat} (hx : p.tables.exec = Jvm.exec) (hb : c.code = cc) (hdg : decode cc pc = .ok (.irem, 1)) (ha : a < 2147483648) (h0 : 0 < b) (hb' : b < 2147483648) (k : W p l e R s m args below meth c H locs cells slots Q (F0 m (pc + 1) ls (.int (nI (a % b)) :: rest))) : W p l e R s m args below meth c H locs cells slots Q (F0 m pc ls (.int (nI b) :: .int (nI a) :: rest)) := lv_irem hx hb hdg (nI_ne0 h0 hb') (nr_as (pk_rem ha h0 hb') k)
theorem nr_iald {a : Nat} (hx : p.tables.exec = Jvm.exec) (hb : c.code = cc) (hK : va_K D cl tys s) (hP : va_P D cl ws H) (q0 : Nat) {cA : ClassId} {n : Nat} {f : Nat → Nat} (ha : ws[q0]? = some (a, .inl (cA, n, .inl (nF f)))) (ht : tys[0]? = some (cA, .int)) {i : Nat} (hi : i < n) (hn : n < 2147483648) (hdg : decode cc pc = .ok (.iaload, 1))
    (k : W p l e R s m args below meth c H locs cells slots Q (F0 m (pc + 1) ls (.int (nI (f i)) :: rest))) : W p l e R s m args below meth c H locs cells slots Q (F0 m pc ls (.int (nI i) :: .ref a :: rest)) := by
  refine va_iald hx hb hK hP q0 0 ha ht (vp_in_nI hi hn) hdg ?_
  rw [nI_clamp (Nat.lt_trans hi hn)]
  exact k
theorem nr_ialdI {a : Nat} (hx : p.tables.exec = Jvm.exec) (hb : c.code = cc) (hK : va_K D cl tys s) (hP : va_P D cl ws H) (q0 : Nat) {cA : ClassId} {n : Nat} {f : Nat → Int32} (ha : ws[q0]? = some (a, .inl (cA, n, .inl f))) (ht : tys[0]? = some (cA, .int)) {i : Nat} (hi : i < n) (hn : n < 2147483648) (hdg : decode cc pc = .ok (.iaload, 1))
    (k : W p l e R s m args below meth c H locs cells slots Q (F0 m (pc + 1) ls (.int (f i) :: rest))) : W p l e R s m args below meth c H locs cells slots Q (F0 m pc ls (.int (nI i) :: .ref a :: rest)) := by
  refine va_iald hx hb hK hP q0 0 ha ht (vp_in_nI hi hn) hdg ?_
  rw [nI_clamp (Nat.lt_trans hi hn)]
  exact k
theorem nr_iast {a : Nat} (hx : p.tables.exec = Jvm.exec) (hb : c.code = cc) (hK : va_K D cl tys s) (hP : va_P D cl ws H) (hD : va_D A ws) (hS : va_S A H0 H locs) (q0 : Nat) {cA : ClassId} {n : Nat} {f : Nat → Nat} (ha : ws[q0]? = some (a, .inl (cA, n, .inl (nF f)))) (ht : tys[0]? = some (cA, .int)) {i v : Nat} (hi : i < n) (hn : n < 2147483648) (hdg : decode cc pc = .ok (.iastore, 1))
    (kk : ∀ (H1 : Heap) (locs1 : List Loc), va_P D cl (ws.set q0 (a, .inl (cA, n, .inl (nF (va_up f i v))))) H1 → va_D A (ws.set q0 (a, .inl (cA, n, .inl (nF (va_up f i v))))) → va_S A H0 H1 locs1 → W p l e R s m args below meth c H1 locs1 cells slots Q (F0 m (pc + 1) ls rest)) : W p l e R s m args below meth c H locs cells slots Q (F0 m pc ls (.int (nI v) :: .int (nI i) :: .ref a :: rest)) := by
  refine va_iast hx hb hK hP hD hS q0 0 ha ht (vp_in_nI hi hn) hdg (fun H1 locs1 h1 h2 h3 => ?_)
  rw [nI_clamp (Nat.lt_trans hi hn), nF_upd] at h1 h2
  exact kk H1 locs1 h1 h2 h3
theorem nr_iastI {a : Nat} (hx : p.tables.exec = Jvm.exec) (hb : c.code = cc) (hK : va_K D cl tys s) (hP : va_P D cl ws H) (hD : va_D A ws) (hS : va_S A H0 H locs) (q0 : Nat) {cA : ClassId} {n : Nat} {f : Nat → Int32} (ha : ws[q0]? = some (a, .inl (cA, n, .inl f))) (ht : tys[0]? = some (cA, .int)) {i : Nat} {v : Int32} (hi : i < n) (hn : n < 2147483648) (hdg : decode cc pc = .ok (.iastore, 1))
    (kk : ∀ (H1 : Heap) (locs1 : List Loc), va_P D cl (ws.set q0 (a, .inl (cA, n, .inl (va_up f i v)))) H1 → va_D A (ws.set q0 (a, .inl (cA, n, .inl (va_up f i v)))) → va_S A H0 H1 locs1 → W p l e R s m args below meth c H1 locs1 cells slots Q (F0 m (pc + 1) ls rest)) : W p l e R s m args below meth c H locs cells slots Q (F0 m pc ls (.int v :: .int (nI i) :: .ref a :: rest)) := by
  refine va_iast hx hb hK hP hD hS q0 0 ha ht (vp_in_nI hi hn) hdg (fun H1 locs1 h1 h2 h3 => ?_)
  rw [nI_clamp (Nat.lt_trans hi hn)] at h1 h2
  exact kk H1 locs1 h1 h2 h3
theorem nr_icmp_ge {a b : Nat} {off : Int} {tgt : Nat} (hx : p.tables.exec = Jvm.exec) (hb : c.code = cc) (hdg : decode cc pc = .ok (.if_icmp .ge off, 3)) (ht : (pc : Int) + off = (tgt : Int)) (h1 : a < 2147483648) (h2 : b < 2147483648)
    (kt : b ≤ a → W p l e R s m args below meth c H locs cells slots Q (F0 m tgt ls rest)) (kf : a < b → W p l e R s m args below meth c H locs cells slots Q (F0 m (pc + 3) ls rest)) : W p l e R s m args below meth c H locs cells slots Q (F0 m pc ls (.int (nI b) :: .int (nI a) :: rest)) :=
  lv_icmp_ge hx hb hdg ht (fun h => kt ((nI_leI h2 h1).mp h)) (fun h => kf (Nat.lt_of_not_le fun q => h ((nI_leI h2 h1).mpr q)))
theorem nr_icmp_gt {a b : Nat} {off : Int} {tgt : Nat} (hx : p.tables.exec = Jvm.exec) (hb : c.code = cc) (hdg : decode cc pc = .ok (.if_icmp .gt off, 3)) (ht : (pc : Int) + off = (tgt : Int)) (h1 : a < 2147483648) (h2 : b < 2147483648)
    (kt : b < a → W p l e R s m args below meth c H locs cells slots Q (F0 m tgt ls rest)) (kf : a ≤ b → W p l e R s m args below meth c H locs cells slots Q (F0 m (pc + 3) ls rest)) : W p l e R s m args below meth c H locs cells slots Q (F0 m pc ls (.int (nI b) :: .int (nI a) :: rest)) :=
  lv_icmp_gt hx hb hdg ht (fun h => kt ((nI_ltI h2 h1).mp h)) (fun h => kf (Nat.le_of_not_lt fun q => h ((nI_ltI h2 h1).mpr q)))
theorem nr_icmp_lt {a b : Nat} {off : Int} {tgt : Nat} (hx : p.tables.exec = Jvm.exec) (hb : c.code = cc) (hdg : decode cc pc = .ok (.if_icmp .lt off, 3)) (ht : (pc : Int) + off = (tgt : Int)) (h1 : a < 2147483648) (h2 : b < 2147483648)
    (kt : a < b → W p l e R s m args below meth c H locs cells slots Q (F0 m tgt ls rest)) (kf : b ≤ a → W p l e R s m args below meth c H locs cells slots Q (F0 m (pc + 3) ls rest)) : W p l e R s m args below meth c H locs cells slots Q (F0 m pc ls (.int (nI b) :: .int (nI a) :: rest)) :=
  lv_icmp_lt hx hb hdg ht (fun h => kt ((nI_ltI h1 h2).mp h)) (fun h => kf (Nat.le_of_not_lt fun q => h ((nI_ltI h1 h2).mpr q)))
theorem nr_icmp_le {a b : Nat} {off : Int} {tgt : Nat} (hx : p.tables.exec = Jvm.exec) (hb : c.code = cc) (hdg : decode cc pc = .ok (.if_icmp .le off, 3)) (ht : (pc : Int) + off = (tgt : Int)) (h1 : a < 2147483648) (h2 : b < 2147483648)
    (kt : a ≤ b → W p l e R s m args below meth c H locs cells slots Q (F0 m tgt ls rest)) (kf : b < a → W p l e R s m args below meth c H locs cells slots Q (F0 m (pc + 3) ls rest)) : W p l e R s m args below meth c H locs cells slots Q (F0 m pc ls (.int (nI b) :: .int (nI a) :: rest)) :=
  lv_icmp_le hx hb hdg ht (fun h => kt ((nI_leI h1 h2).mp h)) (fun h => kf (Nat.lt_of_not_le fun q => h ((nI_leI h1 h2).mpr q)))
theorem nr_icmp_eq {a b : Nat} {off : Int} {tgt : Nat} (hx : p.tables.exec = Jvm.exec) (hb : c.code = cc) (hdg : decode cc pc = .ok (.if_icmp .eq off, 3)) (ht : (pc : Int) + off = (tgt : Int)) (h1 : a < 2147483648) (h2 : b < 2147483648)
    (kt : a = b → W p l e R s m args below meth c H locs cells slots Q (F0 m tgt ls rest)) (kf : ¬ a = b → W p l e R s m args below meth c H locs cells slots Q (F0 m (pc + 3) ls rest)) : W p l e R s m args below meth c H locs cells slots Q (F0 m pc ls (.int (nI b) :: .int (nI a) :: rest)) :=
  lv_icmp_eq hx hb hdg ht (fun h => kt ((nI_eq h1 h2).mp h)) (fun h => kf fun q => h ((nI_eq h1 h2).mpr q))
theorem nr_icmp_ne {a b : Nat} {off : Int} {tgt : Nat} (hx : p.tables.exec = Jvm.exec) (hb : c.code = cc) (hdg : decode cc pc = .ok (.if_icmp .ne off, 3)) (ht : (pc : Int) + off = (tgt : Int)) (h1 : a < 2147483648) (h2 : b < 2147483648)
    (kt : ¬ a = b → W p l e R s m args below meth c H locs cells slots Q (F0 m tgt ls rest)) (kf : a = b → W p l e R s m args below meth c H locs cells slots Q (F0 m (pc + 3) ls rest)) : W p l e R s m args below meth c H locs cells slots Q (F0 m pc ls (.int (nI b) :: .int (nI a) :: rest)) :=
  lv_icmp_ne hx hb hdg ht (fun h => kt fun q => h ((nI_eq h1 h2).mpr q)) (fun h => kf ((nI_eq h1 h2).mp h))
theorem nr_if_eq {a : Nat} {off : Int} {tgt : Nat} (hx : p.tables.exec = Jvm.exec) (hb : c.code = cc) (hdg : decode cc pc = .ok (.ifCond .eq off, 3)) (ht : (pc : Int) + off = (tgt : Int)) (h1 : a < 2147483648)
    (kt : a = 0 → W p l e R s m args below meth c H locs cells slots Q (F0 m tgt ls rest)) (kf : ¬ a = 0 → W p l e R s m args below meth c H locs cells slots Q (F0 m (pc + 3) ls rest)) : W p l e R s m args below meth c H locs cells slots Q (F0 m pc ls (.int (nI a) :: rest)) :=
  lv_if_eq hx hb hdg ht (fun h => kt ((nI_eq h1 (by decide)).mp (h.trans nI_0.symm))) (fun h => kf fun q => h (((nI_eq h1 (by decide)).mpr q).trans nI_0))
theorem nr_if_ne {a : Nat} {off : Int} {tgt : Nat} (hx : p.tables.exec = Jvm.exec) (hb : c.code = cc) (hdg : decode cc pc = .ok (.ifCond .ne off, 3)) (ht : (pc : Int) + off = (tgt : Int)) (h1 : a < 2147483648)
    (kt : ¬ a = 0 → W p l e R s m args below meth c H locs cells slots Q (F0 m tgt ls rest)) (kf : a = 0 → W p l e R s m args below meth c H locs cells slots Q (F0 m (pc + 3) ls rest)) : W p l e R s m args below meth c H locs cells slots Q (F0 m pc ls (.int (nI a) :: rest)) :=
  lv_if_ne hx hb hdg ht (fun h => kt fun q => h (((nI_eq h1 (by decide)).mpr q).trans nI_0)) (fun h => kf ((nI_eq h1 (by decide)).mp (h.trans nI_0.symm)))
theorem nr_if_le {a : Nat} {off : Int} {tgt : Nat} (hx : p.tables.exec = Jvm.exec) (hb : c.code = cc) (hdg : decode cc pc = .ok (.ifCond .le off, 3)) (ht : (pc : Int) + off = (tgt : Int)) (h1 : a < 2147483648)
    (kt : a = 0 → W p l e R s m args below meth c H locs cells slots Q (F0 m tgt ls rest)) (kf : 0 < a → W p l e R s m args below meth c H locs cells slots Q (F0 m (pc + 3) ls rest)) : W p l e R s m args below meth c H locs cells slots Q (F0 m pc ls (.int (nI a) :: rest)) := by
  refine lv_if_le hx hb hdg ht (fun h => kt ?_) (fun h => kf ?_)
  · rw [← nI_0] at h
    have := (nI_leI h1 (by decide)).mp h
    omega
  · refine Nat.pos_of_ne_zero (fun q => h ?_)
    rw [q, nI_0]
    exact Int32.le_refl 0
/-- the start of a method with an int answer -/
theorem nr_metI {S : Type} {l : Launch} {y : MethodName} {cc : ByteArray} {L : Nat} {r : FieldType} {k : Nat} {av : List Value} {D : va_G} {cl : List vw_C} {cA : ClassId} {w : va_W} {sz : Nat} {post : Int32 → S → Prop} {wf : S → va_W}
    (hy : plainName y.cls = true) (hlen : (lg_sl av).length ≤ L)
    (body : ∀ (p : Program) (e : Env) (s : State) (m : MethodId) (below : List Frame) (meth : Method) (c : Code) (A : Nat → Prop) (ls : Array Slot), p.tables.exec = Jvm.exec → c.code = cc → meth.sig.returnType = some r → c.maxLocals = L → s.vm.findClass y.cls = some m.cls → meth.locks = false → (∀ w ∈ lw_all, w.before av.toArray s = true) → (∀ q : Nat, s.heap.size ≤ q → A q) → va_K D cl [(cA, .int)] s → va_P D cl w s.heap → va_D A w → va_S A s.heap s.heap [] → lv_has ls L (lv_args 0 av) →
      W p l e (rmk k) s m av.toArray below meth c s.heap [] 0 0 (MQ below (va_Qi post (nB D cl cA A wf) A) av.toArray s 0 0 A) (F0 m 0 ls [])) : nMi l y cc L r k av D cl cA w sz post wf := by
  refine Met.ofW (cc := cc) (maxL := L) (ret := some r) hy rfl ?_
  intro p e s m args below meth c s₁ B hml hv
  obtain ⟨rfl, hsz, hP, hK, hD0⟩ := hv
  have hts := atoms_spec (ws := ws_ y cc L (some r)) B.pre
  subst hsz
  rw [lg_entry_eq]
  exact body p e s m below meth c _ _ B.exec B.bytes B.returns hml (findClass_of_methodNamed B.named) B.notSynchronized (fun w h => hts w (List.mem_cons_of_mem _ h)) (fun q h => Or.inr h) hK hP hD0.self va_S.rf (lv_entry av hlen)
theorem nr_metV {S : Type} {l : Launch} {y : MethodName} {cc : ByteArray} {L : Nat} {k : Nat} {av : List Value} {D : va_G} {cl : List vw_C} {cA : ClassId} {w : va_W} {sz : Nat} {post : S → Prop} {wf : S → va_W}
    (hy : plainName y.cls = true) (hlen : (lg_sl av).length ≤ L)
    (body : ∀ (p : Program) (e : Env) (s : State) (m : MethodId) (below : List Frame) (meth : Method) (c : Code) (A : Nat → Prop) (ls : Array Slot), p.tables.exec = Jvm.exec → c.code = cc → meth.sig.returnType = none → c.maxLocals = L → s.vm.findClass y.cls = some m.cls → meth.locks = false → (∀ w ∈ lw_all, w.before av.toArray s = true) → (∀ q : Nat, s.heap.size ≤ q → A q) → va_K D cl [(cA, .int)] s → va_P D cl w s.heap → va_D A w → va_S A s.heap s.heap [] → lv_has ls L (lv_args 0 av) →
      W p l e (rmk k) s m av.toArray below meth c s.heap [] 0 0 (MQ below (va_Qv post (nB D cl cA A wf) A) av.toArray s 0 0 A) (F0 m 0 ls [])) : nMv l y cc L k av D cl cA w sz post wf := by
  refine Met.ofW (cc := cc) (maxL := L) (ret := none) hy rfl ?_
  intro p e s m args below meth c s₁ B hml hv
  obtain ⟨rfl, hsz, hP, hK, hD0⟩ := hv
  have hts := atoms_spec (ws := ws_ y cc L none) B.pre
  subst hsz
  rw [lg_entry_eq]
  exact body p e s m below meth c _ _ B.exec B.bytes B.returns hml (findClass_of_methodNamed B.named) B.notSynchronized (fun w h => hts w (List.mem_cons_of_mem _ h)) (fun q h => Or.inr h) hK hP hD0.self va_S.rf (lv_entry av hlen)
theorem nr_iret {S : Type} {cA : ClassId} {post : Int32 → S → Prop} {wf : S → va_W} {v : Int32} (hx : p.tables.exec = Jvm.exec) (hb : c.code = cc) (hr : meth.sig.returnType = some .int) (hlocks : meth.locks = false) (hK : va_K D cl [(cA, .int)] s) (u : S) (hP : va_P D cl (wf u) H) (hD : va_D A (wf u)) (hS : va_S A s.heap H locs) (hp : post v u) (hdg : decode cc pc = .ok (.ireturn, 1)) :
    W p l e R s m args below meth c H locs 0 0 (MQ below (va_Qi post (nB D cl cA A wf) A) args s 0 0 A) (F0 m pc ls [.int v]) :=
  W.iret hx hb hr (fun t ht hW => ⟨⟨v, u, rfl, hp, by rw [ht]; exact hP, va_K.moved hW.alike hK, hD⟩, hS.F ht⟩) hS.2.2 hdg hlocks
theorem nr_zret {S : Type} {cA : ClassId} {post : Int32 → S → Prop} {wf : S → va_W} {v : Int32} (hx : p.tables.exec = Jvm.exec) (hb : c.code = cc) (hr : meth.sig.returnType = some .boolean) (hn : narrow .boolean (.int v) = .int v) (hlocks : meth.locks = false) (hK : va_K D cl [(cA, .int)] s) (u : S) (hP : va_P D cl (wf u) H) (hD : va_D A (wf u)) (hS : va_S A s.heap H locs) (hp : post v u) (hdg : decode cc pc = .ok (.ireturn, 1)) :
    W p l e R s m args below meth c H locs 0 0 (MQ below (va_Qi post (nB D cl cA A wf) A) args s 0 0 A) (F0 m pc ls [.int v]) :=
  W.zret hx hb hr hn (fun t ht hW => ⟨⟨v, u, rfl, hp, by rw [ht]; exact hP, va_K.moved hW.alike hK, hD⟩, hS.F ht⟩) hS.2.2 hdg hlocks
theorem nr_vret {S : Type} {cA : ClassId} {post : S → Prop} {wf : S → va_W} (hx : p.tables.exec = Jvm.exec) (hb : c.code = cc) (hr : meth.sig.returnType = none) (hlocks : meth.locks = false) (hK : va_K D cl [(cA, .int)] s) (u : S) (hP : va_P D cl (wf u) H) (hD : va_D A (wf u)) (hS : va_S A s.heap H locs) (hp : post u) (hdg : decode cc pc = .ok (.return_, 1)) :
    W p l e R s m args below meth c H locs 0 0 (MQ below (va_Qv post (nB D cl cA A wf) A) args s 0 0 A) (F0 m pc ls []) :=
  W.vret hx hb hr (fun t ht hW => ⟨⟨u, rfl, hp, by rw [ht]; exact hP, va_K.moved hW.alike hK, hD⟩, hS.F ht⟩) hS.2.2 hdg hlocks
theorem nr_subP {wc : va_W} (hP : va_P D cl ws H) (isC : List Nat) (hC : isC.map (fun i => ws[i]?) = wc.map some) : va_P D cl wc H := by
  intro k q hk
  have h1 : (isC.map (fun i => ws[i]?))[k]? = some (some q) := by rw [hC, List.getElem?_map, hk]; rfl
  rw [List.getElem?_map] at h1
  cases hi : isC[k]? with
  | none => rw [hi] at h1; cases h1
  | some i => rw [hi] at h1; exact hP i q (Option.some.inj h1)
theorem nr_blind {av : List Value} {cA : ClassId} {w : va_W} {sz : Nat} : FrameBlind (va_Pc av (nW D cl cA w sz)) := fun a U g mk q => by
  obtain ⟨q0, q1, qP, qK, qD⟩ := q
  exact ⟨q0, q1, qP, va_K.moved (u := U) (U := U.calling g mk a) (Vm.Alike.refl U.vm) qK, qD⟩
/-- a call through an object, an int comes back -/
theorem nr_callVi {S : Type} {cA : ClassId} {post : Int32 → S → Prop} {wf : S → va_W} {wc wr : va_W} {y : MethodName} {bytes : ByteArray} {maxL k index nL : Nat} {r : FieldType} {own C : String} {b : Nat} {T : u_T} {N ci : Nat} {fs : List Value} {st : List Value}
    (F : CallFix p m c cc nL s args lw_all own) (hK : va_K D cl [(cA, .int)] s) (hP : va_P D cl ws H) (hD : va_D A ws) (hS : va_S A s.heap H locs) (hA : ∀ q : Nat, s.heap.size ≤ q → A q) (isC isR : List Nat) (hC : isC.map (fun i => ws[i]?) = wc.map some) (hR : isR.map (fun i => ws[i]?) = wr.map some) (hnC : va_nd isC = true) (hn : va_nd isR = true) (hdis : ∀ i ∈ isR, i ∉ isC)
    (n : Nat) (As : List Value) (hM : nMi l y bytes maxL r k (.ref b :: As) D cl cA wc H.size post wf)
    (g : GoodIn lw_all (wsV own index C y (ws_ y bytes maxL (some r))))
    (hd : y.cls = C ∧ y.cls ≠ "java/lang/invoke/MethodHandle" ∧ y.cls ≠ "java/lang/invoke/VarHandle" ∧ (parseMethodDescriptor y.desc).map (fun d => d.parameters.length) = some n) (hRm : k + 1 ≤ R.frames ∧ 8 + (maxL + 11) + 40 * k ≤ R.locals)
    (hc : cl[ci]? = some (C, T, N)) (q0 : Nat) (he : wc[q0]? = some (b, .inr (ci, fs)))
    (hAs : As.length = n) (hls : ls.size = nL) (hst : st = As.reverse ++ .ref b :: rest) (hroom : (rest.map fun v => v.category).sum ≤ 8) (hdg : decode cc pc = .ok (.invokevirtual index, 3)) (hcell : cells ≤ R.cells ∧ slots ≤ R.slots)
    (kk : ∀ (r : Int32) (u : S) (H1 : Heap) (locs1 : List Loc), post r u → va_P D cl (wr ++ wf u) H1 → va_D A (wr ++ wf u) → va_S A s.heap H1 locs1 → W p l e R s m args below meth c H1 locs1 cells slots Q (F0 m (pc + 3) ls (.int r :: rest))) :
    W p l e R s m args below meth c H locs cells slots Q (F0 m pc ls st) := by
  have hFc := va_free (wc := wc) hD hS hA isC hC
  have hPc := nr_subP hP isC hC
  have hDc : va_D (fun _ => True) wc := (hD.sub isC hnC hC).weaken (fun _ _ _ _ => trivial)
  refine va_calli (va_runV (As := As) (rest := rest) F hM (cwV n F.2.2.2.2 g rfl rfl rfl hd hRm) ⟨nr_blind, va_recv hK hPc hc he, fun U hU hW => ⟨rfl, by rw [hU], by rw [hU]; exact hPc, va_K.moved hW.alike hK, hDc⟩⟩ rfl hAs hls hst (lv_room hroom) hdg ⟨hcell.1, hcell.2⟩) hS (fun q _ h => hFc q h) hFc (fun r u t H1 locs1 ht hvm hw hB hz1 hk1 hS1 => ?_)
  obtain ⟨hP1, hK1, hD1⟩ := hB
  rw [ht] at hP1
  obtain ⟨a1, a2⟩ := va_join hP hD isC isR hC hR hn hdis hk1 hFc hP1 hD1
  exact kk r u H1 locs1 hw a1 a2 hS1
theorem nr_callVv {S : Type} {cA : ClassId} {post : S → Prop} {wf : S → va_W} {wc wr : va_W} {y : MethodName} {bytes : ByteArray} {maxL k index nL : Nat} {own C : String} {b : Nat} {T : u_T} {N ci : Nat} {fs : List Value} {st : List Value}
    (F : CallFix p m c cc nL s args lw_all own) (hK : va_K D cl [(cA, .int)] s) (hP : va_P D cl ws H) (hD : va_D A ws) (hS : va_S A s.heap H locs) (hA : ∀ q : Nat, s.heap.size ≤ q → A q) (isC isR : List Nat) (hC : isC.map (fun i => ws[i]?) = wc.map some) (hR : isR.map (fun i => ws[i]?) = wr.map some) (hnC : va_nd isC = true) (hn : va_nd isR = true) (hdis : ∀ i ∈ isR, i ∉ isC)
    (n : Nat) (As : List Value) (hM : nMv l y bytes maxL k (.ref b :: As) D cl cA wc H.size post wf)
    (g : GoodIn lw_all (wsV own index C y (ws_ y bytes maxL none)))
    (hd : y.cls = C ∧ y.cls ≠ "java/lang/invoke/MethodHandle" ∧ y.cls ≠ "java/lang/invoke/VarHandle" ∧ (parseMethodDescriptor y.desc).map (fun d => d.parameters.length) = some n) (hRm : k + 1 ≤ R.frames ∧ 8 + (maxL + 11) + 40 * k ≤ R.locals)
    (hc : cl[ci]? = some (C, T, N)) (q0 : Nat) (he : wc[q0]? = some (b, .inr (ci, fs)))
    (hAs : As.length = n) (hls : ls.size = nL) (hst : st = As.reverse ++ .ref b :: rest) (hroom : (rest.map fun v => v.category).sum ≤ 8) (hdg : decode cc pc = .ok (.invokevirtual index, 3)) (hcell : cells ≤ R.cells ∧ slots ≤ R.slots)
    (kk : ∀ (u : S) (H1 : Heap) (locs1 : List Loc), post u → va_P D cl (wr ++ wf u) H1 → va_D A (wr ++ wf u) → va_S A s.heap H1 locs1 → W p l e R s m args below meth c H1 locs1 cells slots Q (F0 m (pc + 3) ls rest)) :
    W p l e R s m args below meth c H locs cells slots Q (F0 m pc ls st) := by
  have hFc := va_free (wc := wc) hD hS hA isC hC
  have hPc := nr_subP hP isC hC
  have hDc : va_D (fun _ => True) wc := (hD.sub isC hnC hC).weaken (fun _ _ _ _ => trivial)
  refine va_callv (va_runV (As := As) (rest := rest) F hM (cwV n F.2.2.2.2 g rfl rfl rfl hd hRm) ⟨nr_blind, va_recv hK hPc hc he, fun U hU hW => ⟨rfl, by rw [hU], by rw [hU]; exact hPc, va_K.moved hW.alike hK, hDc⟩⟩ rfl hAs hls hst (lv_room hroom) hdg ⟨hcell.1, hcell.2⟩) hS (fun q _ h => hFc q h) hFc (fun u t H1 locs1 ht hvm hw hB hz1 hk1 hS1 => ?_)
  obtain ⟨hP1, hK1, hD1⟩ := hB
  rw [ht] at hP1
  obtain ⟨a1, a2⟩ := va_join hP hD isC isR hC hR hn hdis hk1 hFc hP1 hD1
  exact kk u H1 locs1 hw a1 a2 hS1
/-- a static call that needs no cells, an int comes back -/
theorem nr_callSi {cA : ClassId} {post : Int32 → Unit → Prop} {y : MethodName} {bytes : ByteArray} {maxL k index nL : Nat} {r : FieldType} {own : String} {st : List Value}
    (F : CallFix p m c cc nL s args lw_all own) (hK : va_K D cl [(cA, .int)] s) (hP : va_P D cl ws H) (hD : va_D A ws) (hS : va_S A s.heap H locs) (hA : ∀ q : Nat, s.heap.size ≤ q → A q)
    (n : Nat) (As : List Value) (hM : nMi l y bytes maxL r k As D cl cA [] H.size post (fun _ => []))
    (g : GoodIn lw_all (va_wsS own index y (ws_ y bytes maxL (some r))))
    (hd : y.cls ≠ "java/lang/invoke/MethodHandle" ∧ y.cls ≠ "java/lang/invoke/VarHandle" ∧ (parseMethodDescriptor y.desc).map (fun d => d.parameters.length) = some n) (hRm : k + 1 ≤ R.frames ∧ 8 + (maxL + 11) + 40 * k ≤ R.locals)
    (hAs : As.length = n) (hls : ls.size = nL) (hst : st = As.reverse ++ rest) (hroom : (rest.map fun v => v.category).sum ≤ 8) (hdg : decode cc pc = .ok (.invokestatic index, 3)) (hcell : cells ≤ R.cells ∧ slots ≤ R.slots)
    (kk : ∀ (r : Int32) (H1 : Heap) (locs1 : List Loc), post r () → va_P D cl ws H1 → va_D A ws → va_S A s.heap H1 locs1 → W p l e R s m args below meth c H1 locs1 cells slots Q (F0 m (pc + 3) ls (.int r :: rest))) :
    W p l e R s m args below meth c H locs cells slots Q (F0 m pc ls st) := by
  have hFc : ∀ q, va_A [] H.size q → A q := va_free (wc := []) hD hS hA [] rfl
  refine va_calli (va_runS (As := As) (rest := rest) F hM (va_cwS n F.2.2.2.2 g rfl rfl rfl hd hRm) ⟨nr_blind, fun U hU hW => ⟨rfl, by rw [hU], fun k q h => by simp at h, va_K.moved hW.alike hK, ⟨fun i j p q h => by simp at h, fun k q h => by simp at h⟩⟩⟩ rfl hAs hls hst (lv_room hroom) hdg ⟨hcell.1, hcell.2⟩) hS (fun q _ h => hFc q h) hFc (fun r u t H1 locs1 ht hvm hw hB hz1 hk1 hS1 => ?_)
  have hlt : ∀ (k : Nat) (q : Nat × va_E), ws[k]? = some q → H1[q.1]? = H[q.1]? := fun k q hq => hk1 q.1 ((hP k q hq).lt) (fun h => by
    rcases h with ⟨k2, e2, h⟩ | h
    · simp at h
    · have := (hP k q hq).lt
      omega)
  exact kk r H1 locs1 hw (hP.kept hlt) hD hS1
end NR
end
section
/-! the plain law: distances of rows of letters, by table (eD), in a band (bC), of any part's end (sC); pairs; no program in sight -/
/-- edit distance of the first i letters of x and the first j of y -/
def eD (x y : Nat → Nat) : Nat → Nat → Nat
  | 0 => fun j => j
  | i + 1 => fun j => Nat.rec (i + 1) (fun j r => min (min (eD x y i (j + 1) + 1) (r + 1)) (eD x y i j + if x i = y j then 0 else 1)) j
theorem eD_0 (x y : Nat → Nat) (j : Nat) : eD x y 0 j = j := rfl
theorem eD_s0 (x y : Nat → Nat) (i : Nat) : eD x y (i + 1) 0 = i + 1 := rfl
theorem eD_ss (x y : Nat → Nat) (i j : Nat) : eD x y (i + 1) (j + 1) = min (min (eD x y i (j + 1) + 1) (eD x y (i + 1) j + 1)) (eD x y i j + if x i = y j then 0 else 1) := rfl
theorem eD_i0 (x y : Nat → Nat) (i : Nat) : eD x y i 0 = i := by cases i <;> rfl
theorem eD_le (x y : Nat → Nat) : ∀ i j, eD x y i j ≤ max i j := by
  intro i
  induction i with
  | zero => intro j; rw [eD_0]; omega
  | succ i ih =>
    intro j
    cases j with
    | zero => rw [eD_s0]; omega
    | succ j =>
      have h := ih j
      rw [eD_ss]
      split <;> omega
theorem eD_ge (x y : Nat → Nat) : ∀ i j, i ≤ j + eD x y i j ∧ j ≤ i + eD x y i j := by
  intro i
  induction i with
  | zero => intro j; rw [eD_0]; omega
  | succ i ih =>
    intro j
    induction j with
    | zero => rw [eD_s0]; omega
    | succ j jh =>
      have h1 := ih j
      have h2 := ih (j + 1)
      rw [eD_ss]
      split <;> omega
theorem eD_u1 (x y : Nat → Nat) (i j : Nat) : eD x y (i + 1) j ≤ eD x y i j + 1 := by
  cases j with
  | zero => rw [eD_s0, eD_i0]; omega
  | succ j => rw [eD_ss]; omega
theorem eD_u2 (x y : Nat → Nat) (i j : Nat) : eD x y i (j + 1) ≤ eD x y i j + 1 := by
  cases i with
  | zero => rw [eD_0, eD_0]; omega
  | succ i => rw [eD_ss]; omega
theorem eD_congr {x y x' y' : Nat → Nat} : ∀ i j, (∀ t, t < i → x t = x' t) → (∀ t, t < j → y t = y' t) → eD x y i j = eD x' y' i j := by
  intro i
  induction i with
  | zero => intro j _ _; rfl
  | succ i ih =>
    intro j
    induction j with
    | zero => intro _ _; rfl
    | succ j jh =>
      intro hx hy
      rw [eD_ss, eD_ss, ih (j + 1) (fun t h => hx t (by omega)) hy, jh hx (fun t h => hy t (by omega)), ih j (fun t h => hx t (by omega)) (fun t h => hy t (by omega)), hx i (by omega), hy j (by omega)]
/-- the same in a band of width w, column by column -/
def bC (x y : Nat → Nat) (w : Nat) : Nat → Nat → Nat
  | 0 => fun i => if i ≤ w then i else 100
  | j + 1 => fun i => Nat.rec (if w < j + 1 then 100 else bC x y w j 0 + 1) (fun i r => if j + 1 + w < i + 1 ∨ i + 1 + w < j + 1 then 100 else min (min (bC x y w j (i + 1) + 1) (bC x y w j i + if x i = y j then 0 else 1)) (r + 1)) i
theorem bC_0 (x y : Nat → Nat) (w i : Nat) : bC x y w 0 i = if i ≤ w then i else 100 := rfl
theorem bC_s0 (x y : Nat → Nat) (w j : Nat) : bC x y w (j + 1) 0 = if w < j + 1 then 100 else bC x y w j 0 + 1 := rfl
theorem bC_ss (x y : Nat → Nat) (w i j : Nat) : bC x y w (j + 1) (i + 1) = if j + 1 + w < i + 1 ∨ i + 1 + w < j + 1 then 100 else min (min (bC x y w j (i + 1) + 1) (bC x y w j i + if x i = y j then 0 else 1)) (bC x y w (j + 1) i + 1) := rfl
theorem bC_le (x y : Nat → Nat) (w : Nat) : ∀ j i, i ≤ 100 → bC x y w j i ≤ 100 + j := by
  intro j
  induction j with
  | zero => intro i h; rw [bC_0]; split <;> omega
  | succ j ih =>
    intro i h
    cases i with
    | zero =>
      have := ih 0 h
      rw [bC_s0]; split <;> omega
    | succ i =>
      have := ih (i + 1) h
      rw [bC_ss]
      split
      · omega
      · omega
theorem bC_ge (x y : Nat → Nat) (w : Nat) : ∀ j i, i ≤ 100 → j ≤ 100 → eD x y i j ≤ bC x y w j i := by
  intro j
  induction j with
  | zero => intro i h _; rw [bC_0, eD_i0]; split <;> omega
  | succ j ih =>
    intro i
    induction i with
    | zero =>
      intro _ h
      have := ih 0 (by omega) (by omega)
      rw [eD_0] at this
      rw [bC_s0, eD_0]; split <;> omega
    | succ i jh =>
      intro h1 h2
      have a1 := ih i (by omega) (by omega)
      have a2 := ih (i + 1) h1 (by omega)
      have a3 := jh (by omega) h2
      have a4 := eD_le x y (i + 1) (j + 1)
      rw [bC_ss]
      rw [eD_ss] at a4 ⊢
      generalize (if x i = y j then 0 else 1) = cst at *
      split
      · omega
      · omega
theorem bC_eq (x y : Nat → Nat) (w : Nat) : ∀ j i, i ≤ 100 → j ≤ 100 → eD x y i j ≤ w → bC x y w j i = eD x y i j := by
  intro j
  induction j with
  | zero => intro i h _ hw; rw [eD_i0] at hw; rw [bC_0, eD_i0, if_pos hw]
  | succ j ih =>
    intro i
    induction i with
    | zero =>
      intro _ h hw
      rw [eD_0] at hw
      have := ih 0 (by omega) (by omega) (by rw [eD_0]; omega)
      rw [eD_0] at this
      rw [bC_s0, eD_0, if_neg (by omega), this]
    | succ i jh =>
      intro h1 h2 hw
      have g := eD_ge x y (i + 1) (j + 1)
      have b := bC_ge x y w (j + 1) (i + 1) h1 h2
      have a1 := ih i (by omega) (by omega)
      have a2 := ih (i + 1) h1 (by omega)
      have a3 := jh (by omega) h2
      rw [bC_ss, if_neg (by omega)] at b ⊢
      rw [eD_ss] at b hw ⊢
      generalize (if x i = y j then 0 else 1) = cst at *
      omega
/-- the least distance from any part that ends at place j, column by column -/
def sC (x y : Nat → Nat) : Nat → Nat → Nat
  | 0 => fun i => i
  | j + 1 => fun i => Nat.rec 0 (fun i r => min (min (r + 1) (sC x y j (i + 1) + 1)) (sC x y j i + if x i = y j then 0 else 1)) i
theorem sC_0 (x y : Nat → Nat) (i : Nat) : sC x y 0 i = i := rfl
theorem sC_s0 (x y : Nat → Nat) (j : Nat) : sC x y (j + 1) 0 = 0 := rfl
theorem sC_j0 (x y : Nat → Nat) (j : Nat) : sC x y j 0 = 0 := by cases j <;> rfl
theorem sC_ss (x y : Nat → Nat) (i j : Nat) : sC x y (j + 1) (i + 1) = min (min (sC x y (j + 1) i + 1) (sC x y j (i + 1) + 1)) (sC x y j i + if x i = y j then 0 else 1) := rfl
theorem sC_le (x y : Nat → Nat) (j : Nat) : ∀ i, sC x y j i ≤ i := by
  intro i
  induction i with
  | zero => rw [sC_j0]; omega
  | succ i ih =>
    cases j with
    | zero => rw [sC_0]; omega
    | succ j => rw [sC_ss]; omega
theorem sC_lt (x y : Nat → Nat) (f : Nat) : ∀ k i, sC x y (f + k) i ≤ eD x (fun t => y (f + t)) i k := by
  intro k
  induction k with
  | zero => intro i; rw [eD_i0]; exact sC_le x y _ i
  | succ k ih =>
    intro i
    induction i with
    | zero => rw [sC_j0]; omega
    | succ i jh =>
      have a1 := ih i
      have a2 := ih (i + 1)
      rw [show f + (k + 1) = f + k + 1 by omega] at jh ⊢
      rw [sC_ss, eD_ss]
      generalize (if x i = y (f + k) then 0 else 1) = cst
      omega
theorem sC_at (x y : Nat → Nat) : ∀ j i, ∃ f, f ≤ j ∧ eD x (fun t => y (f + t)) i (j - f) ≤ sC x y j i := by
  intro j
  induction j with
  | zero => intro i; exact ⟨0, Nat.le_refl 0, by rw [eD_i0, sC_0]; omega⟩
  | succ j ih =>
    intro i
    induction i with
    | zero => exact ⟨j + 1, Nat.le_refl _, by rw [Nat.sub_self, eD_0]; omega⟩
    | succ i jh =>
      rw [sC_ss]
      obtain ⟨f1, l1, e1⟩ := jh
      obtain ⟨f2, l2, e2⟩ := ih (i + 1)
      obtain ⟨f3, l3, e3⟩ := ih i
      have u1 := eD_u1 x (fun t => y (f1 + t)) i (j + 1 - f1)
      have u2 := eD_u2 x (fun t => y (f2 + t)) (i + 1) (j - f2)
      rw [show j - f2 + 1 = j + 1 - f2 by omega] at u2
      have u3 : eD x (fun t => y (f3 + t)) (i + 1) (j + 1 - f3) ≤ eD x (fun t => y (f3 + t)) i (j - f3) + if x i = y j then 0 else 1 := by
        rw [show j + 1 - f3 = j - f3 + 1 by omega, eD_ss, show f3 + (j - f3) = j by omega]
        omega
      rcases Nat.lt_or_ge (sC x y (j + 1) i + 1) (min (sC x y j (i + 1) + 1) (sC x y j i + if x i = y j then 0 else 1)) with h | h
      · exact ⟨f1, l1, by omega⟩
      · rcases Nat.lt_or_ge (sC x y j (i + 1) + 1) (sC x y j i + if x i = y j then 0 else 1) with h2 | h2
        · exact ⟨f2, by omega, by omega⟩
        · exact ⟨f3, by omega, by omega⟩
theorem sC_adj (x y : Nat → Nat) : ∀ j, (∀ i, sC x y j (i + 1) ≤ sC x y j i + 1 ∧ sC x y j i ≤ sC x y j (i + 1) + 1) := by
  have key : ∀ j, (∀ i, sC x y j (i + 1) ≤ sC x y j i + 1 ∧ sC x y j i ≤ sC x y j (i + 1) + 1) → ∀ i, (sC x y (j + 1) i ≤ sC x y j i + 1 ∧ sC x y j i ≤ sC x y (j + 1) i + 1) ∧ (sC x y (j + 1) (i + 1) ≤ sC x y (j + 1) i + 1 ∧ sC x y (j + 1) i ≤ sC x y (j + 1) (i + 1) + 1) := by
    intro j h i
    induction i with
    | zero =>
      have h0 := h 0
      rw [sC_j0] at h0
      rw [sC_ss, sC_j0, sC_j0]
      split <;> omega
    | succ i ih =>
      have h0 := h i
      have h1 := h (i + 1)
      have e1 := sC_ss x y i j
      have e2 := sC_ss x y (i + 1) j
      have c1 : (if x i = y j then 0 else 1) ≤ 1 := by split <;> omega
      have c2 : (if x (i + 1) = y j then 0 else 1) ≤ 1 := by split <;> omega
      generalize (if x i = y j then 0 else 1) = k1 at *
      generalize (if x (i + 1) = y j then 0 else 1) = k2 at *
      omega
  intro j
  induction j with
  | zero => intro i; rw [sC_0, sC_0]; omega
  | succ j ih => intro i; exact (key j ih i).2
theorem sC_adjH (x y : Nat → Nat) (j : Nat) : ∀ i, sC x y (j + 1) i ≤ sC x y j i + 1 ∧ sC x y j i ≤ sC x y (j + 1) i + 1 := by
  intro i
  induction i with
  | zero => rw [sC_j0, sC_j0]; omega
  | succ i ih =>
    have h0 := sC_adj x y j i
    have h1 := sC_adj x y (j + 1) i
    have e1 := sC_ss x y i j
    have c1 : (if x i = y j then 0 else 1) ≤ 1 := by split <;> omega
    generalize (if x i = y j then 0 else 1) = k1 at *
    omega
/-- the least distance from any part of the first n letters, and the least end of such a part -/
def bDi (x y : Nat → Nat) (m : Nat) : Nat → Nat
  | 0 => m
  | n + 1 => min (bDi x y m n) (sC x y (n + 1) m)
def bEn (x y : Nat → Nat) (m : Nat) : Nat → Nat
  | 0 => 0
  | n + 1 => if sC x y (n + 1) m < bDi x y m n then n + 1 else bEn x y m n
theorem bDi_le (x y : Nat → Nat) (m : Nat) : ∀ n, bDi x y m n ≤ m := by
  intro n
  induction n with
  | zero => exact Nat.le_refl m
  | succ n ih => unfold bDi; omega
theorem bEn_le (x y : Nat → Nat) (m : Nat) : ∀ n, bEn x y m n ≤ n := by
  intro n
  induction n with
  | zero => exact Nat.le_refl 0
  | succ n ih => unfold bEn; split <;> omega
theorem bDi_at (x y : Nat → Nat) (m : Nat) : ∀ n, ∃ j, j ≤ n ∧ sC x y j m = bDi x y m n := by
  intro n
  induction n with
  | zero => exact ⟨0, Nat.le_refl 0, rfl⟩
  | succ n ih =>
    obtain ⟨j, h1, h2⟩ := ih
    unfold bDi
    rcases Nat.lt_or_ge (sC x y (n + 1) m) (bDi x y m n) with h | h
    · exact ⟨n + 1, Nat.le_refl _, by omega⟩
    · exact ⟨j, by omega, by omega⟩
/-- the least of e 0 .. e (f-1) and L0 -/
def iM (e : Nat → Nat) (L0 : Nat) : Nat → Nat
  | 0 => L0
  | f + 1 => min (iM e L0 f) (e f)
theorem iM_le (e : Nat → Nat) (L0 : Nat) : ∀ f, iM e L0 f ≤ L0 := by
  intro f
  induction f with
  | zero => exact Nat.le_refl _
  | succ f ih => unfold iM; omega
theorem iM_val (e : Nat → Nat) (L0 v : Nat) : ∀ n, (∀ f, f < n → v ≤ e f) → (∃ f, f < n ∧ e f ≤ v) → iM e L0 n = min L0 v := by
  have low : ∀ n, (∀ f, f < n → v ≤ e f) → min L0 v ≤ iM e L0 n := by
    intro n
    induction n with
    | zero => intro _; show min L0 v ≤ L0; omega
    | succ n ih =>
      intro h
      have := ih (fun f hf => h f (by omega))
      have := h n (by omega)
      unfold iM; omega
  have up : ∀ n f, f < n → iM e L0 n ≤ e f := by
    intro n
    induction n with
    | zero => intro f h; omega
    | succ n ih =>
      intro f h
      unfold iM
      rcases Nat.lt_or_ge f n with q | q
      · have := ih f q; omega
      · rw [show f = n by omega]; omega
  intro n h1 h2
  obtain ⟨f, hf, he⟩ := h2
  have a := low n h1
  have b := up n f hf
  have c := iM_le e L0 n
  omega
/-- over all parts that end at place j: the least is sC -/
theorem iM_parts (x y : Nat → Nat) (m L0 j : Nat) : iM (fun f => eD x (fun t => y (f + t)) m (j - f)) L0 (j + 1) = min L0 (sC x y j m) := by
  refine iM_val _ _ _ _ ?_ ?_
  · intro f hf
    have := sC_lt x y f (j - f) m
    rw [show f + (j - f) = j by omega] at this
    exact this
  · obtain ⟨f, h1, h2⟩ := sC_at x y j m
    exact ⟨f, by omega, h2⟩
/-- pairs of neighbours: how many of the first k are p -/
def cQ (x : Nat → Nat) (p : Nat) : Nat → Nat
  | 0 => 0
  | k + 1 => cQ x p k + if 4 * x k + x (k + 1) = p then 1 else 0
theorem cQ_le (x : Nat → Nat) (p : Nat) : ∀ k, cQ x p k ≤ k := by
  intro k
  induction k with
  | zero => exact Nat.le_refl 0
  | succ k ih => unfold cQ; split <;> omega
theorem cQ_mono (x : Nat → Nat) (p : Nat) : ∀ k j, k ≤ j → cQ x p k ≤ cQ x p j := by
  intro k j
  induction j with
  | zero => intro h; rw [show k = 0 by omega]; omega
  | succ j ih =>
    intro h
    rcases Nat.lt_or_ge k (j + 1) with q | q
    · have := ih (by omega)
      show cQ x p k ≤ cQ x p j + _
      omega
    · rw [show k = j + 1 by omega]; omega
theorem cQ_congr {x y : Nat → Nat} (p : Nat) : ∀ k, (∀ t, t ≤ k → x t = y t) → cQ x p k = cQ y p k := by
  intro k
  induction k with
  | zero => intro _; rfl
  | succ k ih =>
    intro h
    unfold cQ
    rw [ih (fun t ht => h t (by omega)), h k (by omega), h (k + 1) (by omega)]
theorem cQ_shift (y : Nat → Nat) (p f : Nat) : ∀ k, cQ (fun t => y (f + t)) p k ≤ cQ y p (f + k) := by
  intro k
  induction k with
  | zero => show 0 ≤ _; omega
  | succ k ih =>
    show cQ (fun t => y (f + t)) p k + (if 4 * y (f + k) + y (f + (k + 1)) = p then 1 else 0) ≤ cQ y p (f + k) + (if 4 * y (f + k) + y (f + k + 1) = p then 1 else 0)
    rw [show f + (k + 1) = f + k + 1 by omega]
    omega
/-- how many pairs two rows share -/
def shP (x : Nat → Nat) (m : Nat) (y : Nat → Nat) (n : Nat) : Nat → Nat
  | 0 => 0
  | p + 1 => shP x m y n p + min (cQ x p (m - 1)) (cQ y p (n - 1))
theorem shP_le (x : Nat → Nat) (m : Nat) (y : Nat → Nat) (n : Nat) : ∀ p, shP x m y n p ≤ p * m := by
  intro p
  induction p with
  | zero => show 0 ≤ _; omega
  | succ p ih =>
    have := cQ_le x p (m - 1)
    unfold shP
    rw [Nat.succ_mul]
    omega
theorem shP_mono {x y y' : Nat → Nat} {m m' n n' : Nat} (hx : ∀ p, cQ x p (m - 1) ≤ cQ x p (m' - 1)) (hy : ∀ p, cQ y p (n - 1) ≤ cQ y' p (n' - 1)) : ∀ P, shP x m y n P ≤ shP x m' y' n' P := by
  intro P
  induction P with
  | zero => exact Nat.le_refl 0
  | succ P ih =>
    have h1 := hx P
    have h2 := hy P
    unfold shP
    omega
theorem shP_gain {x y : Nat → Nat} {i j : Nat} (h1 : x i = y j) (h2 : x (i + 1) = y (j + 1)) : ∀ P, shP x (i + 1) y (j + 1) P + (if 4 * x i + x (i + 1) < P then 1 else 0) = shP x (i + 2) y (j + 2) P := by
  intro P
  induction P with
  | zero => rfl
  | succ P ih =>
    show shP x (i + 1) y (j + 1) P + min (cQ x P i) (cQ y P j) + _ = shP x (i + 2) y (j + 2) P + min (cQ x P i + if 4 * x i + x (i + 1) = P then 1 else 0) (cQ y P j + if 4 * y j + y (j + 1) = P then 1 else 0)
    rw [← h1, ← h2, ← ih]
    generalize 4 * x i + x (i + 1) = q
    by_cases a : q < P
    · rw [if_pos a, if_pos (show q < P + 1 by omega), if_neg (show ¬ q = P by omega)]; omega
    · by_cases b : q = P
      · rw [if_neg a, if_pos (show q < P + 1 by omega), if_pos b]; omega
      · rw [if_neg a, if_neg (show ¬ q < P + 1 by omega), if_neg b]; omega
/-- each error spoils at most two pairs -/
theorem qgram {x y : Nat → Nat} (hx : ∀ t, x t < 4) : ∀ i j, i ≤ shP x i y j 16 + 2 * eD x y i j + 1 ∧ (¬ (0 < i ∧ 0 < j ∧ x (i - 1) = y (j - 1)) → i ≤ shP x i y j 16 + 2 * eD x y i j) := by
  intro i
  induction i with
  | zero => intro j; omega
  | succ i ih =>
    intro j
    induction j with
    | zero => rw [eD_s0]; omega
    | succ j jh =>
      have a1 := (ih (j + 1)).1
      have a2 := jh.1
      have a3 := ih j
      have m1 : shP x i y (j + 1) 16 ≤ shP x (i + 1) y (j + 1) 16 := shP_mono (fun p => cQ_mono x p _ _ (by omega)) (fun p => Nat.le_refl _) 16
      have m2 : shP x (i + 1) y j 16 ≤ shP x (i + 1) y (j + 1) 16 := shP_mono (fun p => Nat.le_refl _) (fun p => cQ_mono y p _ _ (by omega)) 16
      have m3 : shP x i y j 16 ≤ shP x (i + 1) y (j + 1) 16 := shP_mono (fun p => cQ_mono x p _ _ (by omega)) (fun p => cQ_mono y p _ _ (by omega)) 16
      have e := eD_ss x y i j
      rw [show i + 1 - 1 = i by omega, show j + 1 - 1 = j by omega]
      by_cases c : x i = y j
      · rw [if_pos c] at e
        refine ⟨?_, fun h => absurd ⟨by omega, by omega, c⟩ h⟩
        by_cases d : 0 < i ∧ 0 < j ∧ x (i - 1) = y (j - 1)
        · obtain ⟨d1, d2, d3⟩ := d
          obtain ⟨i', rfl⟩ : ∃ i', i = i' + 1 := ⟨i - 1, by omega⟩
          obtain ⟨j', rfl⟩ : ∃ j', j = j' + 1 := ⟨j - 1, by omega⟩
          have g : shP x (i' + 1) y (j' + 1) 16 + (if 4 * x i' + x (i' + 1) < 16 then 1 else 0) = shP x (i' + 1 + 1) y (j' + 1 + 1) 16 := shP_gain (x := x) (y := y) (i := i') (j := j') d3 c 16
          have b1 := hx i'
          have b2 := hx (i' + 1)
          rw [if_pos (by omega)] at g
          have a4 := a3.1
          omega
        · have a4 := a3.2 d
          omega
      · rw [if_neg c] at e
        refine ⟨?_, fun _ => ?_⟩
        · have := a3.1; omega
        · have := a3.1; omega
/-- the filter by pairs leaves out nothing that is near enough -/
theorem qgram_best {x y : Nat → Nat} (hx : ∀ t, x t < 4) (m n : Nat) : m ≤ shP x m y n 16 + 2 * bDi x y m n + 1 := by
  obtain ⟨j, h1, h2⟩ := bDi_at x y m n
  obtain ⟨f, g1, g2⟩ := sC_at x y j m
  have q := (qgram (y := fun t => y (f + t)) hx m (j - f)).1
  have mm : shP x m (fun t => y (f + t)) (j - f) 16 ≤ shP x m y n 16 := shP_mono (fun p => Nat.le_refl _) (fun p => by
    have a := cQ_shift y p f (j - f - 1)
    rcases Nat.lt_or_ge 0 (j - f) with z | z
    · exact Nat.le_trans a (cQ_mono y p _ _ (by omega))
    · rw [show j - f - 1 = 0 by omega]; exact Nat.zero_le _) 16
  omega
end
section
/-! a column of distances as two words (rows on bits bt, b_.., s_l: begun as rows of kit/laws/BITS.to-paste) -/
def bt (x : Int32) (i : Nat) : Bool := x.toBitVec.getLsbD i
theorem b_ext {x y : Int32} (h : ∀ i, i < 32 → bt x i = bt y i) : x = y := Int32.toBitVec_inj.mp (BitVec.eq_of_getLsbD_eq (fun i hi => h i hi))
theorem b_or (x y : Int32) (i : Nat) : bt (x ||| y) i = (bt x i || bt y i) := by unfold bt; rw [Int32.toBitVec_or, BitVec.getLsbD_or]
theorem b_and (x y : Int32) (i : Nat) : bt (x &&& y) i = (bt x i && bt y i) := by unfold bt; rw [Int32.toBitVec_and, BitVec.getLsbD_and]
theorem b_xor (x y : Int32) (i : Nat) : bt (x ^^^ y) i = (bt x i ^^ bt y i) := by unfold bt; rw [Int32.toBitVec_xor, BitVec.getLsbD_xor]
theorem b_m1 : ∀ i, i < 32 → bt (-1) i = true := by decide +kernel
theorem b_0 (i : Nat) : bt 0 i = false := BitVec.getLsbD_zero
theorem b_1 : ∀ i, i < 32 → bt (nI 1) i = decide (i = 0) := by decide +kernel
theorem s_l : ∀ n, n < 32 → ((nI n &&& 31).toBitVec.smod 32).toNat = n := by decide +kernel
theorem b_shl (n : Nat) (hn : n < 32) (x : Int32) {i : Nat} (hi : i < 32) : bt (x <<< (nI n &&& 31)) i = (decide (n ≤ i) && bt x (i - n)) := by
  unfold bt
  rw [Int32.toBitVec_shiftLeft]
  show (x.toBitVec <<< ((nI n &&& 31).toBitVec.smod 32).toNat).getLsbD i = _
  rw [s_l n hn, BitVec.getLsbD_shiftLeft]
  rcases Nat.lt_or_ge i n with h | h
  · simp [h, Nat.not_le.mpr h]
  · simp [hi, h, Nat.not_lt.mpr h]
theorem b_add (x y : Int32) {i : Nat} (hi : i < 32) : bt (x + y) i = (bt x i ^^ (bt y i ^^ BitVec.carry i x.toBitVec y.toBitVec false)) := by
  unfold bt
  rw [Int32.toBitVec_add, BitVec.getLsbD_add hi]
theorem b_top {x t : Int32} {k : Nat} (hk : k < 32) (ht : ∀ i, i < 32 → bt t i = decide (i = k)) : (x &&& t) = 0 ↔ bt x k = false := by
  constructor
  · intro h
    have h2 : bt (x &&& t) k = false := by rw [h, b_0]
    rw [b_and, ht k hk] at h2
    simpa using h2
  · intro h
    refine b_ext (fun i hi => ?_)
    rw [b_and, ht i hi, b_0]
    by_cases q : i = k
    · rw [q, h]; rfl
    · simp [q]
theorem my_full : ∀ m, m < 9 → ∀ i, i < 32 → bt (nI 1 <<< (nI m &&& 31) - nI 1) i = decide (i < m) := by decide +kernel
theorem my_top : ∀ m, m < 9 → ∀ i, i < 32 → bt (nI 1 <<< (nI m &&& 31)) i = decide (i = m) := by decide +kernel
def myU (x y : Nat → Nat) (m j : Nat) (u : Int32) : Prop := ∀ i, i < 32 → bt u i = decide (i < m ∧ sC x y j (i + 1) = sC x y j i + 1)
def myD (x y : Nat → Nat) (m j : Nat) (d : Int32) : Prop := ∀ i, i < 32 → bt d i = decide (i < m ∧ sC x y j (i + 1) + 1 = sC x y j i)
def myE (x : Nat → Nat) (m c : Nat) (e : Int32) : Prop := ∀ i, i < 32 → bt e i = decide (i < m ∧ x i = c)
def myF (m : Nat) (f : Int32) : Prop := ∀ i, i < 32 → bt f i = decide (i < m)
theorem my_U0 {x y : Nat → Nat} {m : Nat} {f : Int32} (hF : myF m f) : myU x y m 0 f := by
  intro i hi
  rw [hF i hi]
  by_cases h : i < m
  · rw [decide_eq_true h, decide_eq_true]; exact ⟨h, by rw [sC_0, sC_0]⟩
  · rw [decide_eq_false h, decide_eq_false]; exact fun q => h q.1
theorem my_D0 {x y : Nat → Nat} {m : Nat} : myD x y m 0 0 := by
  intro i hi
  rw [b_0, decide_eq_false]
  intro q
  rw [sC_0, sC_0] at q
  omega
/-- the carry is a step down from the left -/
theorem my_carry {x y : Nat → Nat} {m j : Nat} {u e : Int32} (hm : m ≤ 31) (hU : myU x y m j u) (hE : myE x m (y j) e) : ∀ i, i ≤ m → BitVec.carry i (e &&& u).toBitVec u.toBitVec false = decide (sC x y (j + 1) i + 1 = sC x y j i) := by
  intro i
  induction i with
  | zero =>
    intro _
    rw [BitVec.carry_zero, sC_j0, sC_j0]
    rfl
  | succ i ih =>
    intro hi
    have e1 : (e &&& u).toBitVec.getLsbD i = (decide (x i = y j) && decide (sC x y j (i + 1) = sC x y j i + 1)) := by
      show bt (e &&& u) i = _
      rw [b_and, hU i (by omega), hE i (by omega)]
      simp [show i < m by omega]
    have e2 : u.toBitVec.getLsbD i = decide (sC x y j (i + 1) = sC x y j i + 1) := by
      show bt u i = _
      rw [hU i (by omega)]
      simp [show i < m by omega]
    rw [BitVec.carry_succ, ih (by omega), e1, e2]
    have a1 := sC_adj x y j i
    have a2 := sC_adjH x y j i
    have es := sC_ss x y i j
    generalize sC x y (j + 1) (i + 1) = r at *
    generalize sC x y (j + 1) i = d at *
    generalize sC x y j (i + 1) = b at *
    generalize sC x y j i = a at *
    by_cases hp : x i = y j
    · rw [if_pos hp] at es
      have hS : (r + 1 = b) ↔ (b = a + 1) := by omega
      simp only [hS]
      by_cases hq : b = a + 1 <;> by_cases hr : d + 1 = a <;> simp [Bool.atLeastTwo, hp, hq, hr]
    · rw [if_neg hp] at es
      have hS : (r + 1 = b) ↔ (b = a + 1 ∧ d + 1 = a) := by omega
      simp only [hS]
      by_cases hq : b = a + 1 <;> by_cases hr : d + 1 = a <;> simp [Bool.atLeastTwo, hp, hq, hr]
theorem my_z {x y : Nat → Nat} {m j : Nat} {u e : Int32} (hm : m ≤ 31) (hU : myU x y m j u) (hE : myE x m (y j) e) {i : Nat} (hi : i < m) : bt (((e &&& u) + u) ^^^ u ||| e) i = decide (x i = y j ∨ sC x y (j + 1) i + 1 = sC x y j i) := by
  rw [b_or, b_xor, b_add _ _ (by omega), my_carry hm hU hE i (by omega), b_and, hU i (by omega), hE i (by omega)]
  by_cases hp : x i = y j <;> by_cases hq : sC x y j (i + 1) = sC x y j i + 1 <;> by_cases hr : sC x y (j + 1) i + 1 = sC x y j i <;> simp [hp, hq, hr, hi]
abbrev my_zw (u e : Int32) : Int32 := ((e &&& u) + u) ^^^ u ||| e
abbrev my_ri (u d e f : Int32) : Int32 := (d ||| ((my_zw u e ||| u) ^^^ (-1))) &&& f
abbrev my_fa (u e : Int32) : Int32 := u &&& my_zw u e
abbrev my_up (u d e f : Int32) : Int32 := ((my_fa u e <<< (nI 1 &&& 31)) ||| (((e ||| d) ||| (my_ri u d e f <<< (nI 1 &&& 31))) ^^^ (-1))) &&& f
abbrev my_dn (u d e f : Int32) : Int32 := ((my_ri u d e f <<< (nI 1 &&& 31)) &&& (e ||| d)) &&& f
section MY
variable {x y : Nat → Nat} {m j : Nat} {u d e f : Int32}
theorem my_rib (hm : m ≤ 31) (hU : myU x y m j u) (hD : myD x y m j d) (hE : myE x m (y j) e) (hF : myF m f) {i : Nat} (hi : i < 32) : bt (my_ri u d e f) i = decide (i < m ∧ sC x y (j + 1) (i + 1) = sC x y j (i + 1) + 1) := by
  unfold my_ri
  rw [b_and, hF i hi]
  by_cases h : i < m
  · rw [b_or, b_xor, b_or, b_m1 i hi, my_z hm hU hE h, hU i hi, hD i hi]
    have a1 := sC_adj x y j i
    have a2 := sC_adjH x y j i
    have es := sC_ss x y i j
    generalize sC x y (j + 1) (i + 1) = r at *
    generalize sC x y (j + 1) i = d' at *
    generalize sC x y j (i + 1) = b at *
    generalize sC x y j i = a at *
    by_cases hp : x i = y j
    · rw [if_pos hp] at es
      have hS : (i < m ∧ r = b + 1) ↔ (b + 1 = a) := by omega
      simp only [hS]
      by_cases hq : b = a + 1 <;> by_cases hr : b + 1 = a <;> simp [hp, hq, hr, h]
    · rw [if_neg hp] at es
      have hS : (i < m ∧ r = b + 1) ↔ (b + 1 = a ∨ ¬ (d' + 1 = a ∨ b = a + 1)) := by omega
      simp only [hS]
      by_cases hq : b = a + 1 <;> by_cases hr : b + 1 = a <;> by_cases ht : d' + 1 = a <;> simp [hp, hq, hr, ht, h]
  · simp [h]
theorem my_fab (hm : m ≤ 31) (hU : myU x y m j u) (hE : myE x m (y j) e) {i : Nat} (hi : i < 32) : bt (my_fa u e) i = decide (i < m ∧ sC x y (j + 1) (i + 1) + 1 = sC x y j (i + 1)) := by
  unfold my_fa
  rw [b_and, hU i hi]
  by_cases h : i < m
  · rw [my_z hm hU hE h]
    have a1 := sC_adj x y j i
    have a2 := sC_adjH x y j i
    have es := sC_ss x y i j
    generalize sC x y (j + 1) (i + 1) = r at *
    generalize sC x y (j + 1) i = d' at *
    generalize sC x y j (i + 1) = b at *
    generalize sC x y j i = a at *
    by_cases hp : x i = y j
    · rw [if_pos hp] at es
      have hS : (i < m ∧ r + 1 = b) ↔ (b = a + 1) := by omega
      simp only [hS]
      by_cases hq : b = a + 1 <;> simp [hp, hq, h]
    · rw [if_neg hp] at es
      have hS : (i < m ∧ r + 1 = b) ↔ (b = a + 1 ∧ d' + 1 = a) := by omega
      simp only [hS]
      by_cases hq : b = a + 1 <;> by_cases ht : d' + 1 = a <;> simp [hp, hq, ht, h]
  · simp [h]
theorem my_ri2 (hm : m ≤ 31) (hU : myU x y m j u) (hD : myD x y m j d) (hE : myE x m (y j) e) (hF : myF m f) {i : Nat} (hi : i < m) : bt (my_ri u d e f <<< (nI 1 &&& 31)) i = decide (sC x y (j + 1) i = sC x y j i + 1) := by
  rw [b_shl 1 (by omega) _ (by omega)]
  cases i with
  | zero => rw [sC_j0, sC_j0]; simp
  | succ i =>
    rw [show i + 1 - 1 = i by omega, my_rib hm hU hD hE hF (by omega)]
    simp [show i < m by omega]
theorem my_fa2 (hm : m ≤ 31) (hU : myU x y m j u) (hE : myE x m (y j) e) {i : Nat} (hi : i < m) : bt (my_fa u e <<< (nI 1 &&& 31)) i = decide (sC x y (j + 1) i + 1 = sC x y j i) := by
  rw [b_shl 1 (by omega) _ (by omega)]
  cases i with
  | zero => rw [sC_j0, sC_j0]; simp
  | succ i =>
    rw [show i + 1 - 1 = i by omega, my_fab hm hU hE (by omega)]
    simp [show i < m by omega]
theorem my_upb (hm : m ≤ 31) (hU : myU x y m j u) (hD : myD x y m j d) (hE : myE x m (y j) e) (hF : myF m f) : myU x y m (j + 1) (my_up u d e f) := by
  intro i hi
  unfold my_up
  rw [b_and, hF i hi]
  by_cases h : i < m
  · rw [b_or, b_xor, b_or, b_or, b_m1 i hi, my_fa2 hm hU hE h, my_ri2 hm hU hD hE hF h, hE i hi, hD i hi]
    have a1 := sC_adj x y j i
    have a2 := sC_adjH x y j i
    have es := sC_ss x y i j
    generalize sC x y (j + 1) (i + 1) = r at *
    generalize sC x y (j + 1) i = d' at *
    generalize sC x y j (i + 1) = b at *
    generalize sC x y j i = a at *
    by_cases hp : x i = y j
    · rw [if_pos hp] at es
      have hS : (i < m ∧ r = d' + 1) ↔ (d' + 1 = a) := by omega
      simp only [hS]
      by_cases hq : d' + 1 = a <;> simp [hp, hq, h]
    · rw [if_neg hp] at es
      have hS : (i < m ∧ r = d' + 1) ↔ (d' + 1 = a ∨ ¬ (b + 1 = a ∨ d' = a + 1)) := by omega
      simp only [hS]
      by_cases hq : d' + 1 = a <;> by_cases hr : b + 1 = a <;> by_cases ht : d' = a + 1 <;> simp [hp, hq, hr, ht, h]
  · simp [h]
theorem my_dnb (hm : m ≤ 31) (hU : myU x y m j u) (hD : myD x y m j d) (hE : myE x m (y j) e) (hF : myF m f) : myD x y m (j + 1) (my_dn u d e f) := by
  intro i hi
  unfold my_dn
  rw [b_and, hF i hi]
  by_cases h : i < m
  · rw [b_and, b_or, my_ri2 hm hU hD hE hF h, hE i hi, hD i hi]
    have a1 := sC_adj x y j i
    have a2 := sC_adjH x y j i
    have es := sC_ss x y i j
    generalize sC x y (j + 1) (i + 1) = r at *
    generalize sC x y (j + 1) i = d' at *
    generalize sC x y j (i + 1) = b at *
    generalize sC x y j i = a at *
    by_cases hp : x i = y j
    · rw [if_pos hp] at es
      have hS : (i < m ∧ r + 1 = d') ↔ (d' = a + 1) := by omega
      simp only [hS]
      by_cases hq : d' = a + 1 <;> simp [hp, hq, h]
    · rw [if_neg hp] at es
      have hS : (i < m ∧ r + 1 = d') ↔ (d' = a + 1 ∧ b + 1 = a) := by omega
      simp only [hS]
      by_cases hq : d' = a + 1 <;> by_cases hr : b + 1 = a <;> simp [hp, hq, hr, h]
  · simp [h]
/-- the score goes with the top bits -/
theorem my_sc1 (h1 : 1 ≤ m) (hm : m ≤ 31) (hU : myU x y m j u) (hD : myD x y m j d) (hE : myE x m (y j) e) (hF : myF m f) {t : Int32} (ht : ∀ i, i < 32 → bt t i = decide (i = m - 1)) : (my_ri u d e f &&& t) = 0 ↔ ¬ sC x y (j + 1) m = sC x y j m + 1 := by
  rw [b_top (show m - 1 < 32 by omega) ht, my_rib hm hU hD hE hF (by omega), show m - 1 + 1 = m by omega]
  simp [show m - 1 < m by omega]
theorem my_sc2 (h1 : 1 ≤ m) (hm : m ≤ 31) (hU : myU x y m j u) (hE : myE x m (y j) e) {t : Int32} (ht : ∀ i, i < 32 → bt t i = decide (i = m - 1)) : (my_fa u e &&& t) = 0 ↔ ¬ sC x y (j + 1) m + 1 = sC x y j m := by
  rw [b_top (show m - 1 < 32 by omega) ht, my_fab hm hU hE (by omega), show m - 1 + 1 = m by omega]
  simp [show m - 1 < m by omega]
end MY
/-- the places of the first k letters, a word a letter -/
def myM (q : Nat → Nat) (k : Nat) (mk : Nat → Int32) : Prop := ∀ l, l < 4 → ∀ i, i < 32 → bt (mk l) i = decide (i < k ∧ q i = l)
theorem myM_step {q : Nat → Nat} {k : Nat} {mk : Nat → Int32} (hk : k < 32) (h : myM q k mk) : myM q (k + 1) (va_up mk (q k) (mk (q k) ||| (nI 1 <<< (nI k &&& 31)))) := by
  intro l hl i hi
  by_cases e : l = q k
  · subst e
    rw [up_s, b_or, h _ hl i hi, b_shl k hk _ hi]
    rcases Nat.lt_or_ge i k with c | c
    · simp [c, Nat.not_le.mpr c, show i < k + 1 by omega]
    · rw [b_1 (i - k) (by omega)]
      by_cases c2 : i = k
      · subst c2; simp
      · simp [c, show ¬ i < k by omega, show ¬ i < k + 1 by omega, show ¬ i - k = 0 by omega]
  · rw [up_n _ _ e, h l hl i hi]
    by_cases c2 : i = k
    · subst c2
      simp [show ¬ q i = l from fun z => e z.symm]
    · rw [decide_eq_decide]
      constructor
      · intro z; exact ⟨by omega, z.2⟩
      · intro z; exact ⟨by omega, z.2⟩
end
section
/-! what the methods answer, and small rows for the walks -/
/-- a document's letters -/
abbrev dc (lt : Nat → Nat) (d : Nat) : Nat → Nat := fun i => lt (16 * d + i)
abbrev inD (p : Int32) : Prop := ¬ p < 0 ∧ p ≤ nI 7
theorem inD_of {p : Int32} (h : inD p) : ∃ d : Nat, d < 8 ∧ p = nI d := by
  obtain ⟨j, h1, h2⟩ := nI_of2 (M := nI 7) (n := 7) (by decide) h.1 h.2
  exact ⟨j, by omega, h2⟩
theorem inD_nI {d : Nat} (h : d < 8) : inD (nI d) := ⟨nI_pos (by omega), nI_le (by omega) (by decide)⟩
theorem up_fill {α : Type} {f g : Nat → α} {i : Nat} (h : ∀ t, t < i → f t = g t) : ∀ t, t < i + 1 → va_up f i (g i) t = g t := by
  intro t ht
  by_cases e : t = i
  · rw [e, up_s]
  · rw [up_n _ _ e]; exact h t (by omega)
theorem lt_sub {a b w : Nat} (ha : a < 1073741824) (hb : b < 1073741824) (hw : w < 1073741824) : nI w < nI a - nI b ↔ b + w < a := by
  rw [Int32.lt_iff_toInt_lt, nI_toInt (by omega), pk_sub_toInt ha hb]
  omega
theorem sub_le {a b w : Nat} (ha : a < 1073741824) (hb : b < 1073741824) (hw : w < 1073741824) : nI a - nI b ≤ nI w ↔ a ≤ b + w := by
  rw [Int32.le_iff_toInt_le, nI_toInt (by omega), pk_sub_toInt ha hb]
  omega
def inv0 (ln lt pn : Nat → Nat) (ql : Nat) (q qp : Nat → Nat) : Prop := (∀ d, d < 8 → ln d ≤ 16) ∧ (∀ k, lt k < 4) ∧ ql ≤ 8 ∧ (∀ k, q k < 4) ∧ (∀ d, d < 8 → ∀ p, p < 16 → pn (16 * d + p) = cQ (dc lt d) p (ln d - 1)) ∧ (∀ p, p < 16 → qp p = cQ q p (ql - 1))
def inv1 (ln lt : Nat → Nat) (ql : Nat) (q : Nat → Nat) : Prop := (∀ d, d < 8 → ln d ≤ 16) ∧ (∀ k, lt k < 4) ∧ ql ≤ 8 ∧ (∀ k, q k < 4)
theorem inv0_1 {ln lt pn : Nat → Nat} {ql : Nat} {q qp : Nat → Nat} (h : inv0 ln lt pn ql q qp) : inv1 ln lt ql q := ⟨h.1, h.2.1, h.2.2.1, h.2.2.2.1⟩
/-- one cell of the band's next column -/
def cellV (xx yy co nc : Nat → Nat) (w i j : Nat) : Nat := if j + w < i ∨ i + w < j then 100 else if i = 0 then co i + 1 else min (min (co i + 1) (co (i - 1) + if xx (i - 1) = yy (j - 1) then 0 else 1)) (nc (i - 1) + 1)
theorem cellV_eq {xx yy co nc : Nat → Nat} {w i j : Nat} (hj : 1 ≤ j) (hc : ∀ t, t ≤ i → co t = bC xx yy w (j - 1) t) (hn : ∀ t, t < i → nc t = bC xx yy w j t) : cellV xx yy co nc w i j = bC xx yy w j i := by
  obtain ⟨j, rfl⟩ : ∃ j', j = j' + 1 := ⟨j - 1, by omega⟩
  rw [show j + 1 - 1 = j by omega] at hc
  unfold cellV
  cases i with
  | zero =>
    rw [bC_s0, hc 0 (by omega)]
    by_cases h : w < j + 1
    · rw [if_pos h, if_pos (by omega)]
    · rw [if_neg h, if_neg (by omega), if_pos rfl]
  | succ i =>
    rw [bC_ss, if_neg (show ¬ i + 1 = 0 by omega), show i + 1 - 1 = i by omega, show j + 1 - 1 = j by omega, hc (i + 1) (by omega), hc i (by omega), hn i (by omega)]
theorem band_ok {x y : Nat → Nat} {w m n : Nat} (hm : m ≤ 16) (hn : n ≤ 16) (h : bC x y w n m ≤ w) : bC x y w n m = eD x y m n := bC_eq x y w n m (by omega) (by omega) (Nat.le_trans (bC_ge x y w n m (by omega) (by omega)) h)
theorem band_32 {x y : Nat → Nat} {m n : Nat} (hm : m ≤ 16) (hn : n ≤ 16) : bC x y 32 n m = eD x y m n := bC_eq x y 32 n m (by omega) (by omega) (by have := eD_le x y m n; omega)
theorem bEn_m0 (x y : Nat → Nat) : ∀ n, bEn x y 0 n = 0 := by
  intro n
  induction n with
  | zero => rfl
  | succ n ih =>
    have := bDi_le x y 0 n
    unfold bEn
    rw [if_neg (by omega), ih]
end
section
set_option maxHeartbeats 4000000 in
set_option maxRecDepth 100000 in
/-- isDoc(p): 1 just for 0 .. 7 -/
theorem mt0_isDoc (l : Launch) (D : va_G) (cA : ClassId) (sz : Nat) (p0 : Int32) : nMi l yX0_isDoc cX0_isDoc 1 .boolean 0 [.int p0] D vwCl cA [] sz (fun (r : Int32) (u : Unit) => r = nI (if inD p0 then 1 else 0)) (fun (u : Unit) => []) := by
  refine nr_metI (by decide) (Nat.le_of_ble_eq_true rfl) ?_
  intro p e s m below meth c A ls hx hb hr hml hown hlocks hts hA hK hP hD hS hl
  have hown : s.vm.findClass RX0 = some m.cls := hown
  have hl : lv_has ls 1 [(0, .int p0)] := hl
  have hP : va_P D vwCl [] s.heap := hP
  refine lv_iload_n hx hb dX0_isDoc_0 rfl (lv_at hl 0 rfl) ?_
  refine lv_if_lt (tgt := 14) hx hb dX0_isDoc_1 (by decide) (fun c1 => ?_) (fun c1 => ?_)
  · skip
    refine lv_iconst (v := nI 0) hx hb dX0_isDoc_14 (by decide) ?_
    exact nr_zret hx hb hr (rfl) hlocks hK () hP hD hS (show (nI 0) = nI (if inD p0 then 1 else 0) from congrArg nI (if_neg (fun h => by first | exact h.1 c1 | exact Int32.not_lt.mpr h.2 c7)).symm) dX0_isDoc_15
  · skip
    refine lv_iload_n hx hb dX0_isDoc_4 rfl (lv_at hl 0 rfl) ?_
    refine lv_bipush (v := nI 7) hx hb dX0_isDoc_5 (by decide) ?_
    refine lv_icmp_gt (tgt := 14) hx hb dX0_isDoc_7 (by decide) (fun c7 => ?_) (fun c7 => ?_)
    · skip
      refine lv_iconst (v := nI 0) hx hb dX0_isDoc_14 (by decide) ?_
      exact nr_zret hx hb hr (rfl) hlocks hK () hP hD hS (show (nI 0) = nI (if inD p0 then 1 else 0) from congrArg nI (if_neg (fun h => by first | exact h.1 c1 | exact Int32.not_lt.mpr h.2 c7)).symm) dX0_isDoc_15
    · skip
      refine lv_iconst (v := nI 1) hx hb dX0_isDoc_10 (by decide) ?_
      refine lv_goto (tgt := 15) hx hb dX0_isDoc_11 (by decide) ?_
      exact nr_zret hx hb hr (rfl) hlocks hK () hP hD hS (show (nI 1) = nI (if inD p0 then 1 else 0) from congrArg nI (if_pos ⟨c1, Int32.not_lt.mp c7⟩).symm) dX0_isDoc_15
set_option maxHeartbeats 4000000 in
set_option maxRecDepth 100000 in
/-- sharedPairs(d) -/
theorem mt0_sharedPairs (l : Launch) (D : va_G) (ad : Nat → Nat) (cA : ClassId) (sz : Nat) (ln : Nat → Nat) (lt : Nat → Nat) (pn : Nat → Nat) (ql : Nat) (q : Nat → Nat) (qp : Nat → Nat) (mk : Nat → Int32) (bd : Nat) (be : Nat) (xl : Nat) (yl : Nat) (xx : Nat → Nat) (yy : Nat → Nat) (co : Nat → Nat) (nc : Nat → Nat) (d : Nat) (hd : d < 8) (hI : inv0 ln lt pn ql q qp) : nMi l yX0_sharedPairs cX0_sharedPairs 5 .int 0 [.ref (ad 0), .int (nI d)] D vwCl cA (wX0 ad cA ln lt pn ql q qp mk bd be xl yl xx yy co nc) sz (fun (r : Int32) (u : Unit) => r = nI (shP q ql (dc lt d) (ln d) 16)) (fun (u : Unit) => (wX0 ad cA ln lt pn ql q qp mk bd be xl yl xx yy co nc)) := by
  refine nr_metI (by decide) (Nat.le_of_ble_eq_true rfl) ?_
  intro p e s m below meth c A ls hx hb hr hml hown hlocks hts hA hK hP hD hS hl
  have hown : s.vm.findClass RX0 = some m.cls := hown
  have hl : lv_has ls 5 [(0, .ref (ad 0)), (1, .int (nI d))] := hl
  have hP : va_P D vwCl (wX0 ad cA ln lt pn ql q qp mk bd be xl yl xx yy co nc) s.heap := hP
  refine lv_iconst (v := nI 0) hx hb dX0_sharedPairs_0 (by decide) ?_
  refine lv_istore_n (lv' := [(2, .int (nI 0)), (0, .ref (ad 0)), (1, .int (nI d))]) hx hb dX0_sharedPairs_1 rfl hl (by decide) rfl (fun ls hl => ?_)
  refine lv_iconst (v := nI 0) hx hb dX0_sharedPairs_2 (by decide) ?_
  refine lv_istore_n (lv' := [(3, .int (nI 0)), (2, .int (nI 0)), (0, .ref (ad 0)), (1, .int (nI d))]) hx hb dX0_sharedPairs_3 rfl hl (by decide) rfl (fun ls hl => ?_)
  refine nr_loop (σ := Nat × Nat) (fun v H locs ls => (fun (n : Nat) (k : Nat) => (k ≤ 16) ∧ (n = shP q ql (dc lt d) (ln d) k) ∧ va_P D vwCl (wX0 ad cA ln lt pn ql q qp mk bd be xl yl xx yy co nc) H ∧ va_D A (wX0 ad cA ln lt pn ql q qp mk bd be xl yl xx yy co nc) ∧ va_S A s.heap H locs ∧ lv_has ls 5 [(0, .ref (ad 0)), (1, .int (nI d)), (2, .int (nI n)), (3, .int (nI k))]) v.1 v.2) (fun v => (fun (n : Nat) (k : Nat) => 16 - k) v.1 v.2) ?_ (0, 0) ⟨(show 0 ≤ 16 from by omega), (show 0 = shP q ql (dc lt d) (ln d) 0 from rfl), hP, hD, hS, lv_sub hl [2, 3, 1, 0] rfl⟩
  intro v H locs ls hv ih4
  obtain ⟨n, k⟩ := v
  obtain ⟨hk, hn, hP, hD, hS, hl⟩ := hv
  have hk : k ≤ 16 := hk
  have hn : n = shP q ql (dc lt d) (ln d) k := hn
  have hP : va_P D vwCl (wX0 ad cA ln lt pn ql q qp mk bd be xl yl xx yy co nc) H := hP
  have hD : va_D A (wX0 ad cA ln lt pn ql q qp mk bd be xl yl xx yy co nc) := hD
  have hl : lv_has ls 5 [(0, .ref (ad 0)), (1, .int (nI d)), (2, .int (nI n)), (3, .int (nI k))] := hl
  refine lv_iload_n hx hb dX0_sharedPairs_4 rfl (lv_at hl 3 rfl) ?_
  refine lv_bipush (v := nI 16) hx hb dX0_sharedPairs_5 (by decide) ?_
  refine nr_icmp_ge (tgt := 54) hx hb dX0_sharedPairs_7 (by decide) (by omega) (by omega) (fun c7 => ?_) (fun c7 => ?_)
  · skip
    refine lv_iload_n hx hb dX0_sharedPairs_54 rfl (lv_at hl 2 rfl) ?_
    exact nr_iret hx hb hr hlocks hK () hP hD hS (show (nI n) = nI (shP q ql (dc lt d) (ln d) 16) from by rw [hn, show k = 16 by omega]) dX0_sharedPairs_55
  · skip
    have e1 := hI.2.2.2.2.1 d hd k (by omega)
    have e2 := hI.2.2.2.2.2 k (by omega)
    have b1 := cQ_le (dc lt d) k (ln d - 1)
    have b2 := cQ_le q k (ql - 1)
    have b3 := hI.1 d hd
    have b4 := hI.2.2.1
    refine lv_aload_n hx hb dX0_sharedPairs_10 rfl (lv_at hl 0 rfl) ?_
    refine va_get (D := D) (ci := 0) (v := .ref (ad 3)) (C := RX0) (T := TX0) (N := 15) hx hb hts in_X0 hown hK hP 0 rfl rfl 2 (by decide) (hts _ q27) (fun _ h9 => h9) rfl dX0_sharedPairs_11 ?_
    refine lv_bipush (v := nI 16) hx hb dX0_sharedPairs_14 (by decide) ?_
    refine lv_iload_n hx hb dX0_sharedPairs_16 rfl (lv_at hl 1 rfl) ?_
    refine nr_mul hx hb dX0_sharedPairs_17 ?_
    refine lv_iload_n hx hb dX0_sharedPairs_18 rfl (lv_at hl 3 rfl) ?_
    refine nr_add hx hb dX0_sharedPairs_19 ?_
    refine nr_iald (f := pn) (n := 128) (i := (16 * d) + k) hx hb hK hP 3 rfl rfl (by omega) (by decide) dX0_sharedPairs_20 ?_
    refine lv_istore (lv' := [(4, .int (nI (pn ((16 * d) + k)))), (0, .ref (ad 0)), (1, .int (nI d)), (2, .int (nI n)), (3, .int (nI k))]) hx hb dX0_sharedPairs_21 hl (by decide) rfl (fun ls hl => ?_)
    refine lv_iload_n hx hb dX0_sharedPairs_23 rfl (lv_at hl 3 rfl) ?_
    refine lv_iload hx hb dX0_sharedPairs_24 (lv_at hl 0 rfl) ?_
    refine lv_aload_n hx hb dX0_sharedPairs_26 rfl (lv_at hl 1 rfl) ?_
    refine va_get (D := D) (ci := 0) (v := .ref (ad 5)) (C := RX0) (T := TX0) (N := 15) hx hb hts in_X0 hown hK hP 0 rfl rfl 5 (by decide) (hts _ q30) (fun _ h9 => h9) rfl dX0_sharedPairs_27 ?_
    refine lv_iload_n hx hb dX0_sharedPairs_30 rfl (lv_at hl 4 rfl) ?_
    refine nr_iald (f := qp) (n := 16) (i := k) hx hb hK hP 5 rfl rfl (by omega) (by decide) dX0_sharedPairs_31 ?_
    refine nr_cut (F0 m 46 ls [.int (nI (min (pn (16 * d + k)) (qp k))), .int (nI n)]) ?_ (fun J46 => ?_)
    · skip
      refine nr_add hx hb dX0_sharedPairs_46 ?_
      refine lv_istore_n (lv' := [(2, .int (nI (n + (min (pn (16 * d + k)) (qp k))))), (4, .int (nI (pn ((16 * d) + k)))), (0, .ref (ad 0)), (1, .int (nI d)), (3, .int (nI k))]) hx hb dX0_sharedPairs_47 rfl hl (by decide) rfl (fun ls hl => ?_)
      refine lv_iinc (v := nI (k + 1)) (lv' := [(3, .int (nI (k + 1))), (2, .int (nI (n + (min (pn (16 * d + k)) (qp k))))), (4, .int (nI (pn ((16 * d) + k)))), (0, .ref (ad 0)), (1, .int (nI d))]) hx hb dX0_sharedPairs_48 hl (k := 4) rfl (nI_add k 1) (by decide) rfl (fun ls hl => ?_)
      refine lv_goto (tgt := 4) hx hb dX0_sharedPairs_51 (by decide) ?_
      exact ih4 (n + (min (pn (16 * d + k)) (qp k)), k + 1) _ _ _ ⟨(show (k + 1) ≤ 16 from by omega), (show (n + (min (pn (16 * d + k)) (qp k))) = shP q ql (dc lt d) (ln d) (k + 1) from by show n + min (pn (16 * d + k)) (qp k) = shP q ql (dc lt d) (ln d) k + min (cQ q k (ql - 1)) (cQ (dc lt d) k (ln d - 1)); rw [← e1, ← e2, ← hn]; omega), hP, hD, hS, lv_sub hl [3, 4, 1, 0] rfl⟩ (show 16 - (k + 1) < 16 - k from by omega)
    refine nr_icmp_ge (tgt := 40) hx hb dX0_sharedPairs_32 (by decide) (by omega) (by omega) (fun c32 => ?_) (fun c32 => ?_)
    · skip
      refine lv_aload_n hx hb dX0_sharedPairs_40 rfl (lv_at hl 1 rfl) ?_
      refine va_get (D := D) (ci := 0) (v := .ref (ad 5)) (C := RX0) (T := TX0) (N := 15) hx hb hts in_X0 hown hK hP 0 rfl rfl 5 (by decide) (hts _ q30) (fun _ h9 => h9) rfl dX0_sharedPairs_41 ?_
      refine lv_iload_n hx hb dX0_sharedPairs_44 rfl (lv_at hl 4 rfl) ?_
      refine nr_iald (f := qp) (n := 16) (i := k) hx hb hK hP 5 rfl rfl (by omega) (by decide) dX0_sharedPairs_45 ?_
      exact nr_as (show nI (qp k) = nI (min (pn (16 * d + k)) (qp k)) from congrArg nI (by omega)) J46
    · skip
      refine lv_iload hx hb dX0_sharedPairs_35 (lv_at hl 0 rfl) ?_
      refine lv_goto (tgt := 46) hx hb dX0_sharedPairs_37 (by decide) ?_
      exact nr_as (show nI (pn ((16 * d) + k)) = nI (min (pn (16 * d + k)) (qp k)) from congrArg nI (by omega)) J46
set_option maxHeartbeats 4000000 in
set_option maxRecDepth 100000 in
/-- takeAsY(d) -/
theorem mt0_takeAsY (l : Launch) (D : va_G) (ad : Nat → Nat) (cA : ClassId) (sz : Nat) (ln : Nat → Nat) (lt : Nat → Nat) (pn : Nat → Nat) (ql : Nat) (q : Nat → Nat) (qp : Nat → Nat) (mk : Nat → Int32) (bd : Nat) (be : Nat) (xl : Nat) (yl : Nat) (xx : Nat → Nat) (yy : Nat → Nat) (co : Nat → Nat) (nc : Nat → Nat) (d : Nat) (hd : d < 8) (hn : ln d ≤ 16) : nMv l yX0_takeAsY cX0_takeAsY 3 0 [.ref (ad 0), .int (nI d)] D vwCl cA (wX0 ad cA ln lt pn ql q qp mk bd be xl yl xx yy co nc) sz (fun (u : Nat × (Nat → Nat)) => (fun (yl' : Nat) (yy' : Nat → Nat) => yl' = ln d ∧ ∀ t, t < ln d → yy' t = lt (16 * d + t)) u.1 u.2) (fun (u : Nat × (Nat → Nat)) => (fun (yl' : Nat) (yy' : Nat → Nat) => (wX0 ad cA ln lt pn ql q qp mk bd be xl yl' xx yy' co nc)) u.1 u.2) := by
  refine nr_metV (by decide) (Nat.le_of_ble_eq_true rfl) ?_
  intro p e s m below meth c A ls hx hb hr hml hown hlocks hts hA hK hP hD hS hl
  have hown : s.vm.findClass RX0 = some m.cls := hown
  have hl : lv_has ls 3 [(0, .ref (ad 0)), (1, .int (nI d))] := hl
  have hP : va_P D vwCl (wX0 ad cA ln lt pn ql q qp mk bd be xl yl xx yy co nc) s.heap := hP
  refine lv_iconst (v := nI 0) hx hb dX0_takeAsY_0 (by decide) ?_
  refine lv_istore_n (lv' := [(2, .int (nI 0)), (0, .ref (ad 0)), (1, .int (nI d))]) hx hb dX0_takeAsY_1 rfl hl (by decide) rfl (fun ls hl => ?_)
  refine nr_loop (σ := Nat × (Nat → Nat)) (fun v H locs ls => (fun (i : Nat) (yy : Nat → Nat) => (i ≤ ln d) ∧ (∀ t, t < i → yy t = lt (16 * d + t)) ∧ va_P D vwCl (wX0 ad cA ln lt pn ql q qp mk bd be xl yl xx yy co nc) H ∧ va_D A (wX0 ad cA ln lt pn ql q qp mk bd be xl yl xx yy co nc) ∧ va_S A s.heap H locs ∧ lv_has ls 3 [(0, .ref (ad 0)), (1, .int (nI d)), (2, .int (nI i))]) v.1 v.2) (fun v => (fun (i : Nat) (yy : Nat → Nat) => ln d - i) v.1 v.2) ?_ (0, yy) ⟨(show 0 ≤ ln d from by omega), (show ∀ t, t < 0 → yy t = lt (16 * d + t) from fun t h => absurd h (Nat.not_lt_zero t)), hP, hD, hS, lv_sub hl [1, 2, 0] rfl⟩
  intro v H locs ls hv ih2
  obtain ⟨i, yy⟩ := v
  obtain ⟨hi, hy, hP, hD, hS, hl⟩ := hv
  have hi : i ≤ ln d := hi
  have hy : ∀ t, t < i → yy t = lt (16 * d + t) := hy
  have hP : va_P D vwCl (wX0 ad cA ln lt pn ql q qp mk bd be xl yl xx yy co nc) H := hP
  have hD : va_D A (wX0 ad cA ln lt pn ql q qp mk bd be xl yl xx yy co nc) := hD
  have hl : lv_has ls 3 [(0, .ref (ad 0)), (1, .int (nI d)), (2, .int (nI i))] := hl
  refine lv_iload_n hx hb dX0_takeAsY_2 rfl (lv_at hl 2 rfl) ?_
  refine lv_aload_n hx hb dX0_takeAsY_3 rfl (lv_at hl 0 rfl) ?_
  refine va_get (D := D) (ci := 0) (v := .ref (ad 1)) (C := RX0) (T := TX0) (N := 15) hx hb hts in_X0 hown hK hP 0 rfl rfl 0 (by decide) (hts _ q25) (fun _ h9 => h9) rfl dX0_takeAsY_4 ?_
  refine lv_iload_n hx hb dX0_takeAsY_7 rfl (lv_at hl 1 rfl) ?_
  refine nr_iald (f := ln) (n := 8) (i := d) hx hb hK hP 1 rfl rfl (by omega) (by decide) dX0_takeAsY_8 ?_
  refine nr_icmp_ge (tgt := 35) hx hb dX0_takeAsY_9 (by decide) (by omega) (by omega) (fun c9 => ?_) (fun c9 => ?_)
  · skip
    refine lv_aload_n hx hb dX0_takeAsY_35 rfl (lv_at hl 0 rfl) ?_
    refine lv_aload_n hx hb dX0_takeAsY_36 rfl (lv_at hl 0 rfl) ?_
    refine va_get (D := D) (ci := 0) (v := .ref (ad 1)) (C := RX0) (T := TX0) (N := 15) hx hb hts in_X0 hown hK hP 0 rfl rfl 0 (by decide) (hts _ q25) (fun _ h9 => h9) rfl dX0_takeAsY_37 ?_
    refine lv_iload_n hx hb dX0_takeAsY_40 rfl (lv_at hl 1 rfl) ?_
    refine nr_iald (f := ln) (n := 8) (i := d) hx hb hK hP 1 rfl rfl (by omega) (by decide) dX0_takeAsY_41 ?_
    refine va_put (D := D) (ci := 0) (v := .int (nI (ln d))) (ty := .int) (C := RX0) (T := TX0) (N := 15) hx hb hts in_X0 tyX0 tyX0_ok nmX0 hown hK hP hD hS 0 rfl rfl 10 (by decide) (hts _ q35) (fun _ h9 => h9) rfl (by decide +kernel) rfl rfl (Nat.le_of_ble_eq_true rfl) dX0_takeAsY_42 (fun H locs hP hD hS => ?_)
    have hP : va_P D vwCl (wX0 ad cA ln lt pn ql q qp mk bd be xl (ln d) xx yy co nc) H := hP
    have hD : va_D A (wX0 ad cA ln lt pn ql q qp mk bd be xl (ln d) xx yy co nc) := hD
    exact nr_vret hx hb hr hlocks hK (ln d, yy) hP hD hS (show (ln d) = ln d ∧ ∀ t, t < ln d → yy t = lt (16 * d + t) from ⟨rfl, fun t h => hy t (by omega)⟩) dX0_takeAsY_45
  · skip
    refine lv_aload_n hx hb dX0_takeAsY_12 rfl (lv_at hl 0 rfl) ?_
    refine va_get (D := D) (ci := 0) (v := .ref (ad 8)) (C := RX0) (T := TX0) (N := 15) hx hb hts in_X0 hown hK hP 0 rfl rfl 12 (by decide) (hts _ q37) (fun _ h9 => h9) rfl dX0_takeAsY_13 ?_
    refine lv_iload_n hx hb dX0_takeAsY_16 rfl (lv_at hl 2 rfl) ?_
    refine lv_aload_n hx hb dX0_takeAsY_17 rfl (lv_at hl 0 rfl) ?_
    refine va_get (D := D) (ci := 0) (v := .ref (ad 2)) (C := RX0) (T := TX0) (N := 15) hx hb hts in_X0 hown hK hP 0 rfl rfl 1 (by decide) (hts _ q26) (fun _ h9 => h9) rfl dX0_takeAsY_18 ?_
    refine lv_bipush (v := nI 16) hx hb dX0_takeAsY_21 (by decide) ?_
    refine lv_iload_n hx hb dX0_takeAsY_23 rfl (lv_at hl 1 rfl) ?_
    refine nr_mul hx hb dX0_takeAsY_24 ?_
    refine lv_iload_n hx hb dX0_takeAsY_25 rfl (lv_at hl 2 rfl) ?_
    refine nr_add hx hb dX0_takeAsY_26 ?_
    refine nr_iald (f := lt) (n := 128) (i := (16 * d) + i) hx hb hK hP 2 rfl rfl (by omega) (by decide) dX0_takeAsY_27 ?_
    refine nr_iast (f := yy) (n := 16) (i := i) (v := lt ((16 * d) + i)) hx hb hK hP hD hS 8 rfl rfl (by omega) (by decide) dX0_takeAsY_28 (fun H locs hP hD hS => ?_)
    have hP : va_P D vwCl (wX0 ad cA ln lt pn ql q qp mk bd be xl yl xx (va_up yy i (lt ((16 * d) + i))) co nc) H := hP
    have hD : va_D A (wX0 ad cA ln lt pn ql q qp mk bd be xl yl xx (va_up yy i (lt ((16 * d) + i))) co nc) := hD
    refine lv_iinc (v := nI (i + 1)) (lv' := [(2, .int (nI (i + 1))), (0, .ref (ad 0)), (1, .int (nI d))]) hx hb dX0_takeAsY_29 hl (k := 2) rfl (nI_add i 1) (by decide) rfl (fun ls hl => ?_)
    refine lv_goto (tgt := 2) hx hb dX0_takeAsY_32 (by decide) ?_
    exact ih2 (i + 1, va_up yy i (lt ((16 * d) + i))) _ _ _ ⟨(show (i + 1) ≤ ln d from by omega), (show ∀ t, t < (i + 1) → (va_up yy i (lt ((16 * d) + i))) t = lt (16 * d + t) from up_fill (g := fun t => lt (16 * d + t)) hy), hP, hD, hS, lv_sub hl [1, 2, 0] rfl⟩ (show ln d - (i + 1) < ln d - i from by omega)
set_option maxHeartbeats 4000000 in
set_option maxRecDepth 100000 in
/-- cell(i, j, band) -/
theorem mt0_cell (l : Launch) (D : va_G) (ad : Nat → Nat) (cA : ClassId) (sz : Nat) (ln : Nat → Nat) (lt : Nat → Nat) (pn : Nat → Nat) (ql : Nat) (q : Nat → Nat) (qp : Nat → Nat) (mk : Nat → Int32) (bd : Nat) (be : Nat) (xl : Nat) (yl : Nat) (xx : Nat → Nat) (yy : Nat → Nat) (co : Nat → Nat) (nc : Nat → Nat) (i : Nat) (j : Nat) (w : Nat) (hi : i ≤ 16) (hj : 1 ≤ j) (hj2 : j ≤ 16) (hw : w ≤ 1000) (hc : ∀ t, t ≤ i → co t ≤ 200) (hnc : ∀ t, t < i → nc t ≤ 200) (h1 : ∀ t, t < i → xx t < 4) (h2 : yy (j - 1) < 4) : nMi l yX0_cell cX0_cell 7 .int 0 [.ref (ad 0), .int (nI i), .int (nI j), .int (nI w)] D vwCl cA (wX0 ad cA ln lt pn ql q qp mk bd be xl yl xx yy co nc) sz (fun (r : Int32) (u : Unit) => r = nI (cellV xx yy co nc w i j)) (fun (u : Unit) => (wX0 ad cA ln lt pn ql q qp mk bd be xl yl xx yy co nc)) := by
  refine nr_metI (by decide) (Nat.le_of_ble_eq_true rfl) ?_
  intro p e s m below meth c A ls hx hb hr hml hown hlocks hts hA hK hP hD hS hl
  have hown : s.vm.findClass RX0 = some m.cls := hown
  have hl : lv_has ls 7 [(0, .ref (ad 0)), (1, .int (nI i)), (2, .int (nI j)), (3, .int (nI w))] := hl
  have hP : va_P D vwCl (wX0 ad cA ln lt pn ql q qp mk bd be xl yl xx yy co nc) s.heap := hP
  refine lv_iload_n hx hb dX0_cell_0 rfl (lv_at hl 1 rfl) ?_
  refine lv_iload_n hx hb dX0_cell_1 rfl (lv_at hl 2 rfl) ?_
  refine lv_isub hx hb dX0_cell_2 ?_
  refine lv_iload_n hx hb dX0_cell_3 rfl (lv_at hl 3 rfl) ?_
  refine lv_icmp_gt (tgt := 14) hx hb dX0_cell_4 (by decide) (fun c4 => ?_) (fun c4 => ?_)
  · skip
    have c4 := (lt_sub (by omega) (by omega) (by omega)).mp c4
    refine lv_bipush (v := nI 100) hx hb dX0_cell_14 (by decide) ?_
    exact nr_iret hx hb hr hlocks hK () hP hD hS (show (nI 100) = nI (cellV xx yy co nc w i j) from congrArg nI (by unfold cellV; rw [if_pos (by omega)])) dX0_cell_16
  · skip
    have c4 : ¬ j + w < i := fun z => c4 ((lt_sub (a := i) (b := j) (w := w) (by omega) (by omega) (by omega)).mpr z)
    refine lv_iload_n hx hb dX0_cell_7 rfl (lv_at hl 2 rfl) ?_
    refine lv_iload_n hx hb dX0_cell_8 rfl (lv_at hl 1 rfl) ?_
    refine lv_isub hx hb dX0_cell_9 ?_
    refine lv_iload_n hx hb dX0_cell_10 rfl (lv_at hl 3 rfl) ?_
    refine lv_icmp_le (tgt := 17) hx hb dX0_cell_11 (by decide) (fun c11 => ?_) (fun c11 => ?_)
    · skip
      have c11 := (sub_le (by omega) (by omega) (by omega)).mp c11
      have hin : ¬ (j + w < i ∨ i + w < j) := by omega
      have bc := hc i (by omega)
      refine lv_aload_n hx hb dX0_cell_17 rfl (lv_at hl 0 rfl) ?_
      refine va_get (D := D) (ci := 0) (v := .ref (ad 9)) (C := RX0) (T := TX0) (N := 15) hx hb hts in_X0 hown hK hP 0 rfl rfl 13 (by decide) (hts _ q38) (fun _ h9 => h9) rfl dX0_cell_18 ?_
      refine lv_iload_n hx hb dX0_cell_21 rfl (lv_at hl 1 rfl) ?_
      refine nr_iald (f := co) (n := 17) (i := i) hx hb hK hP 9 rfl rfl (by omega) (by decide) dX0_cell_22 ?_
      refine lv_iconst (v := nI 1) hx hb dX0_cell_23 (by decide) ?_
      refine nr_add hx hb dX0_cell_24 ?_
      refine lv_istore (lv' := [(4, .int (nI ((co i) + 1))), (0, .ref (ad 0)), (1, .int (nI i)), (2, .int (nI j)), (3, .int (nI w))]) hx hb dX0_cell_25 hl (by decide) rfl (fun ls hl => ?_)
      refine lv_iload_n hx hb dX0_cell_27 rfl (lv_at hl 2 rfl) ?_
      refine nr_if_le (tgt := 110) hx hb dX0_cell_28 (by decide) (by omega) (fun c28 => ?_) (fun c28 => ?_)
      · skip
        refine lv_iload hx hb dX0_cell_110 (lv_at hl 0 rfl) ?_
        exact nr_iret hx hb hr hlocks hK () hP hD hS (show (nI ((co i) + 1)) = nI (cellV xx yy co nc w i j) from congrArg nI (by unfold cellV; rw [if_neg hin, if_pos c28])) dX0_cell_112
      · skip
        have b1 := hc (i - 1) (by omega)
        have b2 := hnc (i - 1) (by omega)
        have b3 := h1 (i - 1) (by omega)
        refine lv_aload_n hx hb dX0_cell_31 rfl (lv_at hl 1 rfl) ?_
        refine va_get (D := D) (ci := 0) (v := .ref (ad 9)) (C := RX0) (T := TX0) (N := 15) hx hb hts in_X0 hown hK hP 0 rfl rfl 13 (by decide) (hts _ q38) (fun _ h9 => h9) rfl dX0_cell_32 ?_
        refine lv_iload_n hx hb dX0_cell_35 rfl (lv_at hl 2 rfl) ?_
        refine lv_iconst (v := nI 1) hx hb dX0_cell_36 (by decide) ?_
        refine nr_sub hx hb dX0_cell_37 (by omega) ?_
        refine nr_iald (f := co) (n := 17) (i := i - 1) hx hb hK hP 9 rfl rfl (by omega) (by decide) dX0_cell_38 ?_
        refine lv_aload_n hx hb dX0_cell_39 rfl (lv_at hl 1 rfl) ?_
        refine va_get (D := D) (ci := 0) (v := .ref (ad 7)) (C := RX0) (T := TX0) (N := 15) hx hb hts in_X0 hown hK hP 0 rfl rfl 11 (by decide) (hts _ q36) (fun _ h9 => h9) rfl dX0_cell_40 ?_
        refine lv_iload_n hx hb dX0_cell_43 rfl (lv_at hl 2 rfl) ?_
        refine lv_iconst (v := nI 1) hx hb dX0_cell_44 (by decide) ?_
        refine nr_sub hx hb dX0_cell_45 (by omega) ?_
        refine nr_iald (f := xx) (n := 16) (i := i - 1) hx hb hK hP 7 rfl rfl (by omega) (by decide) dX0_cell_46 ?_
        refine lv_aload_n hx hb dX0_cell_47 rfl (lv_at hl 1 rfl) ?_
        refine va_get (D := D) (ci := 0) (v := .ref (ad 8)) (C := RX0) (T := TX0) (N := 15) hx hb hts in_X0 hown hK hP 0 rfl rfl 12 (by decide) (hts _ q37) (fun _ h9 => h9) rfl dX0_cell_48 ?_
        refine lv_iload_n hx hb dX0_cell_51 rfl (lv_at hl 3 rfl) ?_
        refine lv_iconst (v := nI 1) hx hb dX0_cell_52 (by decide) ?_
        refine nr_sub hx hb dX0_cell_53 (by omega) ?_
        refine nr_iald (f := yy) (n := 16) (i := j - 1) hx hb hK hP 8 rfl rfl (by omega) (by decide) dX0_cell_54 ?_
        refine nr_cut (F0 m 63 ls [.int (nI (if xx (i - 1) = yy (j - 1) then 0 else 1)), .int (nI (co (i - 1)))]) ?_ (fun J63 => ?_)
        · skip
          refine nr_add hx hb dX0_cell_63 ?_
          refine lv_istore (lv' := [(5, .int (nI ((co (i - 1)) + (if xx (i - 1) = yy (j - 1) then 0 else 1)))), (4, .int (nI ((co i) + 1))), (0, .ref (ad 0)), (1, .int (nI i)), (2, .int (nI j)), (3, .int (nI w))]) hx hb dX0_cell_64 hl (by decide) rfl (fun ls hl => ?_)
          have b4 : (if xx (i - 1) = yy (j - 1) then 0 else 1) ≤ 1 := by split <;> omega
          refine lv_aload_n hx hb dX0_cell_66 rfl (lv_at hl 2 rfl) ?_
          refine va_get (D := D) (ci := 0) (v := .ref (ad 10)) (C := RX0) (T := TX0) (N := 15) hx hb hts in_X0 hown hK hP 0 rfl rfl 14 (by decide) (hts _ q39) (fun _ h9 => h9) rfl dX0_cell_67 ?_
          refine lv_iload_n hx hb dX0_cell_70 rfl (lv_at hl 3 rfl) ?_
          refine lv_iconst (v := nI 1) hx hb dX0_cell_71 (by decide) ?_
          refine nr_sub hx hb dX0_cell_72 (by omega) ?_
          refine nr_iald (f := nc) (n := 17) (i := i - 1) hx hb hK hP 10 rfl rfl (by omega) (by decide) dX0_cell_73 ?_
          refine lv_iconst (v := nI 1) hx hb dX0_cell_74 (by decide) ?_
          refine nr_add hx hb dX0_cell_75 ?_
          refine lv_istore (lv' := [(6, .int (nI ((nc (i - 1)) + 1))), (5, .int (nI ((co (i - 1)) + (if xx (i - 1) = yy (j - 1) then 0 else 1)))), (4, .int (nI ((co i) + 1))), (0, .ref (ad 0)), (1, .int (nI i)), (2, .int (nI j)), (3, .int (nI w))]) hx hb dX0_cell_76 hl (by decide) rfl (fun ls hl => ?_)
          refine lv_iload hx hb dX0_cell_78 (lv_at hl 1 rfl) ?_
          refine lv_iload hx hb dX0_cell_80 (lv_at hl 2 rfl) ?_
          refine nr_cut (F0 m 92 ls [.int (nI (min (co i + 1) (co (i - 1) + if xx (i - 1) = yy (j - 1) then 0 else 1)))]) ?_ (fun J92 => ?_)
          · skip
            refine lv_istore (lv' := [(4, .int (nI (min (co i + 1) (co (i - 1) + if xx (i - 1) = yy (j - 1) then 0 else 1)))), (6, .int (nI ((nc (i - 1)) + 1))), (5, .int (nI ((co (i - 1)) + (if xx (i - 1) = yy (j - 1) then 0 else 1)))), (0, .ref (ad 0)), (1, .int (nI i)), (2, .int (nI j)), (3, .int (nI w))]) hx hb dX0_cell_92 hl (by decide) rfl (fun ls hl => ?_)
            refine lv_iload hx hb dX0_cell_94 (lv_at hl 1 rfl) ?_
            refine lv_iload hx hb dX0_cell_96 (lv_at hl 0 rfl) ?_
            refine nr_cut (F0 m 108 ls [.int (nI (min (min (co i + 1) (co (i - 1) + if xx (i - 1) = yy (j - 1) then 0 else 1)) (nc (i - 1) + 1)))]) ?_ (fun J108 => ?_)
            · skip
              refine lv_istore (lv' := [(4, .int (nI (min (min (co i + 1) (co (i - 1) + if xx (i - 1) = yy (j - 1) then 0 else 1)) (nc (i - 1) + 1)))), (6, .int (nI ((nc (i - 1)) + 1))), (5, .int (nI ((co (i - 1)) + (if xx (i - 1) = yy (j - 1) then 0 else 1)))), (0, .ref (ad 0)), (1, .int (nI i)), (2, .int (nI j)), (3, .int (nI w))]) hx hb dX0_cell_108 hl (by decide) rfl (fun ls hl => ?_)
              refine lv_iload hx hb dX0_cell_110 (lv_at hl 0 rfl) ?_
              exact nr_iret hx hb hr hlocks hK () hP hD hS (show (nI (min (min (co i + 1) (co (i - 1) + if xx (i - 1) = yy (j - 1) then 0 else 1)) (nc (i - 1) + 1))) = nI (cellV xx yy co nc w i j) from congrArg nI (by unfold cellV; rw [if_neg hin, if_neg (show ¬ i = 0 by omega)])) dX0_cell_112
            refine nr_icmp_ge (tgt := 106) hx hb dX0_cell_98 (by decide) (by omega) (by omega) (fun c98 => ?_) (fun c98 => ?_)
            · skip
              refine lv_iload hx hb dX0_cell_106 (lv_at hl 0 rfl) ?_
              exact nr_as (show nI (min (co i + 1) (co (i - 1) + if xx (i - 1) = yy (j - 1) then 0 else 1)) = nI (min (min (co i + 1) (co (i - 1) + if xx (i - 1) = yy (j - 1) then 0 else 1)) (nc (i - 1) + 1)) from congrArg nI (by omega)) J108
            · skip
              refine lv_iload hx hb dX0_cell_101 (lv_at hl 1 rfl) ?_
              refine lv_goto (tgt := 108) hx hb dX0_cell_103 (by decide) ?_
              exact nr_as (show nI ((nc (i - 1)) + 1) = nI (min (min (co i + 1) (co (i - 1) + if xx (i - 1) = yy (j - 1) then 0 else 1)) (nc (i - 1) + 1)) from congrArg nI (by omega)) J108
          refine nr_icmp_ge (tgt := 90) hx hb dX0_cell_82 (by decide) (by omega) (by omega) (fun c82 => ?_) (fun c82 => ?_)
          · skip
            refine lv_iload hx hb dX0_cell_90 (lv_at hl 2 rfl) ?_
            exact nr_as (show nI ((co i) + 1) = nI (min (co i + 1) (co (i - 1) + if xx (i - 1) = yy (j - 1) then 0 else 1)) from congrArg nI (by omega)) J92
          · skip
            refine lv_iload hx hb dX0_cell_85 (lv_at hl 1 rfl) ?_
            refine lv_goto (tgt := 92) hx hb dX0_cell_87 (by decide) ?_
            exact nr_as (show nI ((co (i - 1)) + (if xx (i - 1) = yy (j - 1) then 0 else 1)) = nI (min (co i + 1) (co (i - 1) + if xx (i - 1) = yy (j - 1) then 0 else 1)) from congrArg nI (by omega)) J92
        refine nr_icmp_ne (tgt := 62) hx hb dX0_cell_55 (by decide) (by omega) (by omega) (fun c55 => ?_) (fun c55 => ?_)
        · skip
          refine lv_iconst (v := nI 1) hx hb dX0_cell_62 (by decide) ?_
          exact nr_as (show nI 1 = nI (if xx (i - 1) = yy (j - 1) then 0 else 1) from congrArg nI (by split <;> omega)) J63
        · skip
          refine lv_iconst (v := nI 0) hx hb dX0_cell_58 (by decide) ?_
          refine lv_goto (tgt := 63) hx hb dX0_cell_59 (by decide) ?_
          exact nr_as (show nI 0 = nI (if xx (i - 1) = yy (j - 1) then 0 else 1) from congrArg nI (by split <;> omega)) J63
    · skip
      have c11 : ¬ j ≤ i + w := fun z => c11 ((sub_le (a := j) (b := i) (w := w) (by omega) (by omega) (by omega)).mpr z)
      refine lv_bipush (v := nI 100) hx hb dX0_cell_14 (by decide) ?_
      exact nr_iret hx hb hr hlocks hK () hP hD hS (show (nI 100) = nI (cellV xx yy co nc w i j) from congrArg nI (by unfold cellV; rw [if_pos (by omega)])) dX0_cell_16
end
section
set_option maxHeartbeats 4000000 in
set_option maxRecDepth 100000 in
/-- bandDistance(w) -/
theorem mt0_bandDistance (l : Launch) (D : va_G) (ad : Nat → Nat) (cA : ClassId) (sz : Nat) (ln : Nat → Nat) (lt : Nat → Nat) (pn : Nat → Nat) (ql : Nat) (q : Nat → Nat) (qp : Nat → Nat) (mk : Nat → Int32) (bd : Nat) (be : Nat) (xl : Nat) (yl : Nat) (xx : Nat → Nat) (yy : Nat → Nat) (co : Nat → Nat) (nc : Nat → Nat) (w : Nat) (hxl : xl ≤ 16) (hyl : yl ≤ 16) (hx4 : ∀ t, t < xl → xx t < 4) (hy4 : ∀ t, t < yl → yy t < 4) (hw : w ≤ 1000) : nMi l yX0_bandDistance cX0_bandDistance 4 .int 1 [.ref (ad 0), .int (nI w)] D vwCl cA (wX0 ad cA ln lt pn ql q qp mk bd be xl yl xx yy co nc) sz (fun (r : Int32) (u : (Nat → Nat) × (Nat → Nat)) => (fun (co' : Nat → Nat) (nc' : Nat → Nat) => r = nI (bC xx yy w yl xl)) u.1 u.2) (fun (u : (Nat → Nat) × (Nat → Nat)) => (fun (co' : Nat → Nat) (nc' : Nat → Nat) => (wX0 ad cA ln lt pn ql q qp mk bd be xl yl xx yy co' nc')) u.1 u.2) := by
  refine nr_metI (by decide) (Nat.le_of_ble_eq_true rfl) ?_
  intro p e s m below meth c A ls hx hb hr hml hown hlocks hts hA hK hP hD hS hl
  have hown : s.vm.findClass RX0 = some m.cls := hown
  have hl : lv_has ls 4 [(0, .ref (ad 0)), (1, .int (nI w))] := hl
  have hP : va_P D vwCl (wX0 ad cA ln lt pn ql q qp mk bd be xl yl xx yy co nc) s.heap := hP
  refine lv_iconst (v := nI 0) hx hb dX0_bandDistance_0 (by decide) ?_
  refine lv_istore_n (lv' := [(2, .int (nI 0)), (0, .ref (ad 0)), (1, .int (nI w))]) hx hb dX0_bandDistance_1 rfl hl (by decide) rfl (fun ls hl => ?_)
  refine nr_loop (σ := Nat × (Nat → Nat)) (fun v H locs ls => (fun (i : Nat) (co : Nat → Nat) => (i ≤ xl + 1) ∧ (∀ t, t < i → co t = bC xx yy w 0 t) ∧ va_P D vwCl (wX0 ad cA ln lt pn ql q qp mk bd be xl yl xx yy co nc) H ∧ va_D A (wX0 ad cA ln lt pn ql q qp mk bd be xl yl xx yy co nc) ∧ va_S A s.heap H locs ∧ lv_has ls 4 [(0, .ref (ad 0)), (1, .int (nI w)), (2, .int (nI i))]) v.1 v.2) (fun v => (fun (i : Nat) (co : Nat → Nat) => xl + 1 - i) v.1 v.2) ?_ (0, co) ⟨(show 0 ≤ xl + 1 from by omega), (show ∀ t, t < 0 → co t = bC xx yy w 0 t from fun t h => absurd h (Nat.not_lt_zero t)), hP, hD, hS, lv_sub hl [1, 2, 0] rfl⟩
  intro v H locs ls hv ih2
  obtain ⟨i, co⟩ := v
  obtain ⟨hi, hc, hP, hD, hS, hl⟩ := hv
  have hi : i ≤ xl + 1 := hi
  have hc : ∀ t, t < i → co t = bC xx yy w 0 t := hc
  have hP : va_P D vwCl (wX0 ad cA ln lt pn ql q qp mk bd be xl yl xx yy co nc) H := hP
  have hD : va_D A (wX0 ad cA ln lt pn ql q qp mk bd be xl yl xx yy co nc) := hD
  have hl : lv_has ls 4 [(0, .ref (ad 0)), (1, .int (nI w)), (2, .int (nI i))] := hl
  refine lv_iload_n hx hb dX0_bandDistance_2 rfl (lv_at hl 2 rfl) ?_
  refine lv_aload_n hx hb dX0_bandDistance_3 rfl (lv_at hl 0 rfl) ?_
  refine va_get (D := D) (ci := 0) (v := .int (nI xl)) (C := RX0) (T := TX0) (N := 15) hx hb hts in_X0 hown hK hP 0 rfl rfl 9 (by decide) (hts _ q34) (fun _ h9 => h9) rfl dX0_bandDistance_4 ?_
  refine nr_icmp_gt (tgt := 33) hx hb dX0_bandDistance_7 (by decide) (by omega) (by omega) (fun c7 => ?_) (fun c7 => ?_)
  · skip
    refine lv_iconst (v := nI 1) hx hb dX0_bandDistance_33 (by decide) ?_
    refine lv_istore_n (lv' := [(2, .int (nI 1)), (0, .ref (ad 0)), (1, .int (nI w))]) hx hb dX0_bandDistance_34 rfl hl (by decide) rfl (fun ls hl => ?_)
    refine nr_loop (σ := Nat × (Nat → Nat) × (Nat → Nat)) (fun v H locs ls => (fun (j : Nat) (co : Nat → Nat) (nc : Nat → Nat) => (1 ≤ j) ∧ (j ≤ yl + 1) ∧ (∀ t, t ≤ xl → co t = bC xx yy w (j - 1) t) ∧ va_P D vwCl (wX0 ad cA ln lt pn ql q qp mk bd be xl yl xx yy co nc) H ∧ va_D A (wX0 ad cA ln lt pn ql q qp mk bd be xl yl xx yy co nc) ∧ va_S A s.heap H locs ∧ lv_has ls 4 [(0, .ref (ad 0)), (1, .int (nI w)), (2, .int (nI j))]) v.1 v.2.1 v.2.2) (fun v => (fun (j : Nat) (co : Nat → Nat) (nc : Nat → Nat) => yl + 1 - j) v.1 v.2.1 v.2.2) ?_ (1, co, nc) ⟨(show 1 ≤ 1 from by omega), (show 1 ≤ yl + 1 from by omega), (show ∀ t, t ≤ xl → co t = bC xx yy w (1 - 1) t from fun t h => hc t (by omega)), hP, hD, hS, lv_sub hl [1, 2, 0] rfl⟩
    intro v H locs ls hv ih35
    obtain ⟨j, co, nc⟩ := v
    obtain ⟨hj, hj2, hc, hP, hD, hS, hl⟩ := hv
    have hj : 1 ≤ j := hj
    have hj2 : j ≤ yl + 1 := hj2
    have hc : ∀ t, t ≤ xl → co t = bC xx yy w (j - 1) t := hc
    have hP : va_P D vwCl (wX0 ad cA ln lt pn ql q qp mk bd be xl yl xx yy co nc) H := hP
    have hD : va_D A (wX0 ad cA ln lt pn ql q qp mk bd be xl yl xx yy co nc) := hD
    have hl : lv_has ls 4 [(0, .ref (ad 0)), (1, .int (nI w)), (2, .int (nI j))] := hl
    refine lv_iload_n hx hb dX0_bandDistance_35 rfl (lv_at hl 2 rfl) ?_
    refine lv_aload_n hx hb dX0_bandDistance_36 rfl (lv_at hl 0 rfl) ?_
    refine va_get (D := D) (ci := 0) (v := .int (nI yl)) (C := RX0) (T := TX0) (N := 15) hx hb hts in_X0 hown hK hP 0 rfl rfl 10 (by decide) (hts _ q35) (fun _ h9 => h9) rfl dX0_bandDistance_37 ?_
    refine nr_icmp_gt (tgt := 106) hx hb dX0_bandDistance_40 (by decide) (by omega) (by omega) (fun c40 => ?_) (fun c40 => ?_)
    · skip
      refine lv_aload_n hx hb dX0_bandDistance_106 rfl (lv_at hl 0 rfl) ?_
      refine va_get (D := D) (ci := 0) (v := .ref (ad 9)) (C := RX0) (T := TX0) (N := 15) hx hb hts in_X0 hown hK hP 0 rfl rfl 13 (by decide) (hts _ q38) (fun _ h9 => h9) rfl dX0_bandDistance_107 ?_
      refine lv_aload_n hx hb dX0_bandDistance_110 rfl (lv_at hl 0 rfl) ?_
      refine va_get (D := D) (ci := 0) (v := .int (nI xl)) (C := RX0) (T := TX0) (N := 15) hx hb hts in_X0 hown hK hP 0 rfl rfl 9 (by decide) (hts _ q34) (fun _ h9 => h9) rfl dX0_bandDistance_111 ?_
      refine nr_iald (f := co) (n := 17) (i := xl) hx hb hK hP 9 rfl rfl (by omega) (by decide) dX0_bandDistance_114 ?_
      exact nr_iret hx hb hr hlocks hK (co, nc) hP hD hS (show (nI (co xl)) = nI (bC xx yy w yl xl) from congrArg nI (by rw [hc xl (Nat.le_refl _), show j - 1 = yl by omega])) dX0_bandDistance_115
    · skip
      refine lv_iconst (v := nI 0) hx hb dX0_bandDistance_43 (by decide) ?_
      refine lv_istore_n (lv' := [(3, .int (nI 0)), (0, .ref (ad 0)), (1, .int (nI w)), (2, .int (nI j))]) hx hb dX0_bandDistance_44 rfl hl (by decide) rfl (fun ls hl => ?_)
      refine nr_loop (σ := Nat × (Nat → Nat)) (fun v H locs ls => (fun (i : Nat) (nc : Nat → Nat) => (i ≤ xl + 1) ∧ (∀ t, t < i → nc t = bC xx yy w j t) ∧ va_P D vwCl (wX0 ad cA ln lt pn ql q qp mk bd be xl yl xx yy co nc) H ∧ va_D A (wX0 ad cA ln lt pn ql q qp mk bd be xl yl xx yy co nc) ∧ va_S A s.heap H locs ∧ lv_has ls 4 [(0, .ref (ad 0)), (1, .int (nI w)), (2, .int (nI j)), (3, .int (nI i))]) v.1 v.2) (fun v => (fun (i : Nat) (nc : Nat → Nat) => xl + 1 - i) v.1 v.2) ?_ (0, nc) ⟨(show 0 ≤ xl + 1 from by omega), (show ∀ t, t < 0 → nc t = bC xx yy w j t from fun t h => absurd h (Nat.not_lt_zero t)), hP, hD, hS, lv_sub hl [1, 2, 3, 0] rfl⟩
      intro v H locs ls hv ih45
      obtain ⟨i, nc⟩ := v
      obtain ⟨hi, hn, hP, hD, hS, hl⟩ := hv
      have hi : i ≤ xl + 1 := hi
      have hn : ∀ t, t < i → nc t = bC xx yy w j t := hn
      have hP : va_P D vwCl (wX0 ad cA ln lt pn ql q qp mk bd be xl yl xx yy co nc) H := hP
      have hD : va_D A (wX0 ad cA ln lt pn ql q qp mk bd be xl yl xx yy co nc) := hD
      have hl : lv_has ls 4 [(0, .ref (ad 0)), (1, .int (nI w)), (2, .int (nI j)), (3, .int (nI i))] := hl
      refine lv_iload_n hx hb dX0_bandDistance_45 rfl (lv_at hl 3 rfl) ?_
      refine lv_aload_n hx hb dX0_bandDistance_46 rfl (lv_at hl 0 rfl) ?_
      refine va_get (D := D) (ci := 0) (v := .int (nI xl)) (C := RX0) (T := TX0) (N := 15) hx hb hts in_X0 hown hK hP 0 rfl rfl 9 (by decide) (hts _ q34) (fun _ h9 => h9) rfl dX0_bandDistance_47 ?_
      refine nr_icmp_gt (tgt := 72) hx hb dX0_bandDistance_50 (by decide) (by omega) (by omega) (fun c50 => ?_) (fun c50 => ?_)
      · skip
        refine lv_iconst (v := nI 0) hx hb dX0_bandDistance_72 (by decide) ?_
        refine lv_istore_n (lv' := [(3, .int (nI 0)), (0, .ref (ad 0)), (1, .int (nI w)), (2, .int (nI j))]) hx hb dX0_bandDistance_73 rfl hl (by decide) rfl (fun ls hl => ?_)
        refine nr_loop (σ := Nat × (Nat → Nat)) (fun v H locs ls => (fun (i : Nat) (co : Nat → Nat) => (i ≤ xl + 1) ∧ (∀ t, t < i → co t = nc t) ∧ va_P D vwCl (wX0 ad cA ln lt pn ql q qp mk bd be xl yl xx yy co nc) H ∧ va_D A (wX0 ad cA ln lt pn ql q qp mk bd be xl yl xx yy co nc) ∧ va_S A s.heap H locs ∧ lv_has ls 4 [(0, .ref (ad 0)), (1, .int (nI w)), (2, .int (nI j)), (3, .int (nI i))]) v.1 v.2) (fun v => (fun (i : Nat) (co : Nat → Nat) => xl + 1 - i) v.1 v.2) ?_ (0, co) ⟨(show 0 ≤ xl + 1 from by omega), (show ∀ t, t < 0 → co t = nc t from fun t h => absurd h (Nat.not_lt_zero t)), hP, hD, hS, lv_sub hl [1, 2, 3, 0] rfl⟩
        intro v H locs ls hv ih74
        obtain ⟨i, co⟩ := v
        obtain ⟨hi, hcc, hP, hD, hS, hl⟩ := hv
        have hi : i ≤ xl + 1 := hi
        have hcc : ∀ t, t < i → co t = nc t := hcc
        have hP : va_P D vwCl (wX0 ad cA ln lt pn ql q qp mk bd be xl yl xx yy co nc) H := hP
        have hD : va_D A (wX0 ad cA ln lt pn ql q qp mk bd be xl yl xx yy co nc) := hD
        have hl : lv_has ls 4 [(0, .ref (ad 0)), (1, .int (nI w)), (2, .int (nI j)), (3, .int (nI i))] := hl
        refine lv_iload_n hx hb dX0_bandDistance_74 rfl (lv_at hl 3 rfl) ?_
        refine lv_aload_n hx hb dX0_bandDistance_75 rfl (lv_at hl 0 rfl) ?_
        refine va_get (D := D) (ci := 0) (v := .int (nI xl)) (C := RX0) (T := TX0) (N := 15) hx hb hts in_X0 hown hK hP 0 rfl rfl 9 (by decide) (hts _ q34) (fun _ h9 => h9) rfl dX0_bandDistance_76 ?_
        refine nr_icmp_gt (tgt := 100) hx hb dX0_bandDistance_79 (by decide) (by omega) (by omega) (fun c79 => ?_) (fun c79 => ?_)
        · skip
          refine lv_iinc (v := nI (j + 1)) (lv' := [(2, .int (nI (j + 1))), (0, .ref (ad 0)), (1, .int (nI w)), (3, .int (nI i))]) hx hb dX0_bandDistance_100 hl (k := 2) rfl (nI_add j 1) (by decide) rfl (fun ls hl => ?_)
          refine lv_goto (tgt := 35) hx hb dX0_bandDistance_103 (by decide) ?_
          exact ih35 (j + 1, co, nc) _ _ _ ⟨(show 1 ≤ (j + 1) from by omega), (show (j + 1) ≤ yl + 1 from by omega), (show ∀ t, t ≤ xl → co t = bC xx yy w ((j + 1) - 1) t from fun t h => (hcc t (by omega)).trans (by rw [hn t (by omega), Nat.add_sub_cancel])), hP, hD, hS, lv_sub hl [1, 2, 0] rfl⟩ (show yl + 1 - (j + 1) < yl + 1 - j from by omega)
        · skip
          refine lv_aload_n hx hb dX0_bandDistance_82 rfl (lv_at hl 0 rfl) ?_
          refine va_get (D := D) (ci := 0) (v := .ref (ad 9)) (C := RX0) (T := TX0) (N := 15) hx hb hts in_X0 hown hK hP 0 rfl rfl 13 (by decide) (hts _ q38) (fun _ h9 => h9) rfl dX0_bandDistance_83 ?_
          refine lv_iload_n hx hb dX0_bandDistance_86 rfl (lv_at hl 3 rfl) ?_
          refine lv_aload_n hx hb dX0_bandDistance_87 rfl (lv_at hl 0 rfl) ?_
          refine va_get (D := D) (ci := 0) (v := .ref (ad 10)) (C := RX0) (T := TX0) (N := 15) hx hb hts in_X0 hown hK hP 0 rfl rfl 14 (by decide) (hts _ q39) (fun _ h9 => h9) rfl dX0_bandDistance_88 ?_
          refine lv_iload_n hx hb dX0_bandDistance_91 rfl (lv_at hl 3 rfl) ?_
          refine nr_iald (f := nc) (n := 17) (i := i) hx hb hK hP 10 rfl rfl (by omega) (by decide) dX0_bandDistance_92 ?_
          refine nr_iast (f := co) (n := 17) (i := i) (v := nc i) hx hb hK hP hD hS 9 rfl rfl (by omega) (by decide) dX0_bandDistance_93 (fun H locs hP hD hS => ?_)
          have hP : va_P D vwCl (wX0 ad cA ln lt pn ql q qp mk bd be xl yl xx yy (va_up co i (nc i)) nc) H := hP
          have hD : va_D A (wX0 ad cA ln lt pn ql q qp mk bd be xl yl xx yy (va_up co i (nc i)) nc) := hD
          refine lv_iinc (v := nI (i + 1)) (lv' := [(3, .int (nI (i + 1))), (0, .ref (ad 0)), (1, .int (nI w)), (2, .int (nI j))]) hx hb dX0_bandDistance_94 hl (k := 3) rfl (nI_add i 1) (by decide) rfl (fun ls hl => ?_)
          refine lv_goto (tgt := 74) hx hb dX0_bandDistance_97 (by decide) ?_
          exact ih74 (i + 1, va_up co i (nc i)) _ _ _ ⟨(show (i + 1) ≤ xl + 1 from by omega), (show ∀ t, t < (i + 1) → (va_up co i (nc i)) t = nc t from up_fill (g := nc) hcc), hP, hD, hS, lv_sub hl [1, 2, 3, 0] rfl⟩ (show xl + 1 - (i + 1) < xl + 1 - i from by omega)
      · skip
        refine lv_aload_n hx hb dX0_bandDistance_53 rfl (lv_at hl 0 rfl) ?_
        refine va_get (D := D) (ci := 0) (v := .ref (ad 10)) (C := RX0) (T := TX0) (N := 15) hx hb hts in_X0 hown hK hP 0 rfl rfl 14 (by decide) (hts _ q39) (fun _ h9 => h9) rfl dX0_bandDistance_54 ?_
        refine lv_iload_n hx hb dX0_bandDistance_57 rfl (lv_at hl 3 rfl) ?_
        refine lv_aload_n hx hb dX0_bandDistance_58 rfl (lv_at hl 0 rfl) ?_
        refine lv_iload_n hx hb dX0_bandDistance_59 rfl (lv_at hl 3 rfl) ?_
        refine lv_iload_n hx hb dX0_bandDistance_60 rfl (lv_at hl 2 rfl) ?_
        refine lv_iload_n hx hb dX0_bandDistance_61 rfl (lv_at hl 1 rfl) ?_
        refine nr_callVi (C := RX0) (T := TX0) (N := 15) (ci := 0) (rest := [.int (nI i), .ref (ad 10)]) (wr := []) ⟨hx, hb, hml, hown, hts⟩ hK hP hD hS hA [0, 1, 2, 3, 4, 5, 6, 7, 8, 9, 10] [] rfl rfl (by decide) (by decide) (by decide) 3 [.int (nI i), .int (nI j), .int (nI w)] (mt0_cell l D ad cA _ ln lt pn ql q qp mk bd be xl yl xx yy co nc i j w (by omega) (by omega) (by omega) (by omega) (fun t h => by have := bC_le xx yy w (j - 1) t (by omega); rw [hc t (by omega)]; omega) (fun t h => by have := bC_le xx yy w j t (by omega); rw [hn t (by omega)]; omega) (fun t h => hx4 t (by omega)) (hy4 (j - 1) (by omega))) (lw_V q119 q121 qs4 q15 q122) (by decide +kernel) ⟨Nat.le_of_ble_eq_true rfl, Nat.le_of_ble_eq_true rfl⟩ rfl 0 rfl rfl hl.1 rfl (Nat.le_of_ble_eq_true rfl) dX0_bandDistance_62 ⟨Nat.zero_le _, Nat.zero_le _⟩ (fun r62 u H locs hw62 hP hD hS => ?_)
        have hw62 : r62 = nI (cellV xx yy co nc w i j) := hw62
        have hP : va_P D vwCl (wX0 ad cA ln lt pn ql q qp mk bd be xl yl xx yy co nc) H := hP
        have hD : va_D A (wX0 ad cA ln lt pn ql q qp mk bd be xl yl xx yy co nc) := hD
        have e62 : r62 = nI (cellV xx yy co nc w i j) := hw62
        subst e62
        have ec : cellV xx yy co nc w i j = bC xx yy w j i := cellV_eq (by omega) (fun t h => hc t (by omega)) hn
        refine nr_iast (f := nc) (n := 17) (i := i) (v := cellV xx yy co nc w i j) hx hb hK hP hD hS 10 rfl rfl (by omega) (by decide) dX0_bandDistance_65 (fun H locs hP hD hS => ?_)
        have hP : va_P D vwCl (wX0 ad cA ln lt pn ql q qp mk bd be xl yl xx yy co (va_up nc i (cellV xx yy co nc w i j))) H := hP
        have hD : va_D A (wX0 ad cA ln lt pn ql q qp mk bd be xl yl xx yy co (va_up nc i (cellV xx yy co nc w i j))) := hD
        refine lv_iinc (v := nI (i + 1)) (lv' := [(3, .int (nI (i + 1))), (0, .ref (ad 0)), (1, .int (nI w)), (2, .int (nI j))]) hx hb dX0_bandDistance_66 hl (k := 3) rfl (nI_add i 1) (by decide) rfl (fun ls hl => ?_)
        refine lv_goto (tgt := 45) hx hb dX0_bandDistance_69 (by decide) ?_
        exact ih45 (i + 1, va_up nc i (cellV xx yy co nc w i j)) _ _ _ ⟨(show (i + 1) ≤ xl + 1 from by omega), (show ∀ t, t < (i + 1) → (va_up nc i (cellV xx yy co nc w i j)) t = bC xx yy w j t from by rw [ec]; exact up_fill (g := fun t => bC xx yy w j t) hn), hP, hD, hS, lv_sub hl [1, 2, 3, 0] rfl⟩ (show xl + 1 - (i + 1) < xl + 1 - i from by omega)
  · skip
    refine lv_aload_n hx hb dX0_bandDistance_10 rfl (lv_at hl 0 rfl) ?_
    refine va_get (D := D) (ci := 0) (v := .ref (ad 9)) (C := RX0) (T := TX0) (N := 15) hx hb hts in_X0 hown hK hP 0 rfl rfl 13 (by decide) (hts _ q38) (fun _ h9 => h9) rfl dX0_bandDistance_11 ?_
    refine lv_iload_n hx hb dX0_bandDistance_14 rfl (lv_at hl 2 rfl) ?_
    refine lv_iload_n hx hb dX0_bandDistance_15 rfl (lv_at hl 2 rfl) ?_
    refine lv_iload_n hx hb dX0_bandDistance_16 rfl (lv_at hl 1 rfl) ?_
    refine nr_cut (F0 m 26 ls [.int (nI (if i ≤ w then i else 100)), .int (nI i), .ref (ad 9)]) ?_ (fun J26 => ?_)
    · skip
      refine nr_iast (f := co) (n := 17) (i := i) (v := if i ≤ w then i else 100) hx hb hK hP hD hS 9 rfl rfl (by omega) (by decide) dX0_bandDistance_26 (fun H locs hP hD hS => ?_)
      have hP : va_P D vwCl (wX0 ad cA ln lt pn ql q qp mk bd be xl yl xx yy (va_up co i (if i ≤ w then i else 100)) nc) H := hP
      have hD : va_D A (wX0 ad cA ln lt pn ql q qp mk bd be xl yl xx yy (va_up co i (if i ≤ w then i else 100)) nc) := hD
      refine lv_iinc (v := nI (i + 1)) (lv' := [(2, .int (nI (i + 1))), (0, .ref (ad 0)), (1, .int (nI w))]) hx hb dX0_bandDistance_27 hl (k := 2) rfl (nI_add i 1) (by decide) rfl (fun ls hl => ?_)
      refine lv_goto (tgt := 2) hx hb dX0_bandDistance_30 (by decide) ?_
      exact ih2 (i + 1, va_up co i (if i ≤ w then i else 100)) _ _ _ ⟨(show (i + 1) ≤ xl + 1 from by omega), (show ∀ t, t < (i + 1) → (va_up co i (if i ≤ w then i else 100)) t = bC xx yy w 0 t from up_fill (g := fun t => bC xx yy w 0 t) hc), hP, hD, hS, lv_sub hl [1, 2, 0] rfl⟩ (show xl + 1 - (i + 1) < xl + 1 - i from by omega)
    refine nr_icmp_gt (tgt := 24) hx hb dX0_bandDistance_17 (by decide) (by omega) (by omega) (fun c17 => ?_) (fun c17 => ?_)
    · skip
      refine lv_bipush (v := nI 100) hx hb dX0_bandDistance_24 (by decide) ?_
      exact nr_as (show nI 100 = nI (if i ≤ w then i else 100) from congrArg nI (by split <;> omega)) J26
    · skip
      refine lv_iload_n hx hb dX0_bandDistance_20 rfl (lv_at hl 2 rfl) ?_
      refine lv_goto (tgt := 26) hx hb dX0_bandDistance_21 (by decide) ?_
      exact nr_as (show nI i = nI (if i ≤ w then i else 100) from congrArg nI (by split <;> omega)) J26
set_option maxHeartbeats 4000000 in
set_option maxRecDepth 100000 in
/-- wholeDistance() -/
theorem mt0_wholeDistance (l : Launch) (D : va_G) (ad : Nat → Nat) (cA : ClassId) (sz : Nat) (ln : Nat → Nat) (lt : Nat → Nat) (pn : Nat → Nat) (ql : Nat) (q : Nat → Nat) (qp : Nat → Nat) (mk : Nat → Int32) (bd : Nat) (be : Nat) (xl : Nat) (yl : Nat) (xx : Nat → Nat) (yy : Nat → Nat) (co : Nat → Nat) (nc : Nat → Nat) (hxl : xl ≤ 16) (hyl : yl ≤ 16) (hx4 : ∀ t, t < xl → xx t < 4) (hy4 : ∀ t, t < yl → yy t < 4) : nMi l yX0_wholeDistance cX0_wholeDistance 5 .int 2 [.ref (ad 0)] D vwCl cA (wX0 ad cA ln lt pn ql q qp mk bd be xl yl xx yy co nc) sz (fun (r : Int32) (u : (Nat → Nat) × (Nat → Nat)) => (fun (co' : Nat → Nat) (nc' : Nat → Nat) => r = nI (eD xx yy xl yl)) u.1 u.2) (fun (u : (Nat → Nat) × (Nat → Nat)) => (fun (co' : Nat → Nat) (nc' : Nat → Nat) => (wX0 ad cA ln lt pn ql q qp mk bd be xl yl xx yy co' nc')) u.1 u.2) := by
  refine nr_metI (by decide) (Nat.le_of_ble_eq_true rfl) ?_
  intro p e s m below meth c A ls hx hb hr hml hown hlocks hts hA hK hP hD hS hl
  have hown : s.vm.findClass RX0 = some m.cls := hown
  have hl : lv_has ls 5 [(0, .ref (ad 0))] := hl
  have hP : va_P D vwCl (wX0 ad cA ln lt pn ql q qp mk bd be xl yl xx yy co nc) s.heap := hP
  refine lv_aload_n hx hb dX0_wholeDistance_0 rfl (lv_at hl 0 rfl) ?_
  refine va_get (D := D) (ci := 0) (v := .int (nI xl)) (C := RX0) (T := TX0) (N := 15) hx hb hts in_X0 hown hK hP 0 rfl rfl 9 (by decide) (hts _ q34) (fun _ h9 => h9) rfl dX0_wholeDistance_1 ?_
  refine lv_aload_n hx hb dX0_wholeDistance_4 rfl (lv_at hl 0 rfl) ?_
  refine va_get (D := D) (ci := 0) (v := .int (nI yl)) (C := RX0) (T := TX0) (N := 15) hx hb hts in_X0 hown hK hP 0 rfl rfl 10 (by decide) (hts _ q35) (fun _ h9 => h9) rfl dX0_wholeDistance_5 ?_
  refine nr_cut (F0 m 32 ls [.int (nI ((xl - yl) + (yl - xl)))]) ?_ (fun J32 => ?_)
  · skip
    refine lv_istore_n (lv' := [(1, .int (nI ((xl - yl) + (yl - xl)))), (0, .ref (ad 0))]) hx hb dX0_wholeDistance_32 rfl hl (by decide) rfl (fun ls hl => ?_)
    refine lv_iload_n hx hb dX0_wholeDistance_33 rfl (lv_at hl 0 rfl) ?_
    refine nr_cut (F0 m 42 ls [.int (nI (max ((xl - yl) + (yl - xl)) 1))]) ?_ (fun J42 => ?_)
    · skip
      refine lv_istore_n (lv' := [(2, .int (nI (max ((xl - yl) + (yl - xl)) 1))), (1, .int (nI ((xl - yl) + (yl - xl)))), (0, .ref (ad 0))]) hx hb dX0_wholeDistance_42 rfl hl (by decide) rfl (fun ls hl => ?_)
      refine lv_iconst (v := nI 0) hx hb dX0_wholeDistance_43 (by decide) ?_
      refine lv_istore_n (lv' := [(3, .int (nI 0)), (2, .int (nI (max ((xl - yl) + (yl - xl)) 1))), (1, .int (nI ((xl - yl) + (yl - xl)))), (0, .ref (ad 0))]) hx hb dX0_wholeDistance_44 rfl hl (by decide) rfl (fun ls hl => ?_)
      refine nr_loop (σ := Nat × Nat × (Nat → Nat) × (Nat → Nat)) (fun v H locs ls => (fun (w : Nat) (k : Nat) (co : Nat → Nat) (nc : Nat → Nat) => (k ≤ 6) ∧ (w ≤ 16 * 2 ^ k) ∧ va_P D vwCl (wX0 ad cA ln lt pn ql q qp mk bd be xl yl xx yy co nc) H ∧ va_D A (wX0 ad cA ln lt pn ql q qp mk bd be xl yl xx yy co nc) ∧ va_S A s.heap H locs ∧ lv_has ls 5 [(0, .ref (ad 0)), (2, .int (nI w)), (3, .int (nI k))]) v.1 v.2.1 v.2.2.1 v.2.2.2) (fun v => (fun (w : Nat) (k : Nat) (co : Nat → Nat) (nc : Nat → Nat) => 6 - k) v.1 v.2.1 v.2.2.1 v.2.2.2) ?_ (max ((xl - yl) + (yl - xl)) 1, 0, co, nc) ⟨(show 0 ≤ 6 from by omega), (show (max ((xl - yl) + (yl - xl)) 1) ≤ 16 * 2 ^ 0 from by omega), hP, hD, hS, lv_sub hl [3, 1, 0] rfl⟩
      intro v H locs ls hv ih45
      obtain ⟨w, k, co, nc⟩ := v
      obtain ⟨hk, hw, hP, hD, hS, hl⟩ := hv
      have hk : k ≤ 6 := hk
      have hw : w ≤ 16 * 2 ^ k := hw
      have hP : va_P D vwCl (wX0 ad cA ln lt pn ql q qp mk bd be xl yl xx yy co nc) H := hP
      have hD : va_D A (wX0 ad cA ln lt pn ql q qp mk bd be xl yl xx yy co nc) := hD
      have hl : lv_has ls 5 [(0, .ref (ad 0)), (2, .int (nI w)), (3, .int (nI k))] := hl
      refine lv_iload_n hx hb dX0_wholeDistance_45 rfl (lv_at hl 2 rfl) ?_
      refine lv_bipush (v := nI 6) hx hb dX0_wholeDistance_46 (by decide) ?_
      refine nr_icmp_ge (tgt := 77) hx hb dX0_wholeDistance_48 (by decide) (by omega) (by omega) (fun c48 => ?_) (fun c48 => ?_)
      · skip
        refine lv_aload_n hx hb dX0_wholeDistance_77 rfl (lv_at hl 0 rfl) ?_
        refine lv_bipush (v := nI 32) hx hb dX0_wholeDistance_78 (by decide) ?_
        refine nr_callVi (C := RX0) (T := TX0) (N := 15) (ci := 0) (rest := []) (wr := []) ⟨hx, hb, hml, hown, hts⟩ hK hP hD hS hA [0, 1, 2, 3, 4, 5, 6, 7, 8, 9, 10] [] rfl rfl (by decide) (by decide) (by decide) 1 [.int (nI 32)] (mt0_bandDistance l D ad cA _ ln lt pn ql q qp mk bd be xl yl xx yy co nc 32 hxl hyl hx4 hy4 (by omega)) (lw_V q115 q117 qs3 q15 q118) (by decide +kernel) ⟨Nat.le_of_ble_eq_true rfl, Nat.le_of_ble_eq_true rfl⟩ rfl 0 rfl rfl hl.1 rfl (Nat.le_of_ble_eq_true rfl) dX0_wholeDistance_80 ⟨Nat.zero_le _, Nat.zero_le _⟩ (fun r80 u H locs hw80 hP hD hS => ?_)
        obtain ⟨co80, nc80⟩ := u
        have hw80 : r80 = nI (bC xx yy 32 yl xl) := hw80
        have hP : va_P D vwCl (wX0 ad cA ln lt pn ql q qp mk bd be xl yl xx yy co80 nc80) H := hP
        have hD : va_D A (wX0 ad cA ln lt pn ql q qp mk bd be xl yl xx yy co80 nc80) := hD
        have e80 : r80 = nI (bC xx yy 32 yl xl) := hw80
        subst e80
        exact nr_iret hx hb hr hlocks hK (co80, nc80) hP hD hS (show (nI (bC xx yy 32 yl xl)) = nI (eD xx yy xl yl) from congrArg nI (band_32 hxl hyl)) dX0_wholeDistance_83
      · skip
        have hw5 : 2 ^ k ≤ 32 := Nat.pow_le_pow_right (n := 2) (i := k) (j := 5) (by decide) (show k ≤ 5 by omega)
        refine lv_aload_n hx hb dX0_wholeDistance_51 rfl (lv_at hl 0 rfl) ?_
        refine lv_iload_n hx hb dX0_wholeDistance_52 rfl (lv_at hl 1 rfl) ?_
        refine nr_callVi (C := RX0) (T := TX0) (N := 15) (ci := 0) (rest := []) (wr := []) ⟨hx, hb, hml, hown, hts⟩ hK hP hD hS hA [0, 1, 2, 3, 4, 5, 6, 7, 8, 9, 10] [] rfl rfl (by decide) (by decide) (by decide) 1 [.int (nI w)] (mt0_bandDistance l D ad cA _ ln lt pn ql q qp mk bd be xl yl xx yy co nc w hxl hyl hx4 hy4 (by omega)) (lw_V q115 q117 qs3 q15 q118) (by decide +kernel) ⟨Nat.le_of_ble_eq_true rfl, Nat.le_of_ble_eq_true rfl⟩ rfl 0 rfl rfl hl.1 rfl (Nat.le_of_ble_eq_true rfl) dX0_wholeDistance_53 ⟨Nat.zero_le _, Nat.zero_le _⟩ (fun r53 u H locs hw53 hP hD hS => ?_)
        obtain ⟨co53, nc53⟩ := u
        have hw53 : r53 = nI (bC xx yy w yl xl) := hw53
        have hP : va_P D vwCl (wX0 ad cA ln lt pn ql q qp mk bd be xl yl xx yy co53 nc53) H := hP
        have hD : va_D A (wX0 ad cA ln lt pn ql q qp mk bd be xl yl xx yy co53 nc53) := hD
        have e53 : r53 = nI (bC xx yy w yl xl) := hw53
        subst e53
        have bb := bC_le xx yy w yl xl (by omega)
        refine lv_istore (lv' := [(4, .int (nI (bC xx yy w yl xl))), (0, .ref (ad 0)), (2, .int (nI w)), (3, .int (nI k))]) hx hb dX0_wholeDistance_56 hl (by decide) rfl (fun ls hl => ?_)
        refine lv_iload hx hb dX0_wholeDistance_58 (lv_at hl 0 rfl) ?_
        refine lv_iload_n hx hb dX0_wholeDistance_60 rfl (lv_at hl 2 rfl) ?_
        refine nr_icmp_gt (tgt := 67) hx hb dX0_wholeDistance_61 (by decide) (by omega) (by omega) (fun c61 => ?_) (fun c61 => ?_)
        · skip
          refine lv_iload_n hx hb dX0_wholeDistance_67 rfl (lv_at hl 2 rfl) ?_
          refine lv_iconst (v := nI 2) hx hb dX0_wholeDistance_68 (by decide) ?_
          refine nr_mul hx hb dX0_wholeDistance_69 ?_
          refine lv_istore_n (lv' := [(2, .int (nI (w * 2))), (4, .int (nI (bC xx yy w yl xl))), (0, .ref (ad 0)), (3, .int (nI k))]) hx hb dX0_wholeDistance_70 rfl hl (by decide) rfl (fun ls hl => ?_)
          refine lv_iinc (v := nI (k + 1)) (lv' := [(3, .int (nI (k + 1))), (2, .int (nI (w * 2))), (4, .int (nI (bC xx yy w yl xl))), (0, .ref (ad 0))]) hx hb dX0_wholeDistance_71 hl (k := 3) rfl (nI_add k 1) (by decide) rfl (fun ls hl => ?_)
          refine lv_goto (tgt := 45) hx hb dX0_wholeDistance_74 (by decide) ?_
          exact ih45 (w * 2, k + 1, co53, nc53) _ _ _ ⟨(show (k + 1) ≤ 6 from by omega), (show (w * 2) ≤ 16 * 2 ^ (k + 1) from by rw [Nat.pow_succ]; omega), hP, hD, hS, lv_sub hl [3, 1, 0] rfl⟩ (show 6 - (k + 1) < 6 - k from by omega)
        · skip
          refine lv_iload hx hb dX0_wholeDistance_64 (lv_at hl 0 rfl) ?_
          exact nr_iret hx hb hr hlocks hK (co53, nc53) hP hD hS (show (nI (bC xx yy w yl xl)) = nI (eD xx yy xl yl) from congrArg nI (band_ok hxl hyl c61)) dX0_wholeDistance_66
    refine nr_if_le (tgt := 41) hx hb dX0_wholeDistance_34 (by decide) (by omega) (fun c34 => ?_) (fun c34 => ?_)
    · skip
      refine lv_iconst (v := nI 1) hx hb dX0_wholeDistance_41 (by decide) ?_
      exact nr_as (show nI 1 = nI (max ((xl - yl) + (yl - xl)) 1) from congrArg nI (by omega)) J42
    · skip
      refine lv_iload_n hx hb dX0_wholeDistance_37 rfl (lv_at hl 0 rfl) ?_
      refine lv_goto (tgt := 42) hx hb dX0_wholeDistance_38 (by decide) ?_
      exact nr_as (show nI ((xl - yl) + (yl - xl)) = nI (max ((xl - yl) + (yl - xl)) 1) from congrArg nI (by omega)) J42
  refine nr_icmp_le (tgt := 23) hx hb dX0_wholeDistance_8 (by decide) (by omega) (by omega) (fun c8 => ?_) (fun c8 => ?_)
  · skip
    refine lv_aload_n hx hb dX0_wholeDistance_23 rfl (lv_at hl 0 rfl) ?_
    refine va_get (D := D) (ci := 0) (v := .int (nI yl)) (C := RX0) (T := TX0) (N := 15) hx hb hts in_X0 hown hK hP 0 rfl rfl 10 (by decide) (hts _ q35) (fun _ h9 => h9) rfl dX0_wholeDistance_24 ?_
    refine lv_aload_n hx hb dX0_wholeDistance_27 rfl (lv_at hl 0 rfl) ?_
    refine va_get (D := D) (ci := 0) (v := .int (nI xl)) (C := RX0) (T := TX0) (N := 15) hx hb hts in_X0 hown hK hP 0 rfl rfl 9 (by decide) (hts _ q34) (fun _ h9 => h9) rfl dX0_wholeDistance_28 ?_
    refine nr_sub hx hb dX0_wholeDistance_31 (by omega) ?_
    exact nr_as (show nI (yl - xl) = nI ((xl - yl) + (yl - xl)) from congrArg nI (by omega)) J32
  · skip
    refine lv_aload_n hx hb dX0_wholeDistance_11 rfl (lv_at hl 0 rfl) ?_
    refine va_get (D := D) (ci := 0) (v := .int (nI xl)) (C := RX0) (T := TX0) (N := 15) hx hb hts in_X0 hown hK hP 0 rfl rfl 9 (by decide) (hts _ q34) (fun _ h9 => h9) rfl dX0_wholeDistance_12 ?_
    refine lv_aload_n hx hb dX0_wholeDistance_15 rfl (lv_at hl 0 rfl) ?_
    refine va_get (D := D) (ci := 0) (v := .int (nI yl)) (C := RX0) (T := TX0) (N := 15) hx hb hts in_X0 hown hK hP 0 rfl rfl 10 (by decide) (hts _ q35) (fun _ h9 => h9) rfl dX0_wholeDistance_16 ?_
    refine nr_sub hx hb dX0_wholeDistance_19 (by omega) ?_
    refine lv_goto (tgt := 32) hx hb dX0_wholeDistance_20 (by decide) ?_
    exact nr_as (show nI (xl - yl) = nI ((xl - yl) + (yl - xl)) from congrArg nI (by omega)) J32
end
section
set_option maxHeartbeats 4000000 in
set_option maxRecDepth 100000 in
/-- search(d) -/
theorem mt0_search (l : Launch) (D : va_G) (ad : Nat → Nat) (cA : ClassId) (sz : Nat) (ln : Nat → Nat) (lt : Nat → Nat) (pn : Nat → Nat) (ql : Nat) (q : Nat → Nat) (qp : Nat → Nat) (mk : Nat → Int32) (bd : Nat) (be : Nat) (xl : Nat) (yl : Nat) (xx : Nat → Nat) (yy : Nat → Nat) (co : Nat → Nat) (nc : Nat → Nat) (d : Nat) (hd : d < 8) (hI : inv0 ln lt pn ql q qp) : nMv l yX0_search cX0_search 13 0 [.ref (ad 0), .int (nI d)] D vwCl cA (wX0 ad cA ln lt pn ql q qp mk bd be xl yl xx yy co nc) sz (fun (u : (Nat → Int32) × Nat × Nat) => (fun (mk' : Nat → Int32) (bd' : Nat) (be' : Nat) => bd' = bDi q (dc lt d) ql (ln d) ∧ be' = bEn q (dc lt d) ql (ln d)) u.1 u.2.1 u.2.2) (fun (u : (Nat → Int32) × Nat × Nat) => (fun (mk' : Nat → Int32) (bd' : Nat) (be' : Nat) => (wX0 ad cA ln lt pn ql q qp mk' bd' be' xl yl xx yy co nc)) u.1 u.2.1 u.2.2) := by
  refine nr_metV (by decide) (Nat.le_of_ble_eq_true rfl) ?_
  intro p e s m below meth c A ls hx hb hr hml hown hlocks hts hA hK hP hD hS hl
  have hown : s.vm.findClass RX0 = some m.cls := hown
  have hl : lv_has ls 13 [(0, .ref (ad 0)), (1, .int (nI d))] := hl
  have hP : va_P D vwCl (wX0 ad cA ln lt pn ql q qp mk bd be xl yl xx yy co nc) s.heap := hP
  have hq8 := hI.2.2.1
  have hln := hI.1 d hd
  refine lv_iconst (v := nI 0) hx hb dX0_search_0 (by decide) ?_
  refine lv_istore_n (lv' := [(2, .int (nI 0)), (0, .ref (ad 0)), (1, .int (nI d))]) hx hb dX0_search_1 rfl hl (by decide) rfl (fun ls hl => ?_)
  refine nr_loop (σ := Nat × (Nat → Int32)) (fun v H locs ls => (fun (k0 : Nat) (mk : Nat → Int32) => (k0 ≤ 4) ∧ (∀ t, t < k0 → mk t = nI 0) ∧ va_P D vwCl (wX0 ad cA ln lt pn ql q qp mk bd be xl yl xx yy co nc) H ∧ va_D A (wX0 ad cA ln lt pn ql q qp mk bd be xl yl xx yy co nc) ∧ va_S A s.heap H locs ∧ lv_has ls 13 [(0, .ref (ad 0)), (1, .int (nI d)), (2, .int (nI k0))]) v.1 v.2) (fun v => (fun (k0 : Nat) (mk : Nat → Int32) => 4 - k0) v.1 v.2) ?_ (0, mk) ⟨(show 0 ≤ 4 from by omega), (show ∀ t, t < 0 → mk t = nI 0 from fun t h => absurd h (Nat.not_lt_zero t)), hP, hD, hS, lv_sub hl [1, 2, 0] rfl⟩
  intro v H locs ls hv ih2
  obtain ⟨k0, mk⟩ := v
  obtain ⟨hk, hm, hP, hD, hS, hl⟩ := hv
  have hk : k0 ≤ 4 := hk
  have hm : ∀ t, t < k0 → mk t = nI 0 := hm
  have hP : va_P D vwCl (wX0 ad cA ln lt pn ql q qp mk bd be xl yl xx yy co nc) H := hP
  have hD : va_D A (wX0 ad cA ln lt pn ql q qp mk bd be xl yl xx yy co nc) := hD
  have hl : lv_has ls 13 [(0, .ref (ad 0)), (1, .int (nI d)), (2, .int (nI k0))] := hl
  refine lv_iload_n hx hb dX0_search_2 rfl (lv_at hl 2 rfl) ?_
  refine lv_iconst (v := nI 4) hx hb dX0_search_3 (by decide) ?_
  refine nr_icmp_ge (tgt := 20) hx hb dX0_search_4 (by decide) (by omega) (by omega) (fun c4 => ?_) (fun c4 => ?_)
  · skip
    refine lv_iconst (v := nI 0) hx hb dX0_search_20 (by decide) ?_
    refine lv_istore_n (lv' := [(2, .int (nI 0)), (0, .ref (ad 0)), (1, .int (nI d))]) hx hb dX0_search_21 rfl hl (by decide) rfl (fun ls hl => ?_)
    refine nr_loop (σ := Nat × (Nat → Int32)) (fun v H locs ls => (fun (i : Nat) (mk : Nat → Int32) => (i ≤ ql) ∧ (myM q i mk) ∧ va_P D vwCl (wX0 ad cA ln lt pn ql q qp mk bd be xl yl xx yy co nc) H ∧ va_D A (wX0 ad cA ln lt pn ql q qp mk bd be xl yl xx yy co nc) ∧ va_S A s.heap H locs ∧ lv_has ls 13 [(0, .ref (ad 0)), (1, .int (nI d)), (2, .int (nI i))]) v.1 v.2) (fun v => (fun (i : Nat) (mk : Nat → Int32) => ql - i) v.1 v.2) ?_ (0, mk) ⟨(show 0 ≤ ql from by omega), (show myM q 0 mk from fun t ht z _ => by rw [hm t (by omega), nI_0, b_0, decide_eq_false (by omega)]), hP, hD, hS, lv_sub hl [1, 2, 0] rfl⟩
    intro v H locs ls hv ih22
    obtain ⟨i, mk⟩ := v
    obtain ⟨hi, hM, hP, hD, hS, hl⟩ := hv
    have hi : i ≤ ql := hi
    have hM : myM q i mk := hM
    have hP : va_P D vwCl (wX0 ad cA ln lt pn ql q qp mk bd be xl yl xx yy co nc) H := hP
    have hD : va_D A (wX0 ad cA ln lt pn ql q qp mk bd be xl yl xx yy co nc) := hD
    have hl : lv_has ls 13 [(0, .ref (ad 0)), (1, .int (nI d)), (2, .int (nI i))] := hl
    refine lv_iload_n hx hb dX0_search_22 rfl (lv_at hl 2 rfl) ?_
    refine lv_aload_n hx hb dX0_search_23 rfl (lv_at hl 0 rfl) ?_
    refine va_get (D := D) (ci := 0) (v := .int (nI ql)) (C := RX0) (T := TX0) (N := 15) hx hb hts in_X0 hown hK hP 0 rfl rfl 3 (by decide) (hts _ q28) (fun _ h9 => h9) rfl dX0_search_24 ?_
    refine nr_icmp_ge (tgt := 53) hx hb dX0_search_27 (by decide) (by omega) (by omega) (fun c27 => ?_) (fun c27 => ?_)
    · skip
      have hM : myM q ql mk := by rw [show ql = i by omega]; exact hM
      refine lv_aload_n hx hb dX0_search_53 rfl (lv_at hl 0 rfl) ?_
      refine lv_aload_n hx hb dX0_search_54 rfl (lv_at hl 0 rfl) ?_
      refine va_get (D := D) (ci := 0) (v := .int (nI ql)) (C := RX0) (T := TX0) (N := 15) hx hb hts in_X0 hown hK hP 0 rfl rfl 3 (by decide) (hts _ q28) (fun _ h9 => h9) rfl dX0_search_55 ?_
      refine va_put (D := D) (ci := 0) (v := .int (nI ql)) (ty := .int) (C := RX0) (T := TX0) (N := 15) hx hb hts in_X0 tyX0 tyX0_ok nmX0 hown hK hP hD hS 0 rfl rfl 7 (by decide) (hts _ q32) (fun _ h9 => h9) rfl (by decide +kernel) rfl rfl (Nat.le_of_ble_eq_true rfl) dX0_search_58 (fun H locs hP hD hS => ?_)
      have hP : va_P D vwCl (wX0 ad cA ln lt pn ql q qp mk ql be xl yl xx yy co nc) H := hP
      have hD : va_D A (wX0 ad cA ln lt pn ql q qp mk ql be xl yl xx yy co nc) := hD
      refine lv_aload_n hx hb dX0_search_61 rfl (lv_at hl 0 rfl) ?_
      refine lv_iconst (v := nI 0) hx hb dX0_search_62 (by decide) ?_
      refine va_put (D := D) (ci := 0) (v := .int (nI 0)) (ty := .int) (C := RX0) (T := TX0) (N := 15) hx hb hts in_X0 tyX0 tyX0_ok nmX0 hown hK hP hD hS 0 rfl rfl 8 (by decide) (hts _ q33) (fun _ h9 => h9) rfl (by decide +kernel) rfl rfl (Nat.le_of_ble_eq_true rfl) dX0_search_63 (fun H locs hP hD hS => ?_)
      have hP : va_P D vwCl (wX0 ad cA ln lt pn ql q qp mk ql 0 xl yl xx yy co nc) H := hP
      have hD : va_D A (wX0 ad cA ln lt pn ql q qp mk ql 0 xl yl xx yy co nc) := hD
      refine lv_aload_n hx hb dX0_search_66 rfl (lv_at hl 0 rfl) ?_
      refine va_get (D := D) (ci := 0) (v := .int (nI ql)) (C := RX0) (T := TX0) (N := 15) hx hb hts in_X0 hown hK hP 0 rfl rfl 3 (by decide) (hts _ q28) (fun _ h9 => h9) rfl dX0_search_67 ?_
      refine nr_if_ne (tgt := 74) hx hb dX0_search_70 (by decide) (by omega) (fun c70 => ?_) (fun c70 => ?_)
      · skip
        refine lv_iconst (v := nI 1) hx hb dX0_search_74 (by decide) ?_
        refine lv_aload_n hx hb dX0_search_75 rfl (lv_at hl 0 rfl) ?_
        refine va_get (D := D) (ci := 0) (v := .int (nI ql)) (C := RX0) (T := TX0) (N := 15) hx hb hts in_X0 hown hK hP 0 rfl rfl 3 (by decide) (hts _ q28) (fun _ h9 => h9) rfl dX0_search_76 ?_
        refine lv_ishl hx hb dX0_search_79 ?_
        refine lv_iconst (v := nI 1) hx hb dX0_search_80 (by decide) ?_
        refine lv_isub hx hb dX0_search_81 ?_
        refine lv_istore_n (lv' := [(2, .int (((nI 1) <<< (nI ql &&& 31)) - (nI 1))), (0, .ref (ad 0)), (1, .int (nI d))]) hx hb dX0_search_82 rfl hl (by decide) rfl (fun ls hl => ?_)
        generalize hfu : ((nI 1) <<< (nI ql &&& 31)) - (nI 1) = fu at hl
        have hF : myF ql fu := by rw [← hfu]; exact my_full ql (by omega)
        refine lv_iconst (v := nI 1) hx hb dX0_search_83 (by decide) ?_
        refine lv_aload_n hx hb dX0_search_84 rfl (lv_at hl 1 rfl) ?_
        refine va_get (D := D) (ci := 0) (v := .int (nI ql)) (C := RX0) (T := TX0) (N := 15) hx hb hts in_X0 hown hK hP 0 rfl rfl 3 (by decide) (hts _ q28) (fun _ h9 => h9) rfl dX0_search_85 ?_
        refine lv_iconst (v := nI 1) hx hb dX0_search_88 (by decide) ?_
        refine nr_sub hx hb dX0_search_89 (by omega) ?_
        refine lv_ishl hx hb dX0_search_90 ?_
        refine lv_istore_n (lv' := [(3, .int ((nI 1) <<< (nI (ql - 1) &&& 31))), (2, .int fu), (0, .ref (ad 0)), (1, .int (nI d))]) hx hb dX0_search_91 rfl hl (by decide) rfl (fun ls hl => ?_)
        generalize htp : (nI 1) <<< (nI (ql - 1) &&& 31) = tp at hl
        have hT : ∀ t, t < 32 → bt tp t = decide (t = ql - 1) := by rw [← htp]; exact my_top (ql - 1) (by omega)
        refine lv_iload_n hx hb dX0_search_92 rfl (lv_at hl 1 rfl) ?_
        refine lv_istore (lv' := [(4, .int fu), (3, .int tp), (2, .int fu), (0, .ref (ad 0)), (1, .int (nI d))]) hx hb dX0_search_93 hl (by decide) rfl (fun ls hl => ?_)
        refine lv_iconst (v := nI 0) hx hb dX0_search_95 (by decide) ?_
        refine lv_istore (lv' := [(5, .int (nI 0)), (4, .int fu), (3, .int tp), (2, .int fu), (0, .ref (ad 0)), (1, .int (nI d))]) hx hb dX0_search_96 hl (by decide) rfl (fun ls hl => ?_)
        refine lv_aload_n hx hb dX0_search_98 rfl (lv_at hl 4 rfl) ?_
        refine va_get (D := D) (ci := 0) (v := .int (nI ql)) (C := RX0) (T := TX0) (N := 15) hx hb hts in_X0 hown hK hP 0 rfl rfl 3 (by decide) (hts _ q28) (fun _ h9 => h9) rfl dX0_search_99 ?_
        refine lv_istore (lv' := [(6, .int (nI ql)), (5, .int (nI 0)), (4, .int fu), (3, .int tp), (2, .int fu), (0, .ref (ad 0)), (1, .int (nI d))]) hx hb dX0_search_102 hl (by decide) rfl (fun ls hl => ?_)
        refine lv_iconst (v := nI 0) hx hb dX0_search_104 (by decide) ?_
        refine lv_istore (lv' := [(7, .int (nI 0)), (6, .int (nI ql)), (5, .int (nI 0)), (4, .int fu), (3, .int tp), (2, .int fu), (0, .ref (ad 0)), (1, .int (nI d))]) hx hb dX0_search_105 hl (by decide) rfl (fun ls hl => ?_)
        refine nr_loop (σ := Int32 × Int32 × Nat × Nat × Nat × Nat) (fun v H locs ls => (fun (uw : Int32) (dw : Int32) (sc : Nat) (i : Nat) (bd : Nat) (be : Nat) => (i ≤ ln d) ∧ (myU q (dc lt d) ql i uw) ∧ (myD q (dc lt d) ql i dw) ∧ (sc = sC q (dc lt d) i ql) ∧ (bd = bDi q (dc lt d) ql i) ∧ (be = bEn q (dc lt d) ql i) ∧ va_P D vwCl (wX0 ad cA ln lt pn ql q qp mk bd be xl yl xx yy co nc) H ∧ va_D A (wX0 ad cA ln lt pn ql q qp mk bd be xl yl xx yy co nc) ∧ va_S A s.heap H locs ∧ lv_has ls 13 [(0, .ref (ad 0)), (1, .int (nI d)), (2, .int fu), (3, .int tp), (4, .int uw), (5, .int dw), (6, .int (nI sc)), (7, .int (nI i))]) v.1 v.2.1 v.2.2.1 v.2.2.2.1 v.2.2.2.2.1 v.2.2.2.2.2) (fun v => (fun (uw : Int32) (dw : Int32) (sc : Nat) (i : Nat) (bd : Nat) (be : Nat) => ln d - i) v.1 v.2.1 v.2.2.1 v.2.2.2.1 v.2.2.2.2.1 v.2.2.2.2.2) ?_ (fu, nI 0, ql, 0, ql, 0) ⟨(show 0 ≤ ln d from by omega), (show myU q (dc lt d) ql 0 fu from my_U0 hF), (show myD q (dc lt d) ql 0 (nI 0) from by rw [nI_0]; exact my_D0), (show ql = sC q (dc lt d) 0 ql from rfl), (show ql = bDi q (dc lt d) ql 0 from rfl), (show 0 = bEn q (dc lt d) ql 0 from rfl), hP, hD, hS, lv_sub hl [6, 7, 5, 4, 3, 2, 1, 0] rfl⟩
        intro v H locs ls hv ih107
        obtain ⟨uw, dw, sc, i, bd, be⟩ := v
        obtain ⟨hi, hU, hDn, hsc, hbd, hbe, hP, hD, hS, hl⟩ := hv
        have hi : i ≤ ln d := hi
        have hU : myU q (dc lt d) ql i uw := hU
        have hDn : myD q (dc lt d) ql i dw := hDn
        have hsc : sc = sC q (dc lt d) i ql := hsc
        have hbd : bd = bDi q (dc lt d) ql i := hbd
        have hbe : be = bEn q (dc lt d) ql i := hbe
        have hP : va_P D vwCl (wX0 ad cA ln lt pn ql q qp mk bd be xl yl xx yy co nc) H := hP
        have hD : va_D A (wX0 ad cA ln lt pn ql q qp mk bd be xl yl xx yy co nc) := hD
        have hl : lv_has ls 13 [(0, .ref (ad 0)), (1, .int (nI d)), (2, .int fu), (3, .int tp), (4, .int uw), (5, .int dw), (6, .int (nI sc)), (7, .int (nI i))] := hl
        refine lv_iload hx hb dX0_search_107 (lv_at hl 7 rfl) ?_
        refine lv_aload_n hx hb dX0_search_109 rfl (lv_at hl 0 rfl) ?_
        refine va_get (D := D) (ci := 0) (v := .ref (ad 1)) (C := RX0) (T := TX0) (N := 15) hx hb hts in_X0 hown hK hP 0 rfl rfl 0 (by decide) (hts _ q25) (fun _ h9 => h9) rfl dX0_search_110 ?_
        refine lv_iload_n hx hb dX0_search_113 rfl (lv_at hl 1 rfl) ?_
        refine nr_iald (f := ln) (n := 8) (i := d) hx hb hK hP 1 rfl rfl (by omega) (by decide) dX0_search_114 ?_
        refine nr_icmp_ge (tgt := 273) hx hb dX0_search_115 (by decide) (by omega) (by omega) (fun c115 => ?_) (fun c115 => ?_)
        · skip
          exact nr_vret hx hb hr hlocks hK (mk, bd, be) hP hD hS (show bd = bDi q (dc lt d) ql (ln d) ∧ be = bEn q (dc lt d) ql (ln d) from ⟨by rw [hbd, show i = ln d by omega], by rw [hbe, show i = ln d by omega]⟩) dX0_search_273
        · skip
          have hl4 := hI.2.1 (16 * d + i)
          have hs1 := sC_le q (dc lt d) (i + 1) ql
          have hs2 := bDi_le q (dc lt d) ql i
          refine lv_aload_n hx hb dX0_search_118 rfl (lv_at hl 0 rfl) ?_
          refine va_get (D := D) (ci := 0) (v := .ref (ad 6)) (C := RX0) (T := TX0) (N := 15) hx hb hts in_X0 hown hK hP 0 rfl rfl 6 (by decide) (hts _ q31) (fun _ h9 => h9) rfl dX0_search_119 ?_
          refine lv_aload_n hx hb dX0_search_122 rfl (lv_at hl 0 rfl) ?_
          refine va_get (D := D) (ci := 0) (v := .ref (ad 2)) (C := RX0) (T := TX0) (N := 15) hx hb hts in_X0 hown hK hP 0 rfl rfl 1 (by decide) (hts _ q26) (fun _ h9 => h9) rfl dX0_search_123 ?_
          refine lv_bipush (v := nI 16) hx hb dX0_search_126 (by decide) ?_
          refine lv_iload_n hx hb dX0_search_128 rfl (lv_at hl 1 rfl) ?_
          refine nr_mul hx hb dX0_search_129 ?_
          refine lv_iload hx hb dX0_search_130 (lv_at hl 7 rfl) ?_
          refine nr_add hx hb dX0_search_132 ?_
          refine nr_iald (f := lt) (n := 128) (i := (16 * d) + i) hx hb hK hP 2 rfl rfl (by omega) (by decide) dX0_search_133 ?_
          refine nr_ialdI (f := mk) (n := 4) (i := lt ((16 * d) + i)) hx hb hK hP 6 rfl rfl (by omega) (by decide) dX0_search_134 ?_
          refine lv_istore (lv' := [(8, .int (mk (lt ((16 * d) + i)))), (0, .ref (ad 0)), (1, .int (nI d)), (2, .int fu), (3, .int tp), (4, .int uw), (5, .int dw), (6, .int (nI sc)), (7, .int (nI i))]) hx hb dX0_search_135 hl (by decide) rfl (fun ls hl => ?_)
          generalize hee : mk (lt ((16 * d) + i)) = ee at hl
          have hE : myE q ql (dc lt d i) ee := by intro t ht; rw [← hee]; exact hM _ hl4 t ht
          refine lv_iload hx hb dX0_search_137 (lv_at hl 0 rfl) ?_
          refine lv_iload hx hb dX0_search_139 (lv_at hl 6 rfl) ?_
          refine lv_ior hx hb dX0_search_141 ?_
          refine lv_istore (lv' := [(9, .int (ee ||| dw)), (8, .int ee), (0, .ref (ad 0)), (1, .int (nI d)), (2, .int fu), (3, .int tp), (4, .int uw), (5, .int dw), (6, .int (nI sc)), (7, .int (nI i))]) hx hb dX0_search_142 hl (by decide) rfl (fun ls hl => ?_)
          refine lv_iload hx hb dX0_search_144 (lv_at hl 1 rfl) ?_
          refine lv_iload hx hb dX0_search_146 (lv_at hl 6 rfl) ?_
          refine lv_iand hx hb dX0_search_148 ?_
          refine lv_iload hx hb dX0_search_149 (lv_at hl 6 rfl) ?_
          refine lv_iadd hx hb dX0_search_151 ?_
          refine lv_iload hx hb dX0_search_152 (lv_at hl 6 rfl) ?_
          refine lv_ixor hx hb dX0_search_154 ?_
          refine lv_iload hx hb dX0_search_155 (lv_at hl 1 rfl) ?_
          refine lv_ior hx hb dX0_search_157 ?_
          refine lv_istore (lv' := [(10, .int ((((ee &&& uw) + uw) ^^^ uw) ||| ee)), (9, .int (ee ||| dw)), (8, .int ee), (0, .ref (ad 0)), (1, .int (nI d)), (2, .int fu), (3, .int tp), (4, .int uw), (5, .int dw), (6, .int (nI sc)), (7, .int (nI i))]) hx hb dX0_search_158 hl (by decide) rfl (fun ls hl => ?_)
          have hl : lv_has ls 13 [(10, .int (my_zw uw ee)), (9, .int (ee ||| dw)), (8, .int ee), (0, .ref (ad 0)), (1, .int (nI d)), (2, .int fu), (3, .int tp), (4, .int uw), (5, .int dw), (6, .int (nI sc)), (7, .int (nI i))] := hl
          refine lv_iload hx hb dX0_search_160 (lv_at hl 8 rfl) ?_
          refine lv_iload hx hb dX0_search_162 (lv_at hl 0 rfl) ?_
          refine lv_iload hx hb dX0_search_164 (lv_at hl 7 rfl) ?_
          refine lv_ior hx hb dX0_search_166 ?_
          refine lv_iconst (v := (-1)) hx hb dX0_search_167 (by decide) ?_
          refine lv_ixor hx hb dX0_search_168 ?_
          refine lv_ior hx hb dX0_search_169 ?_
          refine lv_iload_n hx hb dX0_search_170 rfl (lv_at hl 5 rfl) ?_
          refine lv_iand hx hb dX0_search_171 ?_
          refine lv_istore (lv' := [(11, .int ((dw ||| (((my_zw uw ee) ||| uw) ^^^ (-1))) &&& fu)), (10, .int (my_zw uw ee)), (9, .int (ee ||| dw)), (8, .int ee), (0, .ref (ad 0)), (1, .int (nI d)), (2, .int fu), (3, .int tp), (4, .int uw), (5, .int dw), (6, .int (nI sc)), (7, .int (nI i))]) hx hb dX0_search_172 hl (by decide) rfl (fun ls hl => ?_)
          have hl : lv_has ls 13 [(11, .int (my_ri uw dw ee fu)), (10, .int (my_zw uw ee)), (9, .int (ee ||| dw)), (8, .int ee), (0, .ref (ad 0)), (1, .int (nI d)), (2, .int fu), (3, .int tp), (4, .int uw), (5, .int dw), (6, .int (nI sc)), (7, .int (nI i))] := hl
          refine lv_iload hx hb dX0_search_174 (lv_at hl 8 rfl) ?_
          refine lv_iload hx hb dX0_search_176 (lv_at hl 1 rfl) ?_
          refine lv_iand hx hb dX0_search_178 ?_
          refine lv_istore (lv' := [(12, .int (uw &&& (my_zw uw ee))), (11, .int (my_ri uw dw ee fu)), (10, .int (my_zw uw ee)), (9, .int (ee ||| dw)), (8, .int ee), (0, .ref (ad 0)), (1, .int (nI d)), (2, .int fu), (3, .int tp), (4, .int uw), (5, .int dw), (6, .int (nI sc)), (7, .int (nI i))]) hx hb dX0_search_179 hl (by decide) rfl (fun ls hl => ?_)
          have hl : lv_has ls 13 [(12, .int (my_fa uw ee)), (11, .int (my_ri uw dw ee fu)), (10, .int (my_zw uw ee)), (9, .int (ee ||| dw)), (8, .int ee), (0, .ref (ad 0)), (1, .int (nI d)), (2, .int fu), (3, .int tp), (4, .int uw), (5, .int dw), (6, .int (nI sc)), (7, .int (nI i))] := hl
          refine lv_iload hx hb dX0_search_181 (lv_at hl 11 rfl) ?_
          refine lv_iload hx hb dX0_search_183 (lv_at hl 1 rfl) ?_
          refine lv_iload_n hx hb dX0_search_185 rfl (lv_at hl 8 rfl) ?_
          refine lv_iand hx hb dX0_search_186 ?_
          refine nr_cut (F0 m 207 ls [.int (nI (sC q (dc lt d) (i + 1) ql))]) ?_ (fun J207 => ?_)
          · skip
            refine lv_istore (lv' := [(6, .int (nI (sC q (dc lt d) (i + 1) ql))), (12, .int (my_fa uw ee)), (11, .int (my_ri uw dw ee fu)), (10, .int (my_zw uw ee)), (9, .int (ee ||| dw)), (8, .int ee), (0, .ref (ad 0)), (1, .int (nI d)), (2, .int fu), (3, .int tp), (4, .int uw), (5, .int dw), (7, .int (nI i))]) hx hb dX0_search_207 hl (by decide) rfl (fun ls hl => ?_)
            refine lv_iload hx hb dX0_search_209 (lv_at hl 2 rfl) ?_
            refine lv_iconst (v := nI 1) hx hb dX0_search_211 (by decide) ?_
            refine lv_ishl hx hb dX0_search_212 ?_
            refine lv_istore (lv' := [(11, .int ((my_ri uw dw ee fu) <<< (nI 1 &&& 31))), (6, .int (nI (sC q (dc lt d) (i + 1) ql))), (12, .int (my_fa uw ee)), (10, .int (my_zw uw ee)), (9, .int (ee ||| dw)), (8, .int ee), (0, .ref (ad 0)), (1, .int (nI d)), (2, .int fu), (3, .int tp), (4, .int uw), (5, .int dw), (7, .int (nI i))]) hx hb dX0_search_213 hl (by decide) rfl (fun ls hl => ?_)
            refine lv_iload hx hb dX0_search_215 (lv_at hl 2 rfl) ?_
            refine lv_iconst (v := nI 1) hx hb dX0_search_217 (by decide) ?_
            refine lv_ishl hx hb dX0_search_218 ?_
            refine lv_istore (lv' := [(12, .int ((my_fa uw ee) <<< (nI 1 &&& 31))), (11, .int ((my_ri uw dw ee fu) <<< (nI 1 &&& 31))), (6, .int (nI (sC q (dc lt d) (i + 1) ql))), (10, .int (my_zw uw ee)), (9, .int (ee ||| dw)), (8, .int ee), (0, .ref (ad 0)), (1, .int (nI d)), (2, .int fu), (3, .int tp), (4, .int uw), (5, .int dw), (7, .int (nI i))]) hx hb dX0_search_219 hl (by decide) rfl (fun ls hl => ?_)
            refine lv_iload hx hb dX0_search_221 (lv_at hl 0 rfl) ?_
            refine lv_iload hx hb dX0_search_223 (lv_at hl 4 rfl) ?_
            refine lv_iload hx hb dX0_search_225 (lv_at hl 1 rfl) ?_
            refine lv_ior hx hb dX0_search_227 ?_
            refine lv_iconst (v := (-1)) hx hb dX0_search_228 (by decide) ?_
            refine lv_ixor hx hb dX0_search_229 ?_
            refine lv_ior hx hb dX0_search_230 ?_
            refine lv_iload_n hx hb dX0_search_231 rfl (lv_at hl 8 rfl) ?_
            refine lv_iand hx hb dX0_search_232 ?_
            refine lv_istore (lv' := [(4, .int ((((my_fa uw ee) <<< (nI 1 &&& 31)) ||| (((ee ||| dw) ||| ((my_ri uw dw ee fu) <<< (nI 1 &&& 31))) ^^^ (-1))) &&& fu)), (12, .int ((my_fa uw ee) <<< (nI 1 &&& 31))), (11, .int ((my_ri uw dw ee fu) <<< (nI 1 &&& 31))), (6, .int (nI (sC q (dc lt d) (i + 1) ql))), (10, .int (my_zw uw ee)), (9, .int (ee ||| dw)), (8, .int ee), (0, .ref (ad 0)), (1, .int (nI d)), (2, .int fu), (3, .int tp), (5, .int dw), (7, .int (nI i))]) hx hb dX0_search_233 hl (by decide) rfl (fun ls hl => ?_)
            have hl : lv_has ls 13 [(4, .int (my_up uw dw ee fu)), (12, .int ((my_fa uw ee) <<< (nI 1 &&& 31))), (11, .int ((my_ri uw dw ee fu) <<< (nI 1 &&& 31))), (6, .int (nI (sC q (dc lt d) (i + 1) ql))), (10, .int (my_zw uw ee)), (9, .int (ee ||| dw)), (8, .int ee), (0, .ref (ad 0)), (1, .int (nI d)), (2, .int fu), (3, .int tp), (5, .int dw), (7, .int (nI i))] := hl
            refine lv_iload hx hb dX0_search_235 (lv_at hl 2 rfl) ?_
            refine lv_iload hx hb dX0_search_237 (lv_at hl 5 rfl) ?_
            refine lv_iand hx hb dX0_search_239 ?_
            refine lv_iload_n hx hb dX0_search_240 rfl (lv_at hl 9 rfl) ?_
            refine lv_iand hx hb dX0_search_241 ?_
            refine lv_istore (lv' := [(5, .int ((((my_ri uw dw ee fu) <<< (nI 1 &&& 31)) &&& (ee ||| dw)) &&& fu)), (4, .int (my_up uw dw ee fu)), (12, .int ((my_fa uw ee) <<< (nI 1 &&& 31))), (11, .int ((my_ri uw dw ee fu) <<< (nI 1 &&& 31))), (6, .int (nI (sC q (dc lt d) (i + 1) ql))), (10, .int (my_zw uw ee)), (9, .int (ee ||| dw)), (8, .int ee), (0, .ref (ad 0)), (1, .int (nI d)), (2, .int fu), (3, .int tp), (7, .int (nI i))]) hx hb dX0_search_242 hl (by decide) rfl (fun ls hl => ?_)
            have hl : lv_has ls 13 [(5, .int (my_dn uw dw ee fu)), (4, .int (my_up uw dw ee fu)), (12, .int ((my_fa uw ee) <<< (nI 1 &&& 31))), (11, .int ((my_ri uw dw ee fu) <<< (nI 1 &&& 31))), (6, .int (nI (sC q (dc lt d) (i + 1) ql))), (10, .int (my_zw uw ee)), (9, .int (ee ||| dw)), (8, .int ee), (0, .ref (ad 0)), (1, .int (nI d)), (2, .int fu), (3, .int tp), (7, .int (nI i))] := hl
            refine lv_iload hx hb dX0_search_244 (lv_at hl 4 rfl) ?_
            refine lv_aload_n hx hb dX0_search_246 rfl (lv_at hl 8 rfl) ?_
            refine va_get (D := D) (ci := 0) (v := .int (nI bd)) (C := RX0) (T := TX0) (N := 15) hx hb hts in_X0 hown hK hP 0 rfl rfl 7 (by decide) (hts _ q32) (fun _ h9 => h9) rfl dX0_search_247 ?_
            refine nr_icmp_ge (tgt := 267) hx hb dX0_search_250 (by decide) (by omega) (by omega) (fun c250 => ?_) (fun c250 => ?_)
            · skip
              refine lv_iinc (v := nI (i + 1)) (lv' := [(7, .int (nI (i + 1))), (5, .int (my_dn uw dw ee fu)), (4, .int (my_up uw dw ee fu)), (12, .int ((my_fa uw ee) <<< (nI 1 &&& 31))), (11, .int ((my_ri uw dw ee fu) <<< (nI 1 &&& 31))), (6, .int (nI (sC q (dc lt d) (i + 1) ql))), (10, .int (my_zw uw ee)), (9, .int (ee ||| dw)), (8, .int ee), (0, .ref (ad 0)), (1, .int (nI d)), (2, .int fu), (3, .int tp)]) hx hb dX0_search_267 hl (k := 12) rfl (nI_add i 1) (by decide) rfl (fun ls hl => ?_)
              refine lv_goto (tgt := 107) hx hb dX0_search_270 (by decide) ?_
              exact ih107 (my_up uw dw ee fu, my_dn uw dw ee fu, sC q (dc lt d) (i + 1) ql, i + 1, bd, be) _ _ _ ⟨(show (i + 1) ≤ ln d from by omega), (show myU q (dc lt d) ql (i + 1) (my_up uw dw ee fu) from my_upb (by omega) hU hDn hE hF), (show myD q (dc lt d) ql (i + 1) (my_dn uw dw ee fu) from my_dnb (by omega) hU hDn hE hF), (show (sC q (dc lt d) (i + 1) ql) = sC q (dc lt d) (i + 1) ql from rfl), (show bd = bDi q (dc lt d) ql (i + 1) from by show _ = min (bDi q (dc lt d) ql i) (sC q (dc lt d) (i + 1) ql); omega), (show be = bEn q (dc lt d) ql (i + 1) from by show _ = if sC q (dc lt d) (i + 1) ql < bDi q (dc lt d) ql i then i + 1 else bEn q (dc lt d) ql i; split <;> omega), hP, hD, hS, lv_sub hl [9, 10, 11, 12, 2, 1, 5, 0] rfl⟩ (show ln d - (i + 1) < ln d - i from by omega)
            · skip
              refine lv_aload_n hx hb dX0_search_253 rfl (lv_at hl 8 rfl) ?_
              refine lv_iload hx hb dX0_search_254 (lv_at hl 4 rfl) ?_
              refine va_put (D := D) (ci := 0) (v := .int (nI (sC q (dc lt d) (i + 1) ql))) (ty := .int) (C := RX0) (T := TX0) (N := 15) hx hb hts in_X0 tyX0 tyX0_ok nmX0 hown hK hP hD hS 0 rfl rfl 7 (by decide) (hts _ q32) (fun _ h9 => h9) rfl (by decide +kernel) rfl rfl (Nat.le_of_ble_eq_true rfl) dX0_search_256 (fun H locs hP hD hS => ?_)
              have hP : va_P D vwCl (wX0 ad cA ln lt pn ql q qp mk (sC q (dc lt d) (i + 1) ql) be xl yl xx yy co nc) H := hP
              have hD : va_D A (wX0 ad cA ln lt pn ql q qp mk (sC q (dc lt d) (i + 1) ql) be xl yl xx yy co nc) := hD
              refine lv_aload_n hx hb dX0_search_259 rfl (lv_at hl 8 rfl) ?_
              refine lv_iload hx hb dX0_search_260 (lv_at hl 12 rfl) ?_
              refine lv_iconst (v := nI 1) hx hb dX0_search_262 (by decide) ?_
              refine nr_add hx hb dX0_search_263 ?_
              refine va_put (D := D) (ci := 0) (v := .int (nI (i + 1))) (ty := .int) (C := RX0) (T := TX0) (N := 15) hx hb hts in_X0 tyX0 tyX0_ok nmX0 hown hK hP hD hS 0 rfl rfl 8 (by decide) (hts _ q33) (fun _ h9 => h9) rfl (by decide +kernel) rfl rfl (Nat.le_of_ble_eq_true rfl) dX0_search_264 (fun H locs hP hD hS => ?_)
              have hP : va_P D vwCl (wX0 ad cA ln lt pn ql q qp mk (sC q (dc lt d) (i + 1) ql) (i + 1) xl yl xx yy co nc) H := hP
              have hD : va_D A (wX0 ad cA ln lt pn ql q qp mk (sC q (dc lt d) (i + 1) ql) (i + 1) xl yl xx yy co nc) := hD
              refine lv_iinc (v := nI (i + 1)) (lv' := [(7, .int (nI (i + 1))), (5, .int (my_dn uw dw ee fu)), (4, .int (my_up uw dw ee fu)), (12, .int ((my_fa uw ee) <<< (nI 1 &&& 31))), (11, .int ((my_ri uw dw ee fu) <<< (nI 1 &&& 31))), (6, .int (nI (sC q (dc lt d) (i + 1) ql))), (10, .int (my_zw uw ee)), (9, .int (ee ||| dw)), (8, .int ee), (0, .ref (ad 0)), (1, .int (nI d)), (2, .int fu), (3, .int tp)]) hx hb dX0_search_267 hl (k := 12) rfl (nI_add i 1) (by decide) rfl (fun ls hl => ?_)
              refine lv_goto (tgt := 107) hx hb dX0_search_270 (by decide) ?_
              exact ih107 (my_up uw dw ee fu, my_dn uw dw ee fu, sC q (dc lt d) (i + 1) ql, i + 1, sC q (dc lt d) (i + 1) ql, i + 1) _ _ _ ⟨(show (i + 1) ≤ ln d from by omega), (show myU q (dc lt d) ql (i + 1) (my_up uw dw ee fu) from my_upb (by omega) hU hDn hE hF), (show myD q (dc lt d) ql (i + 1) (my_dn uw dw ee fu) from my_dnb (by omega) hU hDn hE hF), (show (sC q (dc lt d) (i + 1) ql) = sC q (dc lt d) (i + 1) ql from rfl), (show (sC q (dc lt d) (i + 1) ql) = bDi q (dc lt d) ql (i + 1) from by show _ = min (bDi q (dc lt d) ql i) (sC q (dc lt d) (i + 1) ql); omega), (show (i + 1) = bEn q (dc lt d) ql (i + 1) from by show _ = if sC q (dc lt d) (i + 1) ql < bDi q (dc lt d) ql i then i + 1 else bEn q (dc lt d) ql i; split <;> omega), hP, hD, hS, lv_sub hl [9, 10, 11, 12, 2, 1, 5, 0] rfl⟩ (show ln d - (i + 1) < ln d - i from by omega)
          refine lv_if_eq (tgt := 194) hx hb dX0_search_187 (by decide) (fun c187 => ?_) (fun c187 => ?_)
          · skip
            refine lv_iload hx hb dX0_search_194 (lv_at hl 0 rfl) ?_
            refine lv_iload_n hx hb dX0_search_196 rfl (lv_at hl 8 rfl) ?_
            refine lv_iand hx hb dX0_search_197 ?_
            refine lv_if_eq (tgt := 205) hx hb dX0_search_198 (by decide) (fun c198 => ?_) (fun c198 => ?_)
            · skip
              refine lv_iconst (v := nI 0) hx hb dX0_search_205 (by decide) ?_
              refine nr_add hx hb dX0_search_206 ?_
              exact nr_as (show nI (sc + 0) = nI (sC q (dc lt d) (i + 1) ql) from congrArg nI (by have z := (my_sc1 (by omega) (by omega) hU hDn hE hF hT).mp c187; have z2 := (my_sc2 (by omega) (by omega) hU hE hT).mp c198; have z3 := sC_adjH q (dc lt d) i ql; omega)) J207
            · skip
              refine lv_iconst (v := (-1)) hx hb dX0_search_201 (by decide) ?_
              refine lv_goto (tgt := 206) hx hb dX0_search_202 (by decide) ?_
              refine lv_iadd hx hb dX0_search_206 ?_
              exact nr_as (show (nI sc) + (-1) = nI (sC q (dc lt d) (i + 1) ql) from by have z2 := mt (my_sc2 (by omega) (by omega) hU hE hT).mpr c198; rw [show sc = sC q (dc lt d) (i + 1) ql + 1 by omega]; exact pk_m1 _) J207
          · skip
            refine lv_iconst (v := nI 1) hx hb dX0_search_190 (by decide) ?_
            refine lv_goto (tgt := 206) hx hb dX0_search_191 (by decide) ?_
            refine nr_add hx hb dX0_search_206 ?_
            exact nr_as (show nI (sc + 1) = nI (sC q (dc lt d) (i + 1) ql) from congrArg nI (by have z := mt (my_sc1 (by omega) (by omega) hU hDn hE hF hT).mpr c187; omega)) J207
      · skip
        exact nr_vret hx hb hr hlocks hK (mk, ql, 0) hP hD hS (show ql = bDi q (dc lt d) ql (ln d) ∧ 0 = bEn q (dc lt d) ql (ln d) from ⟨by have := bDi_le q (dc lt d) ql (ln d); omega, by rw [c70]; exact (bEn_m0 q (dc lt d) (ln d)).symm⟩) dX0_search_73
    · skip
      have hq4 := hI.2.2.2.1 i
      refine lv_aload_n hx hb dX0_search_30 rfl (lv_at hl 0 rfl) ?_
      refine va_get (D := D) (ci := 0) (v := .ref (ad 6)) (C := RX0) (T := TX0) (N := 15) hx hb hts in_X0 hown hK hP 0 rfl rfl 6 (by decide) (hts _ q31) (fun _ h9 => h9) rfl dX0_search_31 ?_
      refine lv_aload_n hx hb dX0_search_34 rfl (lv_at hl 0 rfl) ?_
      refine va_get (D := D) (ci := 0) (v := .ref (ad 4)) (C := RX0) (T := TX0) (N := 15) hx hb hts in_X0 hown hK hP 0 rfl rfl 4 (by decide) (hts _ q29) (fun _ h9 => h9) rfl dX0_search_35 ?_
      refine lv_iload_n hx hb dX0_search_38 rfl (lv_at hl 2 rfl) ?_
      refine nr_iald (f := q) (n := 8) (i := i) hx hb hK hP 4 rfl rfl (by omega) (by decide) dX0_search_39 ?_
      refine lv_dup2_11 hx hb dX0_search_40 rfl rfl ?_
      refine nr_ialdI (f := mk) (n := 4) (i := q i) hx hb hK hP 6 rfl rfl (by omega) (by decide) dX0_search_41 ?_
      refine lv_iconst (v := nI 1) hx hb dX0_search_42 (by decide) ?_
      refine lv_iload_n hx hb dX0_search_43 rfl (lv_at hl 2 rfl) ?_
      refine lv_ishl hx hb dX0_search_44 ?_
      refine lv_ior hx hb dX0_search_45 ?_
      refine nr_iastI (f := mk) (n := 4) (i := q i) (v := (mk (q i)) ||| ((nI 1) <<< (nI i &&& 31))) hx hb hK hP hD hS 6 rfl rfl (by omega) (by decide) dX0_search_46 (fun H locs hP hD hS => ?_)
      have hP : va_P D vwCl (wX0 ad cA ln lt pn ql q qp (va_up mk (q i) ((mk (q i)) ||| ((nI 1) <<< (nI i &&& 31)))) bd be xl yl xx yy co nc) H := hP
      have hD : va_D A (wX0 ad cA ln lt pn ql q qp (va_up mk (q i) ((mk (q i)) ||| ((nI 1) <<< (nI i &&& 31)))) bd be xl yl xx yy co nc) := hD
      refine lv_iinc (v := nI (i + 1)) (lv' := [(2, .int (nI (i + 1))), (0, .ref (ad 0)), (1, .int (nI d))]) hx hb dX0_search_47 hl (k := 2) rfl (nI_add i 1) (by decide) rfl (fun ls hl => ?_)
      refine lv_goto (tgt := 22) hx hb dX0_search_50 (by decide) ?_
      exact ih22 (i + 1, va_up mk (q i) ((mk (q i)) ||| ((nI 1) <<< (nI i &&& 31)))) _ _ _ ⟨(show (i + 1) ≤ ql from by omega), (show myM q (i + 1) (va_up mk (q i) ((mk (q i)) ||| ((nI 1) <<< (nI i &&& 31)))) from myM_step (by omega) hM), hP, hD, hS, lv_sub hl [1, 2, 0] rfl⟩ (show ql - (i + 1) < ql - i from by omega)
  · skip
    refine lv_aload_n hx hb dX0_search_7 rfl (lv_at hl 0 rfl) ?_
    refine va_get (D := D) (ci := 0) (v := .ref (ad 6)) (C := RX0) (T := TX0) (N := 15) hx hb hts in_X0 hown hK hP 0 rfl rfl 6 (by decide) (hts _ q31) (fun _ h9 => h9) rfl dX0_search_8 ?_
    refine lv_iload_n hx hb dX0_search_11 rfl (lv_at hl 2 rfl) ?_
    refine lv_iconst (v := nI 0) hx hb dX0_search_12 (by decide) ?_
    refine nr_iastI (f := mk) (n := 4) (i := k0) (v := nI 0) hx hb hK hP hD hS 6 rfl rfl (by omega) (by decide) dX0_search_13 (fun H locs hP hD hS => ?_)
    have hP : va_P D vwCl (wX0 ad cA ln lt pn ql q qp (va_up mk k0 (nI 0)) bd be xl yl xx yy co nc) H := hP
    have hD : va_D A (wX0 ad cA ln lt pn ql q qp (va_up mk k0 (nI 0)) bd be xl yl xx yy co nc) := hD
    refine lv_iinc (v := nI (k0 + 1)) (lv' := [(2, .int (nI (k0 + 1))), (0, .ref (ad 0)), (1, .int (nI d))]) hx hb dX0_search_14 hl (k := 2) rfl (nI_add k0 1) (by decide) rfl (fun ls hl => ?_)
    refine lv_goto (tgt := 2) hx hb dX0_search_17 (by decide) ?_
    exact ih2 (k0 + 1, va_up mk k0 (nI 0)) _ _ _ ⟨(show (k0 + 1) ≤ 4 from by omega), (show ∀ t, t < (k0 + 1) → (va_up mk k0 (nI 0)) t = nI 0 from up_fill (g := fun _ => nI 0) hm), hP, hD, hS, lv_sub hl [1, 2, 0] rfl⟩ (show 4 - (k0 + 1) < 4 - k0 from by omega)
set_option maxHeartbeats 4000000 in
set_option maxRecDepth 100000 in
/-- mayBeWithin(d, errors) -/
theorem mt0_mayBeWithin (l : Launch) (D : va_G) (ad : Nat → Nat) (cA : ClassId) (sz : Nat) (ln : Nat → Nat) (lt : Nat → Nat) (pn : Nat → Nat) (ql : Nat) (q : Nat → Nat) (qp : Nat → Nat) (mk : Nat → Int32) (bd : Nat) (be : Nat) (xl : Nat) (yl : Nat) (xx : Nat → Nat) (yy : Nat → Nat) (co : Nat → Nat) (nc : Nat → Nat) (d : Nat) (er : Int32) (hd : d < 8) (hI : inv0 ln lt pn ql q qp) : nMi l yX0_mayBeWithin cX0_mayBeWithin 4 .boolean 1 [.ref (ad 0), .int (nI d), .int er] D vwCl cA (wX0 ad cA ln lt pn ql q qp mk bd be xl yl xx yy co nc) sz (fun (r : Int32) (u : Unit) => r = nI 1 ∨ (r = nI 0 ∧ er.toInt < (bDi q (dc lt d) ql (ln d) : Nat))) (fun (u : Unit) => (wX0 ad cA ln lt pn ql q qp mk bd be xl yl xx yy co nc)) := by
  refine nr_metI (by decide) (Nat.le_of_ble_eq_true rfl) ?_
  intro p e s m below meth c A ls hx hb hr hml hown hlocks hts hA hK hP hD hS hl
  have hown : s.vm.findClass RX0 = some m.cls := hown
  have hl : lv_has ls 4 [(0, .ref (ad 0)), (1, .int (nI d)), (2, .int er)] := hl
  have hP : va_P D vwCl (wX0 ad cA ln lt pn ql q qp mk bd be xl yl xx yy co nc) s.heap := hP
  have hq8 := hI.2.2.1
  have hln := hI.1 d hd
  have hsp := shP_le q ql (dc lt d) (ln d) 16
  refine lv_iload_n hx hb dX0_mayBeWithin_0 rfl (lv_at hl 2 rfl) ?_
  refine lv_if_ge (tgt := 6) hx hb dX0_mayBeWithin_1 (by decide) (fun c1 => ?_) (fun c1 => ?_)
  · skip
    refine lv_iload_n hx hb dX0_mayBeWithin_6 rfl (lv_at hl 2 rfl) ?_
    refine lv_aload_n hx hb dX0_mayBeWithin_7 rfl (lv_at hl 0 rfl) ?_
    refine va_get (D := D) (ci := 0) (v := .int (nI ql)) (C := RX0) (T := TX0) (N := 15) hx hb hts in_X0 hown hK hP 0 rfl rfl 3 (by decide) (hts _ q28) (fun _ h9 => h9) rfl dX0_mayBeWithin_8 ?_
    refine lv_icmp_lt (tgt := 16) hx hb dX0_mayBeWithin_11 (by decide) (fun c11 => ?_) (fun c11 => ?_)
    · skip
      obtain ⟨e0, he1, he2⟩ := nI_of (x := er) (fun z => Int32.not_lt.mpr c1 z)
      subst he2
      have c11 := (nI_ltI he1 (by omega)).mp c11
      refine lv_aload_n hx hb dX0_mayBeWithin_16 rfl (lv_at hl 0 rfl) ?_
      refine lv_iload_n hx hb dX0_mayBeWithin_17 rfl (lv_at hl 1 rfl) ?_
      refine nr_callVi (C := RX0) (T := TX0) (N := 15) (ci := 0) (rest := []) (wr := []) ⟨hx, hb, hml, hown, hts⟩ hK hP hD hS hA [0, 1, 2, 3, 4, 5, 6, 7, 8, 9, 10] [] rfl rfl (by decide) (by decide) (by decide) 1 [.int (nI d)] (mt0_sharedPairs l D ad cA _ ln lt pn ql q qp mk bd be xl yl xx yy co nc d hd hI) (lw_V q131 q133 qs6 q15 q134) (by decide +kernel) ⟨Nat.le_of_ble_eq_true rfl, Nat.le_of_ble_eq_true rfl⟩ rfl 0 rfl rfl hl.1 rfl (Nat.le_of_ble_eq_true rfl) dX0_mayBeWithin_18 ⟨Nat.zero_le _, Nat.zero_le _⟩ (fun r18 u H locs hw18 hP hD hS => ?_)
      have hw18 : r18 = nI (shP q ql (dc lt d) (ln d) 16) := hw18
      have hP : va_P D vwCl (wX0 ad cA ln lt pn ql q qp mk bd be xl yl xx yy co nc) H := hP
      have hD : va_D A (wX0 ad cA ln lt pn ql q qp mk bd be xl yl xx yy co nc) := hD
      have e18 : r18 = nI (shP q ql (dc lt d) (ln d) 16) := hw18
      subst e18
      refine lv_istore_n (lv' := [(3, .int (nI (shP q ql (dc lt d) (ln d) 16))), (0, .ref (ad 0)), (1, .int (nI d)), (2, .int (nI e0))]) hx hb dX0_mayBeWithin_21 rfl hl (by decide) rfl (fun ls hl => ?_)
      refine lv_iload_n hx hb dX0_mayBeWithin_22 rfl (lv_at hl 0 rfl) ?_
      refine lv_aload_n hx hb dX0_mayBeWithin_23 rfl (lv_at hl 1 rfl) ?_
      refine va_get (D := D) (ci := 0) (v := .int (nI ql)) (C := RX0) (T := TX0) (N := 15) hx hb hts in_X0 hown hK hP 0 rfl rfl 3 (by decide) (hts _ q28) (fun _ h9 => h9) rfl dX0_mayBeWithin_24 ?_
      refine lv_iconst (v := nI 1) hx hb dX0_mayBeWithin_27 (by decide) ?_
      refine nr_sub hx hb dX0_mayBeWithin_28 (by omega) ?_
      refine lv_iconst (v := nI 2) hx hb dX0_mayBeWithin_29 (by decide) ?_
      refine lv_iload_n hx hb dX0_mayBeWithin_30 rfl (lv_at hl 3 rfl) ?_
      refine nr_mul hx hb dX0_mayBeWithin_31 ?_
      refine lv_isub hx hb dX0_mayBeWithin_32 ?_
      refine lv_icmp_lt (tgt := 40) hx hb dX0_mayBeWithin_33 (by decide) (fun c33 => ?_) (fun c33 => ?_)
      · skip
        refine lv_iconst (v := nI 0) hx hb dX0_mayBeWithin_40 (by decide) ?_
        exact nr_zret hx hb hr (rfl) hlocks hK () hP hD hS (show (nI 0) = nI 1 ∨ ((nI 0) = nI 0 ∧ (nI e0).toInt < (bDi q (dc lt d) ql (ln d) : Nat)) from Or.inr ⟨rfl, by have z := (lt_sub (by omega) (by omega) (by omega)).mp c33; have z2 := qgram_best (y := dc lt d) hI.2.2.2.1 ql (ln d); rw [nI_toInt (by omega)]; omega⟩) dX0_mayBeWithin_41
      · skip
        refine lv_iconst (v := nI 1) hx hb dX0_mayBeWithin_36 (by decide) ?_
        refine lv_goto (tgt := 41) hx hb dX0_mayBeWithin_37 (by decide) ?_
        exact nr_zret hx hb hr (rfl) hlocks hK () hP hD hS (show (nI 1) = nI 1 ∨ ((nI 1) = nI 0 ∧ (nI e0).toInt < (bDi q (dc lt d) ql (ln d) : Nat)) from Or.inl rfl) dX0_mayBeWithin_41
    · skip
      refine lv_iconst (v := nI 1) hx hb dX0_mayBeWithin_14 (by decide) ?_
      exact nr_zret hx hb hr (rfl) hlocks hK () hP hD hS (show (nI 1) = nI 1 ∨ ((nI 1) = nI 0 ∧ er.toInt < (bDi q (dc lt d) ql (ln d) : Nat)) from Or.inl rfl) dX0_mayBeWithin_15
  · skip
    refine lv_iconst (v := nI 0) hx hb dX0_mayBeWithin_4 (by decide) ?_
    exact nr_zret hx hb hr (rfl) hlocks hK () hP hD hS (show (nI 0) = nI 1 ∨ ((nI 0) = nI 0 ∧ er.toInt < (bDi q (dc lt d) ql (ln d) : Nat)) from Or.inr ⟨rfl, by have z := Int32.lt_iff_toInt_lt.mp (Int32.not_le.mp c1); have z2 : (0 : Int32).toInt = 0 := rfl; omega⟩) dX0_mayBeWithin_5
end
section
/-! what the public methods answer, in words that both classes share; the invariant kept -/
def dN (p : Int32) : Nat := p.toNatClampNeg
theorem dN_nI {d : Nat} (h : d < 8) : dN (nI d) = d := nI_clamp (by omega)
def lw (p : Int32) : Nat := p.toBitVec.toNat % 4
theorem lw_lt (p : Int32) : lw p < 4 := Nat.mod_lt _ (by decide)
theorem lw_and (p : Int32) : p &&& nI 3 = nI (lw p) := pk_and p (m := nI 3) 2 (by decide)
def sWr (ln : Nat → Nat) (p0 : Int32) : Int32 := if inD p0 ∧ ln (dN p0) < 16 then nI (ln (dN p0) + 1) else -1
def sWrL (ln : Nat → Nat) (p0 : Int32) : Nat → Nat := if inD p0 ∧ ln (dN p0) < 16 then va_up ln (dN p0) (ln (dN p0) + 1) else ln
def sWrT (ln lt : Nat → Nat) (p0 p1 : Int32) : Nat → Nat := if inD p0 ∧ ln (dN p0) < 16 then va_up lt (16 * dN p0 + ln (dN p0)) (lw p1) else lt
def sWi (ln : Nat → Nat) (p0 : Int32) : Int32 := if inD p0 then nI (ln (dN p0)) else -1
def sWiL (ln : Nat → Nat) (p0 : Int32) : Nat → Nat := if inD p0 then va_up ln (dN p0) 0 else ln
def sTy (ql : Nat) : Int32 := if ql < 8 then nI (ql + 1) else -1
def sTyL (ql : Nat) : Nat := if ql < 8 then ql + 1 else ql
def sTyQ (ql : Nat) (q : Nat → Nat) (p0 : Int32) : Nat → Nat := if ql < 8 then va_up q ql (lw p0) else q
/-- what a document answers, by a function of documents; -1 for what is none -/
def sD1 (g : Nat → Nat) (p0 : Int32) : Int32 := if inD p0 then nI (g (dN p0)) else -1
def sD2 (g : Nat → Nat → Nat) (p0 p1 : Int32) : Int32 := if inD p0 ∧ inD p1 then nI (g (dN p0) (dN p1)) else -1
abbrev gDi (ln lt : Nat → Nat) (ql : Nat) (q : Nat → Nat) : Nat → Nat := fun d => bDi q (dc lt d) ql (ln d)
abbrev gEn (ln lt : Nat → Nat) (ql : Nat) (q : Nat → Nat) : Nat → Nat := fun d => bEn q (dc lt d) ql (ln d)
abbrev gWh (ln lt : Nat → Nat) (ql : Nat) (q : Nat → Nat) : Nat → Nat := fun d => eD q (dc lt d) ql (ln d)
abbrev gPa (ln lt : Nat → Nat) (ql : Nat) (q : Nat → Nat) : Nat → Nat := fun d => shP q ql (dc lt d) (ln d) 16
abbrev gBe (ln lt : Nat → Nat) : Nat → Nat → Nat := fun a b => eD (dc lt a) (dc lt b) (ln a) (ln b)
theorem sD1_in (g : Nat → Nat) {d : Nat} (h : d < 8) : sD1 g (nI d) = nI (g d) := by unfold sD1; rw [if_pos (inD_nI h), dN_nI h]
theorem sD1_out (g : Nat → Nat) {p : Int32} (h : ¬ inD p) : sD1 g p = -1 := by unfold sD1; rw [if_neg h]
theorem sD2_in (g : Nat → Nat → Nat) {a b : Nat} (h : a < 8) (h2 : b < 8) : sD2 g (nI a) (nI b) = nI (g a b) := by unfold sD2; rw [if_pos ⟨inD_nI h, inD_nI h2⟩, dN_nI h, dN_nI h2]
theorem sD2_out (g : Nat → Nat → Nat) {p p2 : Int32} (h : ¬ (inD p ∧ inD p2)) : sD2 g p p2 = -1 := by unfold sD2; rw [if_neg h]
/-- how many of the first n documents are within e -/
def cW (g : Nat → Nat) (e : Int32) : Nat → Nat
  | 0 => 0
  | n + 1 => cW g e n + if nI (g n) ≤ e then 1 else 0
/-- the least value of the first n documents, and which is the first with it -/
def nL (g : Nat → Nat) : Nat → Nat
  | 0 => 100
  | n + 1 => min (nL g n) (g n)
def nB0 (g : Nat → Nat) : Nat → Nat
  | 0 => 0
  | n + 1 => if g n < nL g n then n else nB0 g n
theorem inv0_write {ln lt pn : Nat → Nat} {ql : Nat} {q qp : Nat → Nat} (hI : inv0 ln lt pn ql q qp) {d b : Nat} (hd : d < 8) (hn : ln d < 16) (hb : b < 4) {pn' : Nat → Nat} (hp : ∀ t, pn' t = if 0 < ln d ∧ t = 16 * d + 4 * lt (16 * d + ln d - 1) + b then pn t + 1 else pn t) : inv0 (va_up ln d (ln d + 1)) (va_up lt (16 * d + ln d) b) pn' ql q qp := by
  obtain ⟨h1, h2, h3, h4, h5, h6⟩ := hI
  refine ⟨fun d' hd' => ?_, fun k => ?_, h3, h4, fun d' hd' p hp16 => ?_, h6⟩
  · by_cases e : d' = d
    · rw [e, up_s]; omega
    · rw [up_n _ _ e]; exact h1 d' hd'
  · by_cases e : k = 16 * d + ln d
    · rw [e, up_s]; exact hb
    · rw [up_n _ _ e]; exact h2 k
  · rw [hp]
    by_cases e : d' = d
    · subst e
      rw [up_s, h5 d' hd' p hp16, Nat.add_sub_cancel]
      have cg : ∀ k, k < ln d' → cQ (dc (va_up lt (16 * d' + ln d') b) d') p k = cQ (dc lt d') p k := fun k hk => cQ_congr p k (fun t ht => by show va_up lt _ b (16 * d' + t) = lt (16 * d' + t); rw [up_n _ _ (by omega)])
      rcases Nat.eq_zero_or_pos (ln d') with z | z
      · rw [z, if_neg (by omega)]
        rfl
      · obtain ⟨k, hk⟩ : ∃ k, ln d' = k + 1 := ⟨ln d' - 1, by omega⟩
        have cg2 := cg k (by omega)
        rw [hk] at cg2 ⊢
        rw [show 16 * d' + (k + 1) - 1 = 16 * d' + k by omega, Nat.add_sub_cancel]
        show _ = cQ (dc (va_up lt (16 * d' + (k + 1)) b) d') p k + if 4 * va_up lt (16 * d' + (k + 1)) b (16 * d' + k) + va_up lt (16 * d' + (k + 1)) b (16 * d' + (k + 1)) = p then 1 else 0
        rw [cg2, up_s, up_n _ _ (show 16 * d' + k ≠ 16 * d' + (k + 1) by omega)]
        by_cases c : 4 * lt (16 * d' + k) + b = p
        · rw [if_pos c, if_pos (by omega)]
        · rw [if_neg c, if_neg (by omega)]; rfl
    · have a1 := h2 (16 * d + ln d - 1)
      rw [up_n _ _ e, if_neg (by omega), h5 d' hd' p hp16]
      have := h1 d' hd'
      refine cQ_congr p _ (fun t ht => ?_)
      show lt (16 * d' + t) = va_up lt (16 * d + ln d) b (16 * d' + t)
      rw [up_n _ _ (by omega)]
theorem inv0_wipe {ln lt pn : Nat → Nat} {ql : Nat} {q qp : Nat → Nat} (hI : inv0 ln lt pn ql q qp) {d : Nat} (hd : d < 8) {pz : Nat → Nat} (hz : ∀ t, 16 * d ≤ t → t < 16 * d + 16 → pz t = 0) (ho : ∀ t, t < 16 * d ∨ 16 * d + 16 ≤ t → pz t = pn t) : inv0 (va_up ln d 0) lt pz ql q qp := by
  obtain ⟨h1, h2, h3, h4, h5, h6⟩ := hI
  refine ⟨fun d' hd' => ?_, h2, h3, h4, fun d' hd' p hp16 => ?_, h6⟩
  · by_cases e : d' = d
    · rw [e, up_s]; omega
    · rw [up_n _ _ e]; exact h1 d' hd'
  · by_cases e : d' = d
    · subst e
      rw [up_s, hz _ (by omega) (by omega)]
      rfl
    · rw [up_n _ _ e, ho _ (by omega)]
      exact h5 d' hd' p hp16
theorem inv0_type {ln lt pn : Nat → Nat} {ql : Nat} {q qp : Nat → Nat} (hI : inv0 ln lt pn ql q qp) {b : Nat} (hn : ql < 8) (hb : b < 4) {qp' : Nat → Nat} (hp : ∀ t, qp' t = if 0 < ql ∧ t = 4 * q (ql - 1) + b then qp t + 1 else qp t) : inv0 ln lt pn (ql + 1) (va_up q ql b) qp' := by
  obtain ⟨h1, h2, h3, h4, h5, h6⟩ := hI
  refine ⟨h1, h2, by omega, fun k => ?_, h5, fun p hp16 => ?_⟩
  · by_cases e : k = ql
    · rw [e, up_s]; exact hb
    · rw [up_n _ _ e]; exact h4 k
  · rw [hp, h6 p hp16, Nat.add_sub_cancel]
    rcases Nat.eq_zero_or_pos ql with z | z
    · rw [z, if_neg (by omega)]; rfl
    · obtain ⟨k, hk⟩ : ∃ k, ql = k + 1 := ⟨ql - 1, by omega⟩
      subst hk
      rw [Nat.add_sub_cancel]
      have cg2 : cQ (va_up q (k + 1) b) p k = cQ q p k := cQ_congr p k (fun t ht => by rw [up_n _ _ (by omega)])
      show _ = cQ (va_up q (k + 1) b) p k + if 4 * va_up q (k + 1) b k + va_up q (k + 1) b (k + 1) = p then 1 else 0
      rw [cg2, up_s, up_n _ _ (show k ≠ k + 1 by omega)]
      by_cases c : 4 * q k + b = p
      · rw [if_pos c, if_pos (by omega)]
      · rw [if_neg c, if_neg (by omega)]; rfl
theorem inv0_clear {ln lt pn : Nat → Nat} {ql : Nat} {q qp : Nat → Nat} (hI : inv0 ln lt pn ql q qp) {qp' : Nat → Nat} (hp : ∀ t, t < 16 → qp' t = 0) : inv0 ln lt pn 0 q qp' := by
  obtain ⟨h1, h2, h3, h4, h5, h6⟩ := hI
  exact ⟨h1, h2, by omega, h4, h5, fun p h => by rw [hp p h]; rfl⟩
theorem up_if {f : Nat → Nat} {k : Nat} (z : Nat) (c : 0 < z) : ∀ t, va_up f k (f k + 1) t = if 0 < z ∧ t = k then f t + 1 else f t := by
  intro t
  by_cases e : t = k
  · rw [e, up_s, if_pos ⟨c, rfl⟩]
  · rw [up_n _ _ e, if_neg (fun h => e h.2)]
end
section
set_option maxHeartbeats 4000000 in
set_option maxRecDepth 100000 in
/-- write(doc, letter) -/
theorem mt0_write (l : Launch) (D : va_G) (ad : Nat → Nat) (cA : ClassId) (sz : Nat) (ln : Nat → Nat) (lt : Nat → Nat) (pn : Nat → Nat) (ql : Nat) (q : Nat → Nat) (qp : Nat → Nat) (mk : Nat → Int32) (bd : Nat) (be : Nat) (xl : Nat) (yl : Nat) (xx : Nat → Nat) (yy : Nat → Nat) (co : Nat → Nat) (nc : Nat → Nat) (p0 : Int32) (p1 : Int32) (hI : inv0 ln lt pn ql q qp) : nMi l yX0_write cX0_write 4 .int 1 [.ref (ad 0), .int p0, .int p1] D vwCl cA (wX0 ad cA ln lt pn ql q qp mk bd be xl yl xx yy co nc) sz (fun (r : Int32) (u : (Nat → Nat) × (Nat → Nat) × (Nat → Nat)) => (fun (ln' : Nat → Nat) (lt' : Nat → Nat) (pn' : Nat → Nat) => r = sWr ln p0 ∧ ln' = sWrL ln p0 ∧ lt' = sWrT ln lt p0 p1 ∧ inv0 ln' lt' pn' ql q qp) u.1 u.2.1 u.2.2) (fun (u : (Nat → Nat) × (Nat → Nat) × (Nat → Nat)) => (fun (ln' : Nat → Nat) (lt' : Nat → Nat) (pn' : Nat → Nat) => (wX0 ad cA ln' lt' pn' ql q qp mk bd be xl yl xx yy co nc)) u.1 u.2.1 u.2.2) := by
  refine nr_metI (by decide) (Nat.le_of_ble_eq_true rfl) ?_
  intro p e s m below meth c A ls hx hb hr hml hown hlocks hts hA hK hP hD hS hl
  have hown : s.vm.findClass RX0 = some m.cls := hown
  have hl : lv_has ls 4 [(0, .ref (ad 0)), (1, .int p0), (2, .int p1)] := hl
  have hP : va_P D vwCl (wX0 ad cA ln lt pn ql q qp mk bd be xl yl xx yy co nc) s.heap := hP
  by_cases hin : inD p0
  · skip
    obtain ⟨d, hd, ed⟩ := inD_of hin
    subst ed
    have hln := hI.1 d hd
    have hlw := lw_lt p1
    have hl4 := hI.2.1 (16 * d + ln d - 1)
    refine lv_iload_n hx hb dX0_write_0 rfl (lv_at hl 1 rfl) ?_
    refine nr_callSi (rest := []) ⟨hx, hb, hml, hown, hts⟩ hK hP hD hS hA 1 [.int (nI d)] (mt0_isDoc l D cA _ (nI d) ) (lw_S q76 q77 q15 q78) (by decide +kernel) ⟨Nat.le_of_ble_eq_true rfl, Nat.le_of_ble_eq_true rfl⟩ rfl hl.1 rfl (Nat.le_of_ble_eq_true rfl) dX0_write_1 ⟨Nat.zero_le _, Nat.zero_le _⟩ (fun r1 H locs hw1 hP hD hS => ?_)
    have hw1 : r1 = nI (if inD (nI d) then 1 else 0) := hw1
    have e1 : r1 = nI 1 := hw1.trans (congrArg nI (if_pos (inD_nI hd)))
    subst e1
    refine nr_if_eq (tgt := 18) hx hb dX0_write_4 (by decide) (by omega) (fun c4 => ?_) (fun c4 => ?_)
    · skip
      exact absurd c4 (by decide)
    · skip
      refine lv_aload_n hx hb dX0_write_7 rfl (lv_at hl 0 rfl) ?_
      refine va_get (D := D) (ci := 0) (v := .ref (ad 1)) (C := RX0) (T := TX0) (N := 15) hx hb hts in_X0 hown hK hP 0 rfl rfl 0 (by decide) (hts _ q25) (fun _ h9 => h9) rfl dX0_write_8 ?_
      refine lv_iload_n hx hb dX0_write_11 rfl (lv_at hl 1 rfl) ?_
      refine nr_iald (f := ln) (n := 8) (i := d) hx hb hK hP 1 rfl rfl (by omega) (by decide) dX0_write_12 ?_
      refine lv_bipush (v := nI 16) hx hb dX0_write_13 (by decide) ?_
      refine nr_icmp_lt (tgt := 20) hx hb dX0_write_15 (by decide) (by omega) (by omega) (fun c15 => ?_) (fun c15 => ?_)
      · skip
        have hc : inD (nI d) ∧ ln (dN (nI d)) < 16 := ⟨inD_nI hd, by rw [dN_nI hd]; exact c15⟩
        refine lv_aload_n hx hb dX0_write_20 rfl (lv_at hl 0 rfl) ?_
        refine va_get (D := D) (ci := 0) (v := .ref (ad 1)) (C := RX0) (T := TX0) (N := 15) hx hb hts in_X0 hown hK hP 0 rfl rfl 0 (by decide) (hts _ q25) (fun _ h9 => h9) rfl dX0_write_21 ?_
        refine lv_iload_n hx hb dX0_write_24 rfl (lv_at hl 1 rfl) ?_
        refine nr_iald (f := ln) (n := 8) (i := d) hx hb hK hP 1 rfl rfl (by omega) (by decide) dX0_write_25 ?_
        refine lv_istore_n (lv' := [(3, .int (nI (ln d))), (0, .ref (ad 0)), (1, .int (nI d)), (2, .int p1)]) hx hb dX0_write_26 rfl hl (by decide) rfl (fun ls hl => ?_)
        refine lv_aload_n hx hb dX0_write_27 rfl (lv_at hl 1 rfl) ?_
        refine va_get (D := D) (ci := 0) (v := .ref (ad 2)) (C := RX0) (T := TX0) (N := 15) hx hb hts in_X0 hown hK hP 0 rfl rfl 1 (by decide) (hts _ q26) (fun _ h9 => h9) rfl dX0_write_28 ?_
        refine lv_bipush (v := nI 16) hx hb dX0_write_31 (by decide) ?_
        refine lv_iload_n hx hb dX0_write_33 rfl (lv_at hl 2 rfl) ?_
        refine nr_mul hx hb dX0_write_34 ?_
        refine lv_iload_n hx hb dX0_write_35 rfl (lv_at hl 0 rfl) ?_
        refine nr_add hx hb dX0_write_36 ?_
        refine lv_iload_n hx hb dX0_write_37 rfl (lv_at hl 3 rfl) ?_
        refine lv_iconst (v := nI 3) hx hb dX0_write_38 (by decide) ?_
        refine lv_iand hx hb dX0_write_39 ?_
        refine nr_as (show p1 &&& (nI 3) = nI (lw p1) from lw_and p1) ?_
        refine nr_iast (f := lt) (n := 128) (i := (16 * d) + (ln d)) (v := lw p1) hx hb hK hP hD hS 2 rfl rfl (by omega) (by decide) dX0_write_40 (fun H locs hP hD hS => ?_)
        have hP : va_P D vwCl (wX0 ad cA ln (va_up lt ((16 * d) + (ln d)) (lw p1)) pn ql q qp mk bd be xl yl xx yy co nc) H := hP
        have hD : va_D A (wX0 ad cA ln (va_up lt ((16 * d) + (ln d)) (lw p1)) pn ql q qp mk bd be xl yl xx yy co nc) := hD
        refine lv_iload_n hx hb dX0_write_41 rfl (lv_at hl 0 rfl) ?_
        refine nr_if_le (tgt := 78) hx hb dX0_write_42 (by decide) (by omega) (fun c42 => ?_) (fun c42 => ?_)
        · skip
          refine lv_aload_n hx hb dX0_write_78 rfl (lv_at hl 1 rfl) ?_
          refine va_get (D := D) (ci := 0) (v := .ref (ad 1)) (C := RX0) (T := TX0) (N := 15) hx hb hts in_X0 hown hK hP 0 rfl rfl 0 (by decide) (hts _ q25) (fun _ h9 => h9) rfl dX0_write_79 ?_
          refine lv_iload_n hx hb dX0_write_82 rfl (lv_at hl 2 rfl) ?_
          refine lv_iload_n hx hb dX0_write_83 rfl (lv_at hl 0 rfl) ?_
          refine lv_iconst (v := nI 1) hx hb dX0_write_84 (by decide) ?_
          refine nr_add hx hb dX0_write_85 ?_
          refine nr_iast (f := ln) (n := 8) (i := d) (v := (ln d) + 1) hx hb hK hP hD hS 1 rfl rfl (by omega) (by decide) dX0_write_86 (fun H locs hP hD hS => ?_)
          have hP : va_P D vwCl (wX0 ad cA (va_up ln d ((ln d) + 1)) (va_up lt ((16 * d) + (ln d)) (lw p1)) pn ql q qp mk bd be xl yl xx yy co nc) H := hP
          have hD : va_D A (wX0 ad cA (va_up ln d ((ln d) + 1)) (va_up lt ((16 * d) + (ln d)) (lw p1)) pn ql q qp mk bd be xl yl xx yy co nc) := hD
          refine lv_iload_n hx hb dX0_write_87 rfl (lv_at hl 0 rfl) ?_
          refine lv_iconst (v := nI 1) hx hb dX0_write_88 (by decide) ?_
          refine nr_add hx hb dX0_write_89 ?_
          exact nr_iret hx hb hr hlocks hK (va_up ln d ((ln d) + 1), va_up lt ((16 * d) + (ln d)) (lw p1), pn) hP hD hS (show (nI ((ln d) + 1)) = sWr ln (nI d) ∧ (va_up ln d ((ln d) + 1)) = sWrL ln (nI d) ∧ (va_up lt ((16 * d) + (ln d)) (lw p1)) = sWrT ln lt (nI d) p1 ∧ inv0 (va_up ln d ((ln d) + 1)) (va_up lt ((16 * d) + (ln d)) (lw p1)) pn ql q qp from ⟨by unfold sWr; rw [if_pos hc, dN_nI hd], by unfold sWrL; rw [if_pos hc, dN_nI hd], by unfold sWrT; rw [if_pos hc, dN_nI hd], inv0_write hI hd c15 hlw (fun t => (if_neg (fun z => by omega)).symm)⟩) dX0_write_90
        · skip
          refine lv_aload_n hx hb dX0_write_45 rfl (lv_at hl 1 rfl) ?_
          refine va_get (D := D) (ci := 0) (v := .ref (ad 3)) (C := RX0) (T := TX0) (N := 15) hx hb hts in_X0 hown hK hP 0 rfl rfl 2 (by decide) (hts _ q27) (fun _ h9 => h9) rfl dX0_write_46 ?_
          refine lv_bipush (v := nI 16) hx hb dX0_write_49 (by decide) ?_
          refine lv_iload_n hx hb dX0_write_51 rfl (lv_at hl 2 rfl) ?_
          refine nr_mul hx hb dX0_write_52 ?_
          refine lv_iconst (v := nI 4) hx hb dX0_write_53 (by decide) ?_
          refine lv_aload_n hx hb dX0_write_54 rfl (lv_at hl 1 rfl) ?_
          refine va_get (D := D) (ci := 0) (v := .ref (ad 2)) (C := RX0) (T := TX0) (N := 15) hx hb hts in_X0 hown hK hP 0 rfl rfl 1 (by decide) (hts _ q26) (fun _ h9 => h9) rfl dX0_write_55 ?_
          refine lv_bipush (v := nI 16) hx hb dX0_write_58 (by decide) ?_
          refine lv_iload_n hx hb dX0_write_60 rfl (lv_at hl 2 rfl) ?_
          refine nr_mul hx hb dX0_write_61 ?_
          refine lv_iload_n hx hb dX0_write_62 rfl (lv_at hl 0 rfl) ?_
          refine nr_add hx hb dX0_write_63 ?_
          refine lv_iconst (v := nI 1) hx hb dX0_write_64 (by decide) ?_
          refine nr_sub hx hb dX0_write_65 (by omega) ?_
          refine nr_iald (f := va_up lt ((16 * d) + (ln d)) (lw p1)) (n := 128) (i := ((16 * d) + (ln d)) - 1) hx hb hK hP 2 rfl rfl (by omega) (by decide) dX0_write_66 ?_
          refine nr_as (show nI ((va_up lt ((16 * d) + (ln d)) (lw p1)) (((16 * d) + (ln d)) - 1)) = nI (lt (16 * d + ln d - 1)) from congrArg nI (up_n _ _ (by omega))) ?_
          refine nr_mul hx hb dX0_write_67 ?_
          refine nr_add hx hb dX0_write_68 ?_
          refine lv_iload_n hx hb dX0_write_69 rfl (lv_at hl 3 rfl) ?_
          refine lv_iconst (v := nI 3) hx hb dX0_write_70 (by decide) ?_
          refine lv_iand hx hb dX0_write_71 ?_
          refine nr_as (show p1 &&& (nI 3) = nI (lw p1) from lw_and p1) ?_
          refine nr_add hx hb dX0_write_72 ?_
          refine lv_dup2_11 hx hb dX0_write_73 rfl rfl ?_
          refine nr_iald (f := pn) (n := 128) (i := ((16 * d) + (4 * (lt (16 * d + ln d - 1)))) + (lw p1)) hx hb hK hP 3 rfl rfl (by omega) (by decide) dX0_write_74 ?_
          refine lv_iconst (v := nI 1) hx hb dX0_write_75 (by decide) ?_
          refine nr_add hx hb dX0_write_76 ?_
          refine nr_iast (f := pn) (n := 128) (i := ((16 * d) + (4 * (lt (16 * d + ln d - 1)))) + (lw p1)) (v := (pn (((16 * d) + (4 * (lt (16 * d + ln d - 1)))) + (lw p1))) + 1) hx hb hK hP hD hS 3 rfl rfl (by omega) (by decide) dX0_write_77 (fun H locs hP hD hS => ?_)
          have hP : va_P D vwCl (wX0 ad cA ln (va_up lt ((16 * d) + (ln d)) (lw p1)) (va_up pn (((16 * d) + (4 * (lt (16 * d + ln d - 1)))) + (lw p1)) ((pn (((16 * d) + (4 * (lt (16 * d + ln d - 1)))) + (lw p1))) + 1)) ql q qp mk bd be xl yl xx yy co nc) H := hP
          have hD : va_D A (wX0 ad cA ln (va_up lt ((16 * d) + (ln d)) (lw p1)) (va_up pn (((16 * d) + (4 * (lt (16 * d + ln d - 1)))) + (lw p1)) ((pn (((16 * d) + (4 * (lt (16 * d + ln d - 1)))) + (lw p1))) + 1)) ql q qp mk bd be xl yl xx yy co nc) := hD
          refine lv_aload_n hx hb dX0_write_78 rfl (lv_at hl 1 rfl) ?_
          refine va_get (D := D) (ci := 0) (v := .ref (ad 1)) (C := RX0) (T := TX0) (N := 15) hx hb hts in_X0 hown hK hP 0 rfl rfl 0 (by decide) (hts _ q25) (fun _ h9 => h9) rfl dX0_write_79 ?_
          refine lv_iload_n hx hb dX0_write_82 rfl (lv_at hl 2 rfl) ?_
          refine lv_iload_n hx hb dX0_write_83 rfl (lv_at hl 0 rfl) ?_
          refine lv_iconst (v := nI 1) hx hb dX0_write_84 (by decide) ?_
          refine nr_add hx hb dX0_write_85 ?_
          refine nr_iast (f := ln) (n := 8) (i := d) (v := (ln d) + 1) hx hb hK hP hD hS 1 rfl rfl (by omega) (by decide) dX0_write_86 (fun H locs hP hD hS => ?_)
          have hP : va_P D vwCl (wX0 ad cA (va_up ln d ((ln d) + 1)) (va_up lt ((16 * d) + (ln d)) (lw p1)) (va_up pn (((16 * d) + (4 * (lt (16 * d + ln d - 1)))) + (lw p1)) ((pn (((16 * d) + (4 * (lt (16 * d + ln d - 1)))) + (lw p1))) + 1)) ql q qp mk bd be xl yl xx yy co nc) H := hP
          have hD : va_D A (wX0 ad cA (va_up ln d ((ln d) + 1)) (va_up lt ((16 * d) + (ln d)) (lw p1)) (va_up pn (((16 * d) + (4 * (lt (16 * d + ln d - 1)))) + (lw p1)) ((pn (((16 * d) + (4 * (lt (16 * d + ln d - 1)))) + (lw p1))) + 1)) ql q qp mk bd be xl yl xx yy co nc) := hD
          refine lv_iload_n hx hb dX0_write_87 rfl (lv_at hl 0 rfl) ?_
          refine lv_iconst (v := nI 1) hx hb dX0_write_88 (by decide) ?_
          refine nr_add hx hb dX0_write_89 ?_
          exact nr_iret hx hb hr hlocks hK (va_up ln d ((ln d) + 1), va_up lt ((16 * d) + (ln d)) (lw p1), va_up pn (((16 * d) + (4 * (lt (16 * d + ln d - 1)))) + (lw p1)) ((pn (((16 * d) + (4 * (lt (16 * d + ln d - 1)))) + (lw p1))) + 1)) hP hD hS (show (nI ((ln d) + 1)) = sWr ln (nI d) ∧ (va_up ln d ((ln d) + 1)) = sWrL ln (nI d) ∧ (va_up lt ((16 * d) + (ln d)) (lw p1)) = sWrT ln lt (nI d) p1 ∧ inv0 (va_up ln d ((ln d) + 1)) (va_up lt ((16 * d) + (ln d)) (lw p1)) (va_up pn (((16 * d) + (4 * (lt (16 * d + ln d - 1)))) + (lw p1)) ((pn (((16 * d) + (4 * (lt (16 * d + ln d - 1)))) + (lw p1))) + 1)) ql q qp from ⟨by unfold sWr; rw [if_pos hc, dN_nI hd], by unfold sWrL; rw [if_pos hc, dN_nI hd], by unfold sWrT; rw [if_pos hc, dN_nI hd], inv0_write hI hd c15 hlw (up_if (ln d) c42)⟩) dX0_write_90
      · skip
        have hc : ¬ (inD (nI d) ∧ ln (dN (nI d)) < 16) := fun z => by have z2 := z.2; rw [dN_nI hd] at z2; omega
        refine lv_iconst (v := (-1)) hx hb dX0_write_18 (by decide) ?_
        exact nr_iret hx hb hr hlocks hK (ln, lt, pn) hP hD hS (show (-1) = sWr ln (nI d) ∧ ln = sWrL ln (nI d) ∧ lt = sWrT ln lt (nI d) p1 ∧ inv0 ln lt pn ql q qp from ⟨by unfold sWr; rw [if_neg hc], by unfold sWrL; rw [if_neg hc], by unfold sWrT; rw [if_neg hc], hI⟩) dX0_write_19
  · skip
    refine lv_iload_n hx hb dX0_write_0 rfl (lv_at hl 1 rfl) ?_
    refine nr_callSi (rest := []) ⟨hx, hb, hml, hown, hts⟩ hK hP hD hS hA 1 [.int p0] (mt0_isDoc l D cA _ p0 ) (lw_S q76 q77 q15 q78) (by decide +kernel) ⟨Nat.le_of_ble_eq_true rfl, Nat.le_of_ble_eq_true rfl⟩ rfl hl.1 rfl (Nat.le_of_ble_eq_true rfl) dX0_write_1 ⟨Nat.zero_le _, Nat.zero_le _⟩ (fun r1 H locs hw1 hP hD hS => ?_)
    have hw1 : r1 = nI (if inD p0 then 1 else 0) := hw1
    have e1 : r1 = nI 0 := hw1.trans (congrArg nI (if_neg hin))
    subst e1
    refine nr_if_eq (tgt := 18) hx hb dX0_write_4 (by decide) (by omega) (fun c4 => ?_) (fun c4 => ?_)
    · skip
      refine lv_iconst (v := (-1)) hx hb dX0_write_18 (by decide) ?_
      exact nr_iret hx hb hr hlocks hK (ln, lt, pn) hP hD hS (show (-1) = sWr ln p0 ∧ ln = sWrL ln p0 ∧ lt = sWrT ln lt p0 p1 ∧ inv0 ln lt pn ql q qp from ⟨by unfold sWr; rw [if_neg (fun z => hin z.1)], by unfold sWrL; rw [if_neg (fun z => hin z.1)], by unfold sWrT; rw [if_neg (fun z => hin z.1)], hI⟩) dX0_write_19
    · skip
      exact absurd c4 (by decide)
set_option maxHeartbeats 4000000 in
set_option maxRecDepth 100000 in
/-- wipe(doc) -/
theorem mt0_wipe (l : Launch) (D : va_G) (ad : Nat → Nat) (cA : ClassId) (sz : Nat) (ln : Nat → Nat) (lt : Nat → Nat) (pn : Nat → Nat) (ql : Nat) (q : Nat → Nat) (qp : Nat → Nat) (mk : Nat → Int32) (bd : Nat) (be : Nat) (xl : Nat) (yl : Nat) (xx : Nat → Nat) (yy : Nat → Nat) (co : Nat → Nat) (nc : Nat → Nat) (p0 : Int32) (hI : inv0 ln lt pn ql q qp) : nMi l yX0_wipe cX0_wipe 4 .int 1 [.ref (ad 0), .int p0] D vwCl cA (wX0 ad cA ln lt pn ql q qp mk bd be xl yl xx yy co nc) sz (fun (r : Int32) (u : (Nat → Nat) × (Nat → Nat)) => (fun (ln' : Nat → Nat) (pn' : Nat → Nat) => r = sWi ln p0 ∧ ln' = sWiL ln p0 ∧ inv0 ln' lt pn' ql q qp) u.1 u.2) (fun (u : (Nat → Nat) × (Nat → Nat)) => (fun (ln' : Nat → Nat) (pn' : Nat → Nat) => (wX0 ad cA ln' lt pn' ql q qp mk bd be xl yl xx yy co nc)) u.1 u.2) := by
  refine nr_metI (by decide) (Nat.le_of_ble_eq_true rfl) ?_
  intro p e s m below meth c A ls hx hb hr hml hown hlocks hts hA hK hP hD hS hl
  have hown : s.vm.findClass RX0 = some m.cls := hown
  have hl : lv_has ls 4 [(0, .ref (ad 0)), (1, .int p0)] := hl
  have hP : va_P D vwCl (wX0 ad cA ln lt pn ql q qp mk bd be xl yl xx yy co nc) s.heap := hP
  by_cases hin : inD p0
  · skip
    obtain ⟨d, hd, ed⟩ := inD_of hin
    subst ed
    have hln := hI.1 d hd
    refine lv_iload_n hx hb dX0_wipe_0 rfl (lv_at hl 1 rfl) ?_
    refine nr_callSi (rest := []) ⟨hx, hb, hml, hown, hts⟩ hK hP hD hS hA 1 [.int (nI d)] (mt0_isDoc l D cA _ (nI d) ) (lw_S q76 q77 q15 q78) (by decide +kernel) ⟨Nat.le_of_ble_eq_true rfl, Nat.le_of_ble_eq_true rfl⟩ rfl hl.1 rfl (Nat.le_of_ble_eq_true rfl) dX0_wipe_1 ⟨Nat.zero_le _, Nat.zero_le _⟩ (fun r1 H locs hw1 hP hD hS => ?_)
    have hw1 : r1 = nI (if inD (nI d) then 1 else 0) := hw1
    have e1 : r1 = nI 1 := hw1.trans (congrArg nI (if_pos (inD_nI hd)))
    subst e1
    refine nr_if_ne (tgt := 9) hx hb dX0_wipe_4 (by decide) (by omega) (fun c4 => ?_) (fun c4 => ?_)
    · skip
      refine lv_aload_n hx hb dX0_wipe_9 rfl (lv_at hl 0 rfl) ?_
      refine va_get (D := D) (ci := 0) (v := .ref (ad 1)) (C := RX0) (T := TX0) (N := 15) hx hb hts in_X0 hown hK hP 0 rfl rfl 0 (by decide) (hts _ q25) (fun _ h9 => h9) rfl dX0_wipe_10 ?_
      refine lv_iload_n hx hb dX0_wipe_13 rfl (lv_at hl 1 rfl) ?_
      refine nr_iald (f := ln) (n := 8) (i := d) hx hb hK hP 1 rfl rfl (by omega) (by decide) dX0_wipe_14 ?_
      refine lv_istore_n (lv' := [(2, .int (nI (ln d))), (0, .ref (ad 0)), (1, .int (nI d))]) hx hb dX0_wipe_15 rfl hl (by decide) rfl (fun ls hl => ?_)
      refine lv_aload_n hx hb dX0_wipe_16 rfl (lv_at hl 1 rfl) ?_
      refine va_get (D := D) (ci := 0) (v := .ref (ad 1)) (C := RX0) (T := TX0) (N := 15) hx hb hts in_X0 hown hK hP 0 rfl rfl 0 (by decide) (hts _ q25) (fun _ h9 => h9) rfl dX0_wipe_17 ?_
      refine lv_iload_n hx hb dX0_wipe_20 rfl (lv_at hl 2 rfl) ?_
      refine lv_iconst (v := nI 0) hx hb dX0_wipe_21 (by decide) ?_
      refine nr_iast (f := ln) (n := 8) (i := d) (v := 0) hx hb hK hP hD hS 1 rfl rfl (by omega) (by decide) dX0_wipe_22 (fun H locs hP hD hS => ?_)
      have hP : va_P D vwCl (wX0 ad cA (va_up ln d 0) lt pn ql q qp mk bd be xl yl xx yy co nc) H := hP
      have hD : va_D A (wX0 ad cA (va_up ln d 0) lt pn ql q qp mk bd be xl yl xx yy co nc) := hD
      refine lv_bipush (v := nI 16) hx hb dX0_wipe_23 (by decide) ?_
      refine lv_iload_n hx hb dX0_wipe_25 rfl (lv_at hl 2 rfl) ?_
      refine nr_mul hx hb dX0_wipe_26 ?_
      refine lv_istore_n (lv' := [(3, .int (nI (16 * d))), (2, .int (nI (ln d))), (0, .ref (ad 0)), (1, .int (nI d))]) hx hb dX0_wipe_27 rfl hl (by decide) rfl (fun ls hl => ?_)
      refine nr_loop (σ := Nat × (Nat → Nat)) (fun v H locs ls => (fun (k : Nat) (pz : Nat → Nat) => (16 * d ≤ k) ∧ (k ≤ 16 * d + 16) ∧ (∀ t, 16 * d ≤ t → t < k → pz t = 0) ∧ (∀ t, t < 16 * d ∨ 16 * d + 16 ≤ t → pz t = pn t) ∧ va_P D vwCl (wX0 ad cA (va_up ln d 0) lt pz ql q qp mk bd be xl yl xx yy co nc) H ∧ va_D A (wX0 ad cA (va_up ln d 0) lt pz ql q qp mk bd be xl yl xx yy co nc) ∧ va_S A s.heap H locs ∧ lv_has ls 4 [(0, .ref (ad 0)), (1, .int (nI d)), (2, .int (nI (ln d))), (3, .int (nI k))]) v.1 v.2) (fun v => (fun (k : Nat) (pz : Nat → Nat) => 16 * d + 16 - k) v.1 v.2) ?_ (16 * d, pn) ⟨(show 16 * d ≤ (16 * d) from by omega), (show (16 * d) ≤ 16 * d + 16 from by omega), (show ∀ t, 16 * d ≤ t → t < (16 * d) → pn t = 0 from fun t h1 h2 => by omega), (show ∀ t, t < 16 * d ∨ 16 * d + 16 ≤ t → pn t = pn t from fun t h => rfl), hP, hD, hS, lv_sub hl [2, 3, 1, 0] rfl⟩
      intro v H locs ls hv ih28
      obtain ⟨k, pz⟩ := v
      obtain ⟨hk1, hk2, hz, ho, hP, hD, hS, hl⟩ := hv
      have hk1 : 16 * d ≤ k := hk1
      have hk2 : k ≤ 16 * d + 16 := hk2
      have hz : ∀ t, 16 * d ≤ t → t < k → pz t = 0 := hz
      have ho : ∀ t, t < 16 * d ∨ 16 * d + 16 ≤ t → pz t = pn t := ho
      have hP : va_P D vwCl (wX0 ad cA (va_up ln d 0) lt pz ql q qp mk bd be xl yl xx yy co nc) H := hP
      have hD : va_D A (wX0 ad cA (va_up ln d 0) lt pz ql q qp mk bd be xl yl xx yy co nc) := hD
      have hl : lv_has ls 4 [(0, .ref (ad 0)), (1, .int (nI d)), (2, .int (nI (ln d))), (3, .int (nI k))] := hl
      refine lv_iload_n hx hb dX0_wipe_28 rfl (lv_at hl 3 rfl) ?_
      refine lv_bipush (v := nI 16) hx hb dX0_wipe_29 (by decide) ?_
      refine lv_iload_n hx hb dX0_wipe_31 rfl (lv_at hl 1 rfl) ?_
      refine nr_mul hx hb dX0_wipe_32 ?_
      refine lv_bipush (v := nI 16) hx hb dX0_wipe_33 (by decide) ?_
      refine nr_add hx hb dX0_wipe_35 ?_
      refine nr_icmp_ge (tgt := 52) hx hb dX0_wipe_36 (by decide) (by omega) (by omega) (fun c36 => ?_) (fun c36 => ?_)
      · skip
        refine lv_iload_n hx hb dX0_wipe_52 rfl (lv_at hl 2 rfl) ?_
        exact nr_iret hx hb hr hlocks hK (va_up ln d 0, pz) hP hD hS (show (nI (ln d)) = sWi ln (nI d) ∧ (va_up ln d 0) = sWiL ln (nI d) ∧ inv0 (va_up ln d 0) lt pz ql q qp from ⟨by unfold sWi; rw [if_pos (inD_nI hd), dN_nI hd], by unfold sWiL; rw [if_pos (inD_nI hd), dN_nI hd], inv0_wipe hI hd (fun t h1 h2 => hz t h1 (by omega)) ho⟩) dX0_wipe_53
      · skip
        refine lv_aload_n hx hb dX0_wipe_39 rfl (lv_at hl 0 rfl) ?_
        refine va_get (D := D) (ci := 0) (v := .ref (ad 3)) (C := RX0) (T := TX0) (N := 15) hx hb hts in_X0 hown hK hP 0 rfl rfl 2 (by decide) (hts _ q27) (fun _ h9 => h9) rfl dX0_wipe_40 ?_
        refine lv_iload_n hx hb dX0_wipe_43 rfl (lv_at hl 3 rfl) ?_
        refine lv_iconst (v := nI 0) hx hb dX0_wipe_44 (by decide) ?_
        refine nr_iast (f := pz) (n := 128) (i := k) (v := 0) hx hb hK hP hD hS 3 rfl rfl (by omega) (by decide) dX0_wipe_45 (fun H locs hP hD hS => ?_)
        have hP : va_P D vwCl (wX0 ad cA (va_up ln d 0) lt (va_up pz k 0) ql q qp mk bd be xl yl xx yy co nc) H := hP
        have hD : va_D A (wX0 ad cA (va_up ln d 0) lt (va_up pz k 0) ql q qp mk bd be xl yl xx yy co nc) := hD
        refine lv_iinc (v := nI (k + 1)) (lv' := [(3, .int (nI (k + 1))), (0, .ref (ad 0)), (1, .int (nI d)), (2, .int (nI (ln d)))]) hx hb dX0_wipe_46 hl (k := 3) rfl (nI_add k 1) (by decide) rfl (fun ls hl => ?_)
        refine lv_goto (tgt := 28) hx hb dX0_wipe_49 (by decide) ?_
        exact ih28 (k + 1, va_up pz k 0) _ _ _ ⟨(show 16 * d ≤ (k + 1) from by omega), (show (k + 1) ≤ 16 * d + 16 from by omega), (show ∀ t, 16 * d ≤ t → t < (k + 1) → (va_up pz k 0) t = 0 from fun t h1 h2 => by by_cases e : t = k; (rw [e, up_s]); (rw [up_n _ _ e]; exact hz t h1 (by omega))), (show ∀ t, t < 16 * d ∨ 16 * d + 16 ≤ t → (va_up pz k 0) t = pn t from fun t h => by rw [up_n _ _ (by omega)]; exact ho t h), hP, hD, hS, lv_sub hl [1, 2, 3, 0] rfl⟩ (show 16 * d + 16 - (k + 1) < 16 * d + 16 - k from by omega)
    · skip
      exact absurd c4 (by decide)
  · skip
    refine lv_iload_n hx hb dX0_wipe_0 rfl (lv_at hl 1 rfl) ?_
    refine nr_callSi (rest := []) ⟨hx, hb, hml, hown, hts⟩ hK hP hD hS hA 1 [.int p0] (mt0_isDoc l D cA _ p0 ) (lw_S q76 q77 q15 q78) (by decide +kernel) ⟨Nat.le_of_ble_eq_true rfl, Nat.le_of_ble_eq_true rfl⟩ rfl hl.1 rfl (Nat.le_of_ble_eq_true rfl) dX0_wipe_1 ⟨Nat.zero_le _, Nat.zero_le _⟩ (fun r1 H locs hw1 hP hD hS => ?_)
    have hw1 : r1 = nI (if inD p0 then 1 else 0) := hw1
    have e1 : r1 = nI 0 := hw1.trans (congrArg nI (if_neg hin))
    subst e1
    refine nr_if_ne (tgt := 9) hx hb dX0_wipe_4 (by decide) (by omega) (fun c4 => ?_) (fun c4 => ?_)
    · skip
      exact absurd c4 (by decide)
    · skip
      refine lv_iconst (v := (-1)) hx hb dX0_wipe_7 (by decide) ?_
      exact nr_iret hx hb hr hlocks hK (ln, pn) hP hD hS (show (-1) = sWi ln p0 ∧ ln = sWiL ln p0 ∧ inv0 ln lt pn ql q qp from ⟨by unfold sWi; rw [if_neg hin], by unfold sWiL; rw [if_neg hin], hI⟩) dX0_wipe_8
set_option maxHeartbeats 4000000 in
set_option maxRecDepth 100000 in
/-- type(letter) -/
theorem mt0_type (l : Launch) (D : va_G) (ad : Nat → Nat) (cA : ClassId) (sz : Nat) (ln : Nat → Nat) (lt : Nat → Nat) (pn : Nat → Nat) (ql : Nat) (q : Nat → Nat) (qp : Nat → Nat) (mk : Nat → Int32) (bd : Nat) (be : Nat) (xl : Nat) (yl : Nat) (xx : Nat → Nat) (yy : Nat → Nat) (co : Nat → Nat) (nc : Nat → Nat) (p0 : Int32) (hI : inv0 ln lt pn ql q qp) : nMi l yX0_type cX0_type 2 .int 0 [.ref (ad 0), .int p0] D vwCl cA (wX0 ad cA ln lt pn ql q qp mk bd be xl yl xx yy co nc) sz (fun (r : Int32) (u : Nat × (Nat → Nat) × (Nat → Nat)) => (fun (ql' : Nat) (q' : Nat → Nat) (qp' : Nat → Nat) => r = sTy ql ∧ ql' = sTyL ql ∧ q' = sTyQ ql q p0 ∧ inv0 ln lt pn ql' q' qp') u.1 u.2.1 u.2.2) (fun (u : Nat × (Nat → Nat) × (Nat → Nat)) => (fun (ql' : Nat) (q' : Nat → Nat) (qp' : Nat → Nat) => (wX0 ad cA ln lt pn ql' q' qp' mk bd be xl yl xx yy co nc)) u.1 u.2.1 u.2.2) := by
  refine nr_metI (by decide) (Nat.le_of_ble_eq_true rfl) ?_
  intro p e s m below meth c A ls hx hb hr hml hown hlocks hts hA hK hP hD hS hl
  have hown : s.vm.findClass RX0 = some m.cls := hown
  have hl : lv_has ls 2 [(0, .ref (ad 0)), (1, .int p0)] := hl
  have hP : va_P D vwCl (wX0 ad cA ln lt pn ql q qp mk bd be xl yl xx yy co nc) s.heap := hP
  have hq8 := hI.2.2.1
  have hlw := lw_lt p0
  have hq4 := hI.2.2.2.1 (ql - 1)
  refine lv_aload_n hx hb dX0_type_0 rfl (lv_at hl 0 rfl) ?_
  refine va_get (D := D) (ci := 0) (v := .int (nI ql)) (C := RX0) (T := TX0) (N := 15) hx hb hts in_X0 hown hK hP 0 rfl rfl 3 (by decide) (hts _ q28) (fun _ h9 => h9) rfl dX0_type_1 ?_
  refine lv_bipush (v := nI 8) hx hb dX0_type_4 (by decide) ?_
  refine nr_icmp_lt (tgt := 11) hx hb dX0_type_6 (by decide) (by omega) (by omega) (fun c6 => ?_) (fun c6 => ?_)
  · skip
    refine lv_aload_n hx hb dX0_type_11 rfl (lv_at hl 0 rfl) ?_
    refine va_get (D := D) (ci := 0) (v := .ref (ad 4)) (C := RX0) (T := TX0) (N := 15) hx hb hts in_X0 hown hK hP 0 rfl rfl 4 (by decide) (hts _ q29) (fun _ h9 => h9) rfl dX0_type_12 ?_
    refine lv_aload_n hx hb dX0_type_15 rfl (lv_at hl 0 rfl) ?_
    refine va_get (D := D) (ci := 0) (v := .int (nI ql)) (C := RX0) (T := TX0) (N := 15) hx hb hts in_X0 hown hK hP 0 rfl rfl 3 (by decide) (hts _ q28) (fun _ h9 => h9) rfl dX0_type_16 ?_
    refine lv_iload_n hx hb dX0_type_19 rfl (lv_at hl 1 rfl) ?_
    refine lv_iconst (v := nI 3) hx hb dX0_type_20 (by decide) ?_
    refine lv_iand hx hb dX0_type_21 ?_
    refine nr_as (show p0 &&& (nI 3) = nI (lw p0) from lw_and p0) ?_
    refine nr_iast (f := q) (n := 8) (i := ql) (v := lw p0) hx hb hK hP hD hS 4 rfl rfl (by omega) (by decide) dX0_type_22 (fun H locs hP hD hS => ?_)
    have hP : va_P D vwCl (wX0 ad cA ln lt pn ql (va_up q ql (lw p0)) qp mk bd be xl yl xx yy co nc) H := hP
    have hD : va_D A (wX0 ad cA ln lt pn ql (va_up q ql (lw p0)) qp mk bd be xl yl xx yy co nc) := hD
    refine lv_aload_n hx hb dX0_type_23 rfl (lv_at hl 0 rfl) ?_
    refine va_get (D := D) (ci := 0) (v := .int (nI ql)) (C := RX0) (T := TX0) (N := 15) hx hb hts in_X0 hown hK hP 0 rfl rfl 3 (by decide) (hts _ q28) (fun _ h9 => h9) rfl dX0_type_24 ?_
    refine nr_if_le (tgt := 56) hx hb dX0_type_27 (by decide) (by omega) (fun c27 => ?_) (fun c27 => ?_)
    · skip
      refine lv_aload_n hx hb dX0_type_56 rfl (lv_at hl 0 rfl) ?_
      refine lv_dup hx hb dX0_type_57 rfl ?_
      refine va_get (D := D) (ci := 0) (v := .int (nI ql)) (C := RX0) (T := TX0) (N := 15) hx hb hts in_X0 hown hK hP 0 rfl rfl 3 (by decide) (hts _ q28) (fun _ h9 => h9) rfl dX0_type_58 ?_
      refine lv_iconst (v := nI 1) hx hb dX0_type_61 (by decide) ?_
      refine nr_add hx hb dX0_type_62 ?_
      refine va_put (D := D) (ci := 0) (v := .int (nI (ql + 1))) (ty := .int) (C := RX0) (T := TX0) (N := 15) hx hb hts in_X0 tyX0 tyX0_ok nmX0 hown hK hP hD hS 0 rfl rfl 3 (by decide) (hts _ q28) (fun _ h9 => h9) rfl (by decide +kernel) rfl rfl (Nat.le_of_ble_eq_true rfl) dX0_type_63 (fun H locs hP hD hS => ?_)
      have hP : va_P D vwCl (wX0 ad cA ln lt pn (ql + 1) (va_up q ql (lw p0)) qp mk bd be xl yl xx yy co nc) H := hP
      have hD : va_D A (wX0 ad cA ln lt pn (ql + 1) (va_up q ql (lw p0)) qp mk bd be xl yl xx yy co nc) := hD
      refine lv_aload_n hx hb dX0_type_66 rfl (lv_at hl 0 rfl) ?_
      refine va_get (D := D) (ci := 0) (v := .int (nI (ql + 1))) (C := RX0) (T := TX0) (N := 15) hx hb hts in_X0 hown hK hP 0 rfl rfl 3 (by decide) (hts _ q28) (fun _ h9 => h9) rfl dX0_type_67 ?_
      exact nr_iret hx hb hr hlocks hK (ql + 1, va_up q ql (lw p0), qp) hP hD hS (show (nI (ql + 1)) = sTy ql ∧ (ql + 1) = sTyL ql ∧ (va_up q ql (lw p0)) = sTyQ ql q p0 ∧ inv0 ln lt pn (ql + 1) (va_up q ql (lw p0)) qp from ⟨by unfold sTy; rw [if_pos c6], by unfold sTyL; rw [if_pos c6], by unfold sTyQ; rw [if_pos c6], inv0_type hI c6 hlw (fun t => (if_neg (fun z => by omega)).symm)⟩) dX0_type_70
    · skip
      refine lv_aload_n hx hb dX0_type_30 rfl (lv_at hl 0 rfl) ?_
      refine va_get (D := D) (ci := 0) (v := .ref (ad 5)) (C := RX0) (T := TX0) (N := 15) hx hb hts in_X0 hown hK hP 0 rfl rfl 5 (by decide) (hts _ q30) (fun _ h9 => h9) rfl dX0_type_31 ?_
      refine lv_iconst (v := nI 4) hx hb dX0_type_34 (by decide) ?_
      refine lv_aload_n hx hb dX0_type_35 rfl (lv_at hl 0 rfl) ?_
      refine va_get (D := D) (ci := 0) (v := .ref (ad 4)) (C := RX0) (T := TX0) (N := 15) hx hb hts in_X0 hown hK hP 0 rfl rfl 4 (by decide) (hts _ q29) (fun _ h9 => h9) rfl dX0_type_36 ?_
      refine lv_aload_n hx hb dX0_type_39 rfl (lv_at hl 0 rfl) ?_
      refine va_get (D := D) (ci := 0) (v := .int (nI ql)) (C := RX0) (T := TX0) (N := 15) hx hb hts in_X0 hown hK hP 0 rfl rfl 3 (by decide) (hts _ q28) (fun _ h9 => h9) rfl dX0_type_40 ?_
      refine lv_iconst (v := nI 1) hx hb dX0_type_43 (by decide) ?_
      refine nr_sub hx hb dX0_type_44 (by omega) ?_
      refine nr_iald (f := va_up q ql (lw p0)) (n := 8) (i := ql - 1) hx hb hK hP 4 rfl rfl (by omega) (by decide) dX0_type_45 ?_
      refine nr_as (show nI ((va_up q ql (lw p0)) (ql - 1)) = nI (q (ql - 1)) from congrArg nI (up_n _ _ (by omega))) ?_
      refine nr_mul hx hb dX0_type_46 ?_
      refine lv_iload_n hx hb dX0_type_47 rfl (lv_at hl 1 rfl) ?_
      refine lv_iconst (v := nI 3) hx hb dX0_type_48 (by decide) ?_
      refine lv_iand hx hb dX0_type_49 ?_
      refine nr_as (show p0 &&& (nI 3) = nI (lw p0) from lw_and p0) ?_
      refine nr_add hx hb dX0_type_50 ?_
      refine lv_dup2_11 hx hb dX0_type_51 rfl rfl ?_
      refine nr_iald (f := qp) (n := 16) (i := (4 * (q (ql - 1))) + (lw p0)) hx hb hK hP 5 rfl rfl (by omega) (by decide) dX0_type_52 ?_
      refine lv_iconst (v := nI 1) hx hb dX0_type_53 (by decide) ?_
      refine nr_add hx hb dX0_type_54 ?_
      refine nr_iast (f := qp) (n := 16) (i := (4 * (q (ql - 1))) + (lw p0)) (v := (qp ((4 * (q (ql - 1))) + (lw p0))) + 1) hx hb hK hP hD hS 5 rfl rfl (by omega) (by decide) dX0_type_55 (fun H locs hP hD hS => ?_)
      have hP : va_P D vwCl (wX0 ad cA ln lt pn ql (va_up q ql (lw p0)) (va_up qp ((4 * (q (ql - 1))) + (lw p0)) ((qp ((4 * (q (ql - 1))) + (lw p0))) + 1)) mk bd be xl yl xx yy co nc) H := hP
      have hD : va_D A (wX0 ad cA ln lt pn ql (va_up q ql (lw p0)) (va_up qp ((4 * (q (ql - 1))) + (lw p0)) ((qp ((4 * (q (ql - 1))) + (lw p0))) + 1)) mk bd be xl yl xx yy co nc) := hD
      refine lv_aload_n hx hb dX0_type_56 rfl (lv_at hl 0 rfl) ?_
      refine lv_dup hx hb dX0_type_57 rfl ?_
      refine va_get (D := D) (ci := 0) (v := .int (nI ql)) (C := RX0) (T := TX0) (N := 15) hx hb hts in_X0 hown hK hP 0 rfl rfl 3 (by decide) (hts _ q28) (fun _ h9 => h9) rfl dX0_type_58 ?_
      refine lv_iconst (v := nI 1) hx hb dX0_type_61 (by decide) ?_
      refine nr_add hx hb dX0_type_62 ?_
      refine va_put (D := D) (ci := 0) (v := .int (nI (ql + 1))) (ty := .int) (C := RX0) (T := TX0) (N := 15) hx hb hts in_X0 tyX0 tyX0_ok nmX0 hown hK hP hD hS 0 rfl rfl 3 (by decide) (hts _ q28) (fun _ h9 => h9) rfl (by decide +kernel) rfl rfl (Nat.le_of_ble_eq_true rfl) dX0_type_63 (fun H locs hP hD hS => ?_)
      have hP : va_P D vwCl (wX0 ad cA ln lt pn (ql + 1) (va_up q ql (lw p0)) (va_up qp ((4 * (q (ql - 1))) + (lw p0)) ((qp ((4 * (q (ql - 1))) + (lw p0))) + 1)) mk bd be xl yl xx yy co nc) H := hP
      have hD : va_D A (wX0 ad cA ln lt pn (ql + 1) (va_up q ql (lw p0)) (va_up qp ((4 * (q (ql - 1))) + (lw p0)) ((qp ((4 * (q (ql - 1))) + (lw p0))) + 1)) mk bd be xl yl xx yy co nc) := hD
      refine lv_aload_n hx hb dX0_type_66 rfl (lv_at hl 0 rfl) ?_
      refine va_get (D := D) (ci := 0) (v := .int (nI (ql + 1))) (C := RX0) (T := TX0) (N := 15) hx hb hts in_X0 hown hK hP 0 rfl rfl 3 (by decide) (hts _ q28) (fun _ h9 => h9) rfl dX0_type_67 ?_
      exact nr_iret hx hb hr hlocks hK (ql + 1, va_up q ql (lw p0), va_up qp ((4 * (q (ql - 1))) + (lw p0)) ((qp ((4 * (q (ql - 1))) + (lw p0))) + 1)) hP hD hS (show (nI (ql + 1)) = sTy ql ∧ (ql + 1) = sTyL ql ∧ (va_up q ql (lw p0)) = sTyQ ql q p0 ∧ inv0 ln lt pn (ql + 1) (va_up q ql (lw p0)) (va_up qp ((4 * (q (ql - 1))) + (lw p0)) ((qp ((4 * (q (ql - 1))) + (lw p0))) + 1)) from ⟨by unfold sTy; rw [if_pos c6], by unfold sTyL; rw [if_pos c6], by unfold sTyQ; rw [if_pos c6], inv0_type hI c6 hlw (up_if ql c27)⟩) dX0_type_70
  · skip
    refine lv_iconst (v := (-1)) hx hb dX0_type_9 (by decide) ?_
    exact nr_iret hx hb hr hlocks hK (ql, q, qp) hP hD hS (show (-1) = sTy ql ∧ ql = sTyL ql ∧ q = sTyQ ql q p0 ∧ inv0 ln lt pn ql q qp from ⟨by unfold sTy; rw [if_neg (by omega)], by unfold sTyL; rw [if_neg (by omega)], by unfold sTyQ; rw [if_neg (by omega)], hI⟩) dX0_type_10
set_option maxHeartbeats 4000000 in
set_option maxRecDepth 100000 in
/-- clear() -/
theorem mt0_clear (l : Launch) (D : va_G) (ad : Nat → Nat) (cA : ClassId) (sz : Nat) (ln : Nat → Nat) (lt : Nat → Nat) (pn : Nat → Nat) (ql : Nat) (q : Nat → Nat) (qp : Nat → Nat) (mk : Nat → Int32) (bd : Nat) (be : Nat) (xl : Nat) (yl : Nat) (xx : Nat → Nat) (yy : Nat → Nat) (co : Nat → Nat) (nc : Nat → Nat) (hI : inv0 ln lt pn ql q qp) : nMv l yX0_clear cX0_clear 2 0 [.ref (ad 0)] D vwCl cA (wX0 ad cA ln lt pn ql q qp mk bd be xl yl xx yy co nc) sz (fun (u : Nat × (Nat → Nat)) => (fun (ql' : Nat) (qp' : Nat → Nat) => ql' = 0 ∧ inv0 ln lt pn ql' q qp') u.1 u.2) (fun (u : Nat × (Nat → Nat)) => (fun (ql' : Nat) (qp' : Nat → Nat) => (wX0 ad cA ln lt pn ql' q qp' mk bd be xl yl xx yy co nc)) u.1 u.2) := by
  refine nr_metV (by decide) (Nat.le_of_ble_eq_true rfl) ?_
  intro p e s m below meth c A ls hx hb hr hml hown hlocks hts hA hK hP hD hS hl
  have hown : s.vm.findClass RX0 = some m.cls := hown
  have hl : lv_has ls 2 [(0, .ref (ad 0))] := hl
  have hP : va_P D vwCl (wX0 ad cA ln lt pn ql q qp mk bd be xl yl xx yy co nc) s.heap := hP
  refine lv_aload_n hx hb dX0_clear_0 rfl (lv_at hl 0 rfl) ?_
  refine lv_iconst (v := nI 0) hx hb dX0_clear_1 (by decide) ?_
  refine va_put (D := D) (ci := 0) (v := .int (nI 0)) (ty := .int) (C := RX0) (T := TX0) (N := 15) hx hb hts in_X0 tyX0 tyX0_ok nmX0 hown hK hP hD hS 0 rfl rfl 3 (by decide) (hts _ q28) (fun _ h9 => h9) rfl (by decide +kernel) rfl rfl (Nat.le_of_ble_eq_true rfl) dX0_clear_2 (fun H locs hP hD hS => ?_)
  have hP : va_P D vwCl (wX0 ad cA ln lt pn 0 q qp mk bd be xl yl xx yy co nc) H := hP
  have hD : va_D A (wX0 ad cA ln lt pn 0 q qp mk bd be xl yl xx yy co nc) := hD
  refine lv_iconst (v := nI 0) hx hb dX0_clear_5 (by decide) ?_
  refine lv_istore_n (lv' := [(1, .int (nI 0)), (0, .ref (ad 0))]) hx hb dX0_clear_6 rfl hl (by decide) rfl (fun ls hl => ?_)
  refine nr_loop (σ := Nat × (Nat → Nat)) (fun v H locs ls => (fun (k : Nat) (qz : Nat → Nat) => (k ≤ 16) ∧ (∀ t, t < k → qz t = 0) ∧ va_P D vwCl (wX0 ad cA ln lt pn 0 q qz mk bd be xl yl xx yy co nc) H ∧ va_D A (wX0 ad cA ln lt pn 0 q qz mk bd be xl yl xx yy co nc) ∧ va_S A s.heap H locs ∧ lv_has ls 2 [(0, .ref (ad 0)), (1, .int (nI k))]) v.1 v.2) (fun v => (fun (k : Nat) (qz : Nat → Nat) => 16 - k) v.1 v.2) ?_ (0, qp) ⟨(show 0 ≤ 16 from by omega), (show ∀ t, t < 0 → qp t = 0 from fun t h => absurd h (Nat.not_lt_zero t)), hP, hD, hS, lv_sub hl [1, 0] rfl⟩
  intro v H locs ls hv ih7
  obtain ⟨k, qz⟩ := v
  obtain ⟨hk, hz, hP, hD, hS, hl⟩ := hv
  have hk : k ≤ 16 := hk
  have hz : ∀ t, t < k → qz t = 0 := hz
  have hP : va_P D vwCl (wX0 ad cA ln lt pn 0 q qz mk bd be xl yl xx yy co nc) H := hP
  have hD : va_D A (wX0 ad cA ln lt pn 0 q qz mk bd be xl yl xx yy co nc) := hD
  have hl : lv_has ls 2 [(0, .ref (ad 0)), (1, .int (nI k))] := hl
  refine lv_iload_n hx hb dX0_clear_7 rfl (lv_at hl 1 rfl) ?_
  refine lv_bipush (v := nI 16) hx hb dX0_clear_8 (by decide) ?_
  refine nr_icmp_ge (tgt := 26) hx hb dX0_clear_10 (by decide) (by omega) (by omega) (fun c10 => ?_) (fun c10 => ?_)
  · skip
    exact nr_vret hx hb hr hlocks hK (0, qz) hP hD hS (show 0 = 0 ∧ inv0 ln lt pn 0 q qz from ⟨rfl, inv0_clear hI (fun t h => hz t (by omega))⟩) dX0_clear_26
  · skip
    refine lv_aload_n hx hb dX0_clear_13 rfl (lv_at hl 0 rfl) ?_
    refine va_get (D := D) (ci := 0) (v := .ref (ad 5)) (C := RX0) (T := TX0) (N := 15) hx hb hts in_X0 hown hK hP 0 rfl rfl 5 (by decide) (hts _ q30) (fun _ h9 => h9) rfl dX0_clear_14 ?_
    refine lv_iload_n hx hb dX0_clear_17 rfl (lv_at hl 1 rfl) ?_
    refine lv_iconst (v := nI 0) hx hb dX0_clear_18 (by decide) ?_
    refine nr_iast (f := qz) (n := 16) (i := k) (v := 0) hx hb hK hP hD hS 5 rfl rfl (by omega) (by decide) dX0_clear_19 (fun H locs hP hD hS => ?_)
    have hP : va_P D vwCl (wX0 ad cA ln lt pn 0 q (va_up qz k 0) mk bd be xl yl xx yy co nc) H := hP
    have hD : va_D A (wX0 ad cA ln lt pn 0 q (va_up qz k 0) mk bd be xl yl xx yy co nc) := hD
    refine lv_iinc (v := nI (k + 1)) (lv' := [(1, .int (nI (k + 1))), (0, .ref (ad 0))]) hx hb dX0_clear_20 hl (k := 1) rfl (nI_add k 1) (by decide) rfl (fun ls hl => ?_)
    refine lv_goto (tgt := 7) hx hb dX0_clear_23 (by decide) ?_
    exact ih7 (k + 1, va_up qz k 0) _ _ _ ⟨(show (k + 1) ≤ 16 from by omega), (show ∀ t, t < (k + 1) → (va_up qz k 0) t = 0 from up_fill (g := fun _ => 0) hz), hP, hD, hS, lv_sub hl [1, 0] rfl⟩ (show 16 - (k + 1) < 16 - k from by omega)
set_option maxHeartbeats 4000000 in
set_option maxRecDepth 100000 in
/-- distance(doc) -/
theorem mt0_distance (l : Launch) (D : va_G) (ad : Nat → Nat) (cA : ClassId) (sz : Nat) (ln : Nat → Nat) (lt : Nat → Nat) (pn : Nat → Nat) (ql : Nat) (q : Nat → Nat) (qp : Nat → Nat) (mk : Nat → Int32) (bd : Nat) (be : Nat) (xl : Nat) (yl : Nat) (xx : Nat → Nat) (yy : Nat → Nat) (co : Nat → Nat) (nc : Nat → Nat) (p0 : Int32) (hI : inv0 ln lt pn ql q qp) : nMi l yX0_distance cX0_distance 2 .int 1 [.ref (ad 0), .int p0] D vwCl cA (wX0 ad cA ln lt pn ql q qp mk bd be xl yl xx yy co nc) sz (fun (r : Int32) (u : (Nat → Int32) × Nat × Nat) => (fun (mk' : Nat → Int32) (bd' : Nat) (be' : Nat) => r = sD1 (gDi ln lt ql q) p0) u.1 u.2.1 u.2.2) (fun (u : (Nat → Int32) × Nat × Nat) => (fun (mk' : Nat → Int32) (bd' : Nat) (be' : Nat) => (wX0 ad cA ln lt pn ql q qp mk' bd' be' xl yl xx yy co nc)) u.1 u.2.1 u.2.2) := by
  refine nr_metI (by decide) (Nat.le_of_ble_eq_true rfl) ?_
  intro p e s m below meth c A ls hx hb hr hml hown hlocks hts hA hK hP hD hS hl
  have hown : s.vm.findClass RX0 = some m.cls := hown
  have hl : lv_has ls 2 [(0, .ref (ad 0)), (1, .int p0)] := hl
  have hP : va_P D vwCl (wX0 ad cA ln lt pn ql q qp mk bd be xl yl xx yy co nc) s.heap := hP
  by_cases hin : inD p0
  · skip
    obtain ⟨d, hd, ed⟩ := inD_of hin
    subst ed
    refine lv_iload_n hx hb dX0_distance_0 rfl (lv_at hl 1 rfl) ?_
    refine nr_callSi (rest := []) ⟨hx, hb, hml, hown, hts⟩ hK hP hD hS hA 1 [.int (nI d)] (mt0_isDoc l D cA _ (nI d) ) (lw_S q76 q77 q15 q78) (by decide +kernel) ⟨Nat.le_of_ble_eq_true rfl, Nat.le_of_ble_eq_true rfl⟩ rfl hl.1 rfl (Nat.le_of_ble_eq_true rfl) dX0_distance_1 ⟨Nat.zero_le _, Nat.zero_le _⟩ (fun r1 H locs hw1 hP hD hS => ?_)
    have hw1 : r1 = nI (if inD (nI d) then 1 else 0) := hw1
    have e1 : r1 = nI 1 := hw1.trans (congrArg nI (if_pos (inD_nI hd)))
    subst e1
    refine nr_if_ne (tgt := 9) hx hb dX0_distance_4 (by decide) (by omega) (fun c4 => ?_) (fun c4 => ?_)
    · skip
      refine lv_aload_n hx hb dX0_distance_9 rfl (lv_at hl 0 rfl) ?_
      refine lv_iload_n hx hb dX0_distance_10 rfl (lv_at hl 1 rfl) ?_
      refine nr_callVv (C := RX0) (T := TX0) (N := 15) (ci := 0) (rest := []) (wr := []) ⟨hx, hb, hml, hown, hts⟩ hK hP hD hS hA [0, 1, 2, 3, 4, 5, 6, 7, 8, 9, 10] [] rfl rfl (by decide) (by decide) (by decide) 1 [.int (nI d)] (mt0_search l D ad cA _ ln lt pn ql q qp mk bd be xl yl xx yy co nc d hd hI) (lw_V q95 q97 qs0 q15 q98) (by decide +kernel) ⟨Nat.le_of_ble_eq_true rfl, Nat.le_of_ble_eq_true rfl⟩ rfl 0 rfl rfl hl.1 rfl (Nat.le_of_ble_eq_true rfl) dX0_distance_11 ⟨Nat.zero_le _, Nat.zero_le _⟩ (fun u H locs hw11 hP hD hS => ?_)
      obtain ⟨mk11, bd11, be11⟩ := u
      have hw11 : bd11 = bDi q (dc lt d) ql (ln d) ∧ be11 = bEn q (dc lt d) ql (ln d) := hw11
      have hP : va_P D vwCl (wX0 ad cA ln lt pn ql q qp mk11 bd11 be11 xl yl xx yy co nc) H := hP
      have hD : va_D A (wX0 ad cA ln lt pn ql q qp mk11 bd11 be11 xl yl xx yy co nc) := hD
      obtain ⟨z1, z2⟩ := hw11
      subst z1; subst z2
      have hP : va_P D vwCl (wX0 ad cA ln lt pn ql q qp mk11 (bDi q (dc lt d) ql (ln d)) (bEn q (dc lt d) ql (ln d)) xl yl xx yy co nc) H := hP
      have hD : va_D A (wX0 ad cA ln lt pn ql q qp mk11 (bDi q (dc lt d) ql (ln d)) (bEn q (dc lt d) ql (ln d)) xl yl xx yy co nc) := hD
      refine lv_aload_n hx hb dX0_distance_14 rfl (lv_at hl 0 rfl) ?_
      refine va_get (D := D) (ci := 0) (v := .int (nI (bDi q (dc lt d) ql (ln d)))) (C := RX0) (T := TX0) (N := 15) hx hb hts in_X0 hown hK hP 0 rfl rfl 7 (by decide) (hts _ q32) (fun _ h9 => h9) rfl dX0_distance_15 ?_
      exact nr_iret hx hb hr hlocks hK (mk11, bDi q (dc lt d) ql (ln d), bEn q (dc lt d) ql (ln d)) hP hD hS (show (nI (bDi q (dc lt d) ql (ln d))) = sD1 (gDi ln lt ql q) (nI d) from (sD1_in (gDi ln lt ql q) hd).symm) dX0_distance_18
    · skip
      exact absurd c4 (by decide)
  · skip
    refine lv_iload_n hx hb dX0_distance_0 rfl (lv_at hl 1 rfl) ?_
    refine nr_callSi (rest := []) ⟨hx, hb, hml, hown, hts⟩ hK hP hD hS hA 1 [.int p0] (mt0_isDoc l D cA _ p0 ) (lw_S q76 q77 q15 q78) (by decide +kernel) ⟨Nat.le_of_ble_eq_true rfl, Nat.le_of_ble_eq_true rfl⟩ rfl hl.1 rfl (Nat.le_of_ble_eq_true rfl) dX0_distance_1 ⟨Nat.zero_le _, Nat.zero_le _⟩ (fun r1 H locs hw1 hP hD hS => ?_)
    have hw1 : r1 = nI (if inD p0 then 1 else 0) := hw1
    have e1 : r1 = nI 0 := hw1.trans (congrArg nI (if_neg hin))
    subst e1
    refine nr_if_ne (tgt := 9) hx hb dX0_distance_4 (by decide) (by omega) (fun c4 => ?_) (fun c4 => ?_)
    · skip
      exact absurd c4 (by decide)
    · skip
      refine lv_iconst (v := (-1)) hx hb dX0_distance_7 (by decide) ?_
      exact nr_iret hx hb hr hlocks hK (mk, bd, be) hP hD hS (show (-1) = sD1 (gDi ln lt ql q) p0 from (sD1_out _ hin).symm) dX0_distance_8
set_option maxHeartbeats 4000000 in
set_option maxRecDepth 100000 in
/-- end(doc) -/
theorem mt0_end (l : Launch) (D : va_G) (ad : Nat → Nat) (cA : ClassId) (sz : Nat) (ln : Nat → Nat) (lt : Nat → Nat) (pn : Nat → Nat) (ql : Nat) (q : Nat → Nat) (qp : Nat → Nat) (mk : Nat → Int32) (bd : Nat) (be : Nat) (xl : Nat) (yl : Nat) (xx : Nat → Nat) (yy : Nat → Nat) (co : Nat → Nat) (nc : Nat → Nat) (p0 : Int32) (hI : inv0 ln lt pn ql q qp) : nMi l yX0_end cX0_end 2 .int 1 [.ref (ad 0), .int p0] D vwCl cA (wX0 ad cA ln lt pn ql q qp mk bd be xl yl xx yy co nc) sz (fun (r : Int32) (u : (Nat → Int32) × Nat × Nat) => (fun (mk' : Nat → Int32) (bd' : Nat) (be' : Nat) => r = sD1 (gEn ln lt ql q) p0) u.1 u.2.1 u.2.2) (fun (u : (Nat → Int32) × Nat × Nat) => (fun (mk' : Nat → Int32) (bd' : Nat) (be' : Nat) => (wX0 ad cA ln lt pn ql q qp mk' bd' be' xl yl xx yy co nc)) u.1 u.2.1 u.2.2) := by
  refine nr_metI (by decide) (Nat.le_of_ble_eq_true rfl) ?_
  intro p e s m below meth c A ls hx hb hr hml hown hlocks hts hA hK hP hD hS hl
  have hown : s.vm.findClass RX0 = some m.cls := hown
  have hl : lv_has ls 2 [(0, .ref (ad 0)), (1, .int p0)] := hl
  have hP : va_P D vwCl (wX0 ad cA ln lt pn ql q qp mk bd be xl yl xx yy co nc) s.heap := hP
  by_cases hin : inD p0
  · skip
    obtain ⟨d, hd, ed⟩ := inD_of hin
    subst ed
    refine lv_iload_n hx hb dX0_end_0 rfl (lv_at hl 1 rfl) ?_
    refine nr_callSi (rest := []) ⟨hx, hb, hml, hown, hts⟩ hK hP hD hS hA 1 [.int (nI d)] (mt0_isDoc l D cA _ (nI d) ) (lw_S q76 q77 q15 q78) (by decide +kernel) ⟨Nat.le_of_ble_eq_true rfl, Nat.le_of_ble_eq_true rfl⟩ rfl hl.1 rfl (Nat.le_of_ble_eq_true rfl) dX0_end_1 ⟨Nat.zero_le _, Nat.zero_le _⟩ (fun r1 H locs hw1 hP hD hS => ?_)
    have hw1 : r1 = nI (if inD (nI d) then 1 else 0) := hw1
    have e1 : r1 = nI 1 := hw1.trans (congrArg nI (if_pos (inD_nI hd)))
    subst e1
    refine nr_if_ne (tgt := 9) hx hb dX0_end_4 (by decide) (by omega) (fun c4 => ?_) (fun c4 => ?_)
    · skip
      refine lv_aload_n hx hb dX0_end_9 rfl (lv_at hl 0 rfl) ?_
      refine lv_iload_n hx hb dX0_end_10 rfl (lv_at hl 1 rfl) ?_
      refine nr_callVv (C := RX0) (T := TX0) (N := 15) (ci := 0) (rest := []) (wr := []) ⟨hx, hb, hml, hown, hts⟩ hK hP hD hS hA [0, 1, 2, 3, 4, 5, 6, 7, 8, 9, 10] [] rfl rfl (by decide) (by decide) (by decide) 1 [.int (nI d)] (mt0_search l D ad cA _ ln lt pn ql q qp mk bd be xl yl xx yy co nc d hd hI) (lw_V q95 q97 qs0 q15 q98) (by decide +kernel) ⟨Nat.le_of_ble_eq_true rfl, Nat.le_of_ble_eq_true rfl⟩ rfl 0 rfl rfl hl.1 rfl (Nat.le_of_ble_eq_true rfl) dX0_end_11 ⟨Nat.zero_le _, Nat.zero_le _⟩ (fun u H locs hw11 hP hD hS => ?_)
      obtain ⟨mk11, bd11, be11⟩ := u
      have hw11 : bd11 = bDi q (dc lt d) ql (ln d) ∧ be11 = bEn q (dc lt d) ql (ln d) := hw11
      have hP : va_P D vwCl (wX0 ad cA ln lt pn ql q qp mk11 bd11 be11 xl yl xx yy co nc) H := hP
      have hD : va_D A (wX0 ad cA ln lt pn ql q qp mk11 bd11 be11 xl yl xx yy co nc) := hD
      obtain ⟨z1, z2⟩ := hw11
      subst z1; subst z2
      have hP : va_P D vwCl (wX0 ad cA ln lt pn ql q qp mk11 (bDi q (dc lt d) ql (ln d)) (bEn q (dc lt d) ql (ln d)) xl yl xx yy co nc) H := hP
      have hD : va_D A (wX0 ad cA ln lt pn ql q qp mk11 (bDi q (dc lt d) ql (ln d)) (bEn q (dc lt d) ql (ln d)) xl yl xx yy co nc) := hD
      refine lv_aload_n hx hb dX0_end_14 rfl (lv_at hl 0 rfl) ?_
      refine va_get (D := D) (ci := 0) (v := .int (nI (bEn q (dc lt d) ql (ln d)))) (C := RX0) (T := TX0) (N := 15) hx hb hts in_X0 hown hK hP 0 rfl rfl 8 (by decide) (hts _ q33) (fun _ h9 => h9) rfl dX0_end_15 ?_
      exact nr_iret hx hb hr hlocks hK (mk11, bDi q (dc lt d) ql (ln d), bEn q (dc lt d) ql (ln d)) hP hD hS (show (nI (bEn q (dc lt d) ql (ln d))) = sD1 (gEn ln lt ql q) (nI d) from (sD1_in (gEn ln lt ql q) hd).symm) dX0_end_18
    · skip
      exact absurd c4 (by decide)
  · skip
    refine lv_iload_n hx hb dX0_end_0 rfl (lv_at hl 1 rfl) ?_
    refine nr_callSi (rest := []) ⟨hx, hb, hml, hown, hts⟩ hK hP hD hS hA 1 [.int p0] (mt0_isDoc l D cA _ p0 ) (lw_S q76 q77 q15 q78) (by decide +kernel) ⟨Nat.le_of_ble_eq_true rfl, Nat.le_of_ble_eq_true rfl⟩ rfl hl.1 rfl (Nat.le_of_ble_eq_true rfl) dX0_end_1 ⟨Nat.zero_le _, Nat.zero_le _⟩ (fun r1 H locs hw1 hP hD hS => ?_)
    have hw1 : r1 = nI (if inD p0 then 1 else 0) := hw1
    have e1 : r1 = nI 0 := hw1.trans (congrArg nI (if_neg hin))
    subst e1
    refine nr_if_ne (tgt := 9) hx hb dX0_end_4 (by decide) (by omega) (fun c4 => ?_) (fun c4 => ?_)
    · skip
      exact absurd c4 (by decide)
    · skip
      refine lv_iconst (v := (-1)) hx hb dX0_end_7 (by decide) ?_
      exact nr_iret hx hb hr hlocks hK (mk, bd, be) hP hD hS (show (-1) = sD1 (gEn ln lt ql q) p0 from (sD1_out _ hin).symm) dX0_end_8
set_option maxHeartbeats 4000000 in
set_option maxRecDepth 100000 in
/-- pairs(doc) -/
theorem mt0_pairs (l : Launch) (D : va_G) (ad : Nat → Nat) (cA : ClassId) (sz : Nat) (ln : Nat → Nat) (lt : Nat → Nat) (pn : Nat → Nat) (ql : Nat) (q : Nat → Nat) (qp : Nat → Nat) (mk : Nat → Int32) (bd : Nat) (be : Nat) (xl : Nat) (yl : Nat) (xx : Nat → Nat) (yy : Nat → Nat) (co : Nat → Nat) (nc : Nat → Nat) (p0 : Int32) (hI : inv0 ln lt pn ql q qp) : nMi l yX0_pairs cX0_pairs 2 .int 1 [.ref (ad 0), .int p0] D vwCl cA (wX0 ad cA ln lt pn ql q qp mk bd be xl yl xx yy co nc) sz (fun (r : Int32) (u : Unit) => r = sD1 (gPa ln lt ql q) p0) (fun (u : Unit) => (wX0 ad cA ln lt pn ql q qp mk bd be xl yl xx yy co nc)) := by
  refine nr_metI (by decide) (Nat.le_of_ble_eq_true rfl) ?_
  intro p e s m below meth c A ls hx hb hr hml hown hlocks hts hA hK hP hD hS hl
  have hown : s.vm.findClass RX0 = some m.cls := hown
  have hl : lv_has ls 2 [(0, .ref (ad 0)), (1, .int p0)] := hl
  have hP : va_P D vwCl (wX0 ad cA ln lt pn ql q qp mk bd be xl yl xx yy co nc) s.heap := hP
  by_cases hin : inD p0
  · skip
    obtain ⟨d, hd, ed⟩ := inD_of hin
    subst ed
    refine lv_iload_n hx hb dX0_pairs_0 rfl (lv_at hl 1 rfl) ?_
    refine nr_callSi (rest := []) ⟨hx, hb, hml, hown, hts⟩ hK hP hD hS hA 1 [.int (nI d)] (mt0_isDoc l D cA _ (nI d) ) (lw_S q76 q77 q15 q78) (by decide +kernel) ⟨Nat.le_of_ble_eq_true rfl, Nat.le_of_ble_eq_true rfl⟩ rfl hl.1 rfl (Nat.le_of_ble_eq_true rfl) dX0_pairs_1 ⟨Nat.zero_le _, Nat.zero_le _⟩ (fun r1 H locs hw1 hP hD hS => ?_)
    have hw1 : r1 = nI (if inD (nI d) then 1 else 0) := hw1
    have e1 : r1 = nI 1 := hw1.trans (congrArg nI (if_pos (inD_nI hd)))
    subst e1
    refine nr_if_eq (tgt := 15) hx hb dX0_pairs_4 (by decide) (by omega) (fun c4 => ?_) (fun c4 => ?_)
    · skip
      exact absurd c4 (by decide)
    · skip
      refine lv_aload_n hx hb dX0_pairs_7 rfl (lv_at hl 0 rfl) ?_
      refine lv_iload_n hx hb dX0_pairs_8 rfl (lv_at hl 1 rfl) ?_
      refine nr_callVi (C := RX0) (T := TX0) (N := 15) (ci := 0) (rest := []) (wr := []) ⟨hx, hb, hml, hown, hts⟩ hK hP hD hS hA [0, 1, 2, 3, 4, 5, 6, 7, 8, 9, 10] [] rfl rfl (by decide) (by decide) (by decide) 1 [.int (nI d)] (mt0_sharedPairs l D ad cA _ ln lt pn ql q qp mk bd be xl yl xx yy co nc d hd hI) (lw_V q131 q133 qs6 q15 q134) (by decide +kernel) ⟨Nat.le_of_ble_eq_true rfl, Nat.le_of_ble_eq_true rfl⟩ rfl 0 rfl rfl hl.1 rfl (Nat.le_of_ble_eq_true rfl) dX0_pairs_9 ⟨Nat.zero_le _, Nat.zero_le _⟩ (fun r9 u H locs hw9 hP hD hS => ?_)
      have hw9 : r9 = nI (shP q ql (dc lt d) (ln d) 16) := hw9
      have hP : va_P D vwCl (wX0 ad cA ln lt pn ql q qp mk bd be xl yl xx yy co nc) H := hP
      have hD : va_D A (wX0 ad cA ln lt pn ql q qp mk bd be xl yl xx yy co nc) := hD
      have e9 : r9 = nI (shP q ql (dc lt d) (ln d) 16) := hw9
      subst e9
      refine lv_goto (tgt := 16) hx hb dX0_pairs_12 (by decide) ?_
      exact nr_iret hx hb hr hlocks hK () hP hD hS (show (nI (shP q ql (dc lt d) (ln d) 16)) = sD1 (gPa ln lt ql q) (nI d) from (sD1_in (gPa ln lt ql q) hd).symm) dX0_pairs_16
  · skip
    refine lv_iload_n hx hb dX0_pairs_0 rfl (lv_at hl 1 rfl) ?_
    refine nr_callSi (rest := []) ⟨hx, hb, hml, hown, hts⟩ hK hP hD hS hA 1 [.int p0] (mt0_isDoc l D cA _ p0 ) (lw_S q76 q77 q15 q78) (by decide +kernel) ⟨Nat.le_of_ble_eq_true rfl, Nat.le_of_ble_eq_true rfl⟩ rfl hl.1 rfl (Nat.le_of_ble_eq_true rfl) dX0_pairs_1 ⟨Nat.zero_le _, Nat.zero_le _⟩ (fun r1 H locs hw1 hP hD hS => ?_)
    have hw1 : r1 = nI (if inD p0 then 1 else 0) := hw1
    have e1 : r1 = nI 0 := hw1.trans (congrArg nI (if_neg hin))
    subst e1
    refine nr_if_eq (tgt := 15) hx hb dX0_pairs_4 (by decide) (by omega) (fun c4 => ?_) (fun c4 => ?_)
    · skip
      refine lv_iconst (v := (-1)) hx hb dX0_pairs_15 (by decide) ?_
      exact nr_iret hx hb hr hlocks hK () hP hD hS (show (-1) = sD1 (gPa ln lt ql q) p0 from (sD1_out _ hin).symm) dX0_pairs_16
    · skip
      exact absurd c4 (by decide)
end
section
set_option maxHeartbeats 4000000 in
set_option maxRecDepth 100000 in
/-- whole(doc) -/
theorem mt0_whole (l : Launch) (D : va_G) (ad : Nat → Nat) (cA : ClassId) (sz : Nat) (ln : Nat → Nat) (lt : Nat → Nat) (pn : Nat → Nat) (ql : Nat) (q : Nat → Nat) (qp : Nat → Nat) (mk : Nat → Int32) (bd : Nat) (be : Nat) (xl : Nat) (yl : Nat) (xx : Nat → Nat) (yy : Nat → Nat) (co : Nat → Nat) (nc : Nat → Nat) (p0 : Int32) (hI : inv0 ln lt pn ql q qp) : nMi l yX0_whole cX0_whole 3 .int 3 [.ref (ad 0), .int p0] D vwCl cA (wX0 ad cA ln lt pn ql q qp mk bd be xl yl xx yy co nc) sz (fun (r : Int32) (u : Nat × Nat × (Nat → Nat) × (Nat → Nat) × (Nat → Nat) × (Nat → Nat)) => (fun (xl' : Nat) (yl' : Nat) (xx' : Nat → Nat) (yy' : Nat → Nat) (co' : Nat → Nat) (nc' : Nat → Nat) => r = sD1 (gWh ln lt ql q) p0) u.1 u.2.1 u.2.2.1 u.2.2.2.1 u.2.2.2.2.1 u.2.2.2.2.2) (fun (u : Nat × Nat × (Nat → Nat) × (Nat → Nat) × (Nat → Nat) × (Nat → Nat)) => (fun (xl' : Nat) (yl' : Nat) (xx' : Nat → Nat) (yy' : Nat → Nat) (co' : Nat → Nat) (nc' : Nat → Nat) => (wX0 ad cA ln lt pn ql q qp mk bd be xl' yl' xx' yy' co' nc')) u.1 u.2.1 u.2.2.1 u.2.2.2.1 u.2.2.2.2.1 u.2.2.2.2.2) := by
  refine nr_metI (by decide) (Nat.le_of_ble_eq_true rfl) ?_
  intro p e s m below meth c A ls hx hb hr hml hown hlocks hts hA hK hP hD hS hl
  have hown : s.vm.findClass RX0 = some m.cls := hown
  have hl : lv_has ls 3 [(0, .ref (ad 0)), (1, .int p0)] := hl
  have hP : va_P D vwCl (wX0 ad cA ln lt pn ql q qp mk bd be xl yl xx yy co nc) s.heap := hP
  by_cases hin : inD p0
  · skip
    obtain ⟨d, hd, ed⟩ := inD_of hin
    subst ed
    have hln := hI.1 d hd
    have hq8 := hI.2.2.1
    refine lv_iload_n hx hb dX0_whole_0 rfl (lv_at hl 1 rfl) ?_
    refine nr_callSi (rest := []) ⟨hx, hb, hml, hown, hts⟩ hK hP hD hS hA 1 [.int (nI d)] (mt0_isDoc l D cA _ (nI d) ) (lw_S q76 q77 q15 q78) (by decide +kernel) ⟨Nat.le_of_ble_eq_true rfl, Nat.le_of_ble_eq_true rfl⟩ rfl hl.1 rfl (Nat.le_of_ble_eq_true rfl) dX0_whole_1 ⟨Nat.zero_le _, Nat.zero_le _⟩ (fun r1 H locs hw1 hP hD hS => ?_)
    have hw1 : r1 = nI (if inD (nI d) then 1 else 0) := hw1
    have e1 : r1 = nI 1 := hw1.trans (congrArg nI (if_pos (inD_nI hd)))
    subst e1
    refine nr_if_ne (tgt := 9) hx hb dX0_whole_4 (by decide) (by omega) (fun c4 => ?_) (fun c4 => ?_)
    · skip
      refine lv_iconst (v := nI 0) hx hb dX0_whole_9 (by decide) ?_
      refine lv_istore_n (lv' := [(2, .int (nI 0)), (0, .ref (ad 0)), (1, .int (nI d))]) hx hb dX0_whole_10 rfl hl (by decide) rfl (fun ls hl => ?_)
      refine nr_loop (σ := Nat × (Nat → Nat)) (fun v H locs ls => (fun (i : Nat) (xx : Nat → Nat) => (i ≤ ql) ∧ (∀ t, t < i → xx t = q t) ∧ va_P D vwCl (wX0 ad cA ln lt pn ql q qp mk bd be xl yl xx yy co nc) H ∧ va_D A (wX0 ad cA ln lt pn ql q qp mk bd be xl yl xx yy co nc) ∧ va_S A s.heap H locs ∧ lv_has ls 3 [(0, .ref (ad 0)), (1, .int (nI d)), (2, .int (nI i))]) v.1 v.2) (fun v => (fun (i : Nat) (xx : Nat → Nat) => ql - i) v.1 v.2) ?_ (0, xx) ⟨(show 0 ≤ ql from by omega), (show ∀ t, t < 0 → xx t = q t from fun t h => absurd h (Nat.not_lt_zero t)), hP, hD, hS, lv_sub hl [1, 2, 0] rfl⟩
      intro v H locs ls hv ih11
      obtain ⟨i, xx⟩ := v
      obtain ⟨hi, hxx, hP, hD, hS, hl⟩ := hv
      have hi : i ≤ ql := hi
      have hxx : ∀ t, t < i → xx t = q t := hxx
      have hP : va_P D vwCl (wX0 ad cA ln lt pn ql q qp mk bd be xl yl xx yy co nc) H := hP
      have hD : va_D A (wX0 ad cA ln lt pn ql q qp mk bd be xl yl xx yy co nc) := hD
      have hl : lv_has ls 3 [(0, .ref (ad 0)), (1, .int (nI d)), (2, .int (nI i))] := hl
      refine lv_iload_n hx hb dX0_whole_11 rfl (lv_at hl 2 rfl) ?_
      refine lv_aload_n hx hb dX0_whole_12 rfl (lv_at hl 0 rfl) ?_
      refine va_get (D := D) (ci := 0) (v := .int (nI ql)) (C := RX0) (T := TX0) (N := 15) hx hb hts in_X0 hown hK hP 0 rfl rfl 3 (by decide) (hts _ q28) (fun _ h9 => h9) rfl dX0_whole_13 ?_
      refine nr_icmp_ge (tgt := 37) hx hb dX0_whole_16 (by decide) (by omega) (by omega) (fun c16 => ?_) (fun c16 => ?_)
      · skip
        refine lv_aload_n hx hb dX0_whole_37 rfl (lv_at hl 0 rfl) ?_
        refine lv_aload_n hx hb dX0_whole_38 rfl (lv_at hl 0 rfl) ?_
        refine va_get (D := D) (ci := 0) (v := .int (nI ql)) (C := RX0) (T := TX0) (N := 15) hx hb hts in_X0 hown hK hP 0 rfl rfl 3 (by decide) (hts _ q28) (fun _ h9 => h9) rfl dX0_whole_39 ?_
        refine va_put (D := D) (ci := 0) (v := .int (nI ql)) (ty := .int) (C := RX0) (T := TX0) (N := 15) hx hb hts in_X0 tyX0 tyX0_ok nmX0 hown hK hP hD hS 0 rfl rfl 9 (by decide) (hts _ q34) (fun _ h9 => h9) rfl (by decide +kernel) rfl rfl (Nat.le_of_ble_eq_true rfl) dX0_whole_42 (fun H locs hP hD hS => ?_)
        have hP : va_P D vwCl (wX0 ad cA ln lt pn ql q qp mk bd be ql yl xx yy co nc) H := hP
        have hD : va_D A (wX0 ad cA ln lt pn ql q qp mk bd be ql yl xx yy co nc) := hD
        refine lv_aload_n hx hb dX0_whole_45 rfl (lv_at hl 0 rfl) ?_
        refine lv_iload_n hx hb dX0_whole_46 rfl (lv_at hl 1 rfl) ?_
        refine nr_callVv (C := RX0) (T := TX0) (N := 15) (ci := 0) (rest := []) (wr := []) ⟨hx, hb, hml, hown, hts⟩ hK hP hD hS hA [0, 1, 2, 3, 4, 5, 6, 7, 8, 9, 10] [] rfl rfl (by decide) (by decide) (by decide) 1 [.int (nI d)] (mt0_takeAsY l D ad cA _ ln lt pn ql q qp mk bd be ql yl xx yy co nc d hd hln) (lw_V q107 q109 qs1 q15 q110) (by decide +kernel) ⟨Nat.le_of_ble_eq_true rfl, Nat.le_of_ble_eq_true rfl⟩ rfl 0 rfl rfl hl.1 rfl (Nat.le_of_ble_eq_true rfl) dX0_whole_47 ⟨Nat.zero_le _, Nat.zero_le _⟩ (fun u H locs hw47 hP hD hS => ?_)
        obtain ⟨yl47, yy47⟩ := u
        have hw47 : yl47 = ln d ∧ ∀ t, t < ln d → yy47 t = lt (16 * d + t) := hw47
        have hP : va_P D vwCl (wX0 ad cA ln lt pn ql q qp mk bd be ql yl47 xx yy47 co nc) H := hP
        have hD : va_D A (wX0 ad cA ln lt pn ql q qp mk bd be ql yl47 xx yy47 co nc) := hD
        obtain ⟨z1, hy47⟩ := hw47
        subst z1
        have hP : va_P D vwCl (wX0 ad cA ln lt pn ql q qp mk bd be ql (ln d) xx yy47 co nc) H := hP
        have hD : va_D A (wX0 ad cA ln lt pn ql q qp mk bd be ql (ln d) xx yy47 co nc) := hD
        refine lv_aload_n hx hb dX0_whole_50 rfl (lv_at hl 0 rfl) ?_
        refine nr_callVi (C := RX0) (T := TX0) (N := 15) (ci := 0) (rest := []) (wr := []) ⟨hx, hb, hml, hown, hts⟩ hK hP hD hS hA [0, 1, 2, 3, 4, 5, 6, 7, 8, 9, 10] [] rfl rfl (by decide) (by decide) (by decide) 0 [] (mt0_wholeDistance l D ad cA _ ln lt pn ql q qp mk bd be ql (ln d) xx yy47 co nc  (by omega) hln (fun t h => by rw [hxx t (by omega)]; exact hI.2.2.2.1 t) (fun t h => by rw [hy47 t h]; exact hI.2.1 _)) (lw_V q111 q113 qs2 q15 q114) (by decide +kernel) ⟨Nat.le_of_ble_eq_true rfl, Nat.le_of_ble_eq_true rfl⟩ rfl 0 rfl rfl hl.1 rfl (Nat.le_of_ble_eq_true rfl) dX0_whole_51 ⟨Nat.zero_le _, Nat.zero_le _⟩ (fun r51 u H locs hw51 hP hD hS => ?_)
        obtain ⟨co51, nc51⟩ := u
        have hw51 : r51 = nI (eD xx yy47 ql (ln d)) := hw51
        have hP : va_P D vwCl (wX0 ad cA ln lt pn ql q qp mk bd be ql (ln d) xx yy47 co51 nc51) H := hP
        have hD : va_D A (wX0 ad cA ln lt pn ql q qp mk bd be ql (ln d) xx yy47 co51 nc51) := hD
        have e51 : r51 = nI (eD xx yy47 ql (ln d)) := hw51
        subst e51
        exact nr_iret hx hb hr hlocks hK (ql, ln d, xx, yy47, co51, nc51) hP hD hS (show (nI (eD xx yy47 ql (ln d))) = sD1 (gWh ln lt ql q) (nI d) from by rw [sD1_in (gWh ln lt ql q) hd, eD_congr ql (ln d) (fun t h => hxx t (by omega)) hy47]) dX0_whole_54
      · skip
        refine lv_aload_n hx hb dX0_whole_19 rfl (lv_at hl 0 rfl) ?_
        refine va_get (D := D) (ci := 0) (v := .ref (ad 7)) (C := RX0) (T := TX0) (N := 15) hx hb hts in_X0 hown hK hP 0 rfl rfl 11 (by decide) (hts _ q36) (fun _ h9 => h9) rfl dX0_whole_20 ?_
        refine lv_iload_n hx hb dX0_whole_23 rfl (lv_at hl 2 rfl) ?_
        refine lv_aload_n hx hb dX0_whole_24 rfl (lv_at hl 0 rfl) ?_
        refine va_get (D := D) (ci := 0) (v := .ref (ad 4)) (C := RX0) (T := TX0) (N := 15) hx hb hts in_X0 hown hK hP 0 rfl rfl 4 (by decide) (hts _ q29) (fun _ h9 => h9) rfl dX0_whole_25 ?_
        refine lv_iload_n hx hb dX0_whole_28 rfl (lv_at hl 2 rfl) ?_
        refine nr_iald (f := q) (n := 8) (i := i) hx hb hK hP 4 rfl rfl (by omega) (by decide) dX0_whole_29 ?_
        refine nr_iast (f := xx) (n := 16) (i := i) (v := q i) hx hb hK hP hD hS 7 rfl rfl (by omega) (by decide) dX0_whole_30 (fun H locs hP hD hS => ?_)
        have hP : va_P D vwCl (wX0 ad cA ln lt pn ql q qp mk bd be xl yl (va_up xx i (q i)) yy co nc) H := hP
        have hD : va_D A (wX0 ad cA ln lt pn ql q qp mk bd be xl yl (va_up xx i (q i)) yy co nc) := hD
        refine lv_iinc (v := nI (i + 1)) (lv' := [(2, .int (nI (i + 1))), (0, .ref (ad 0)), (1, .int (nI d))]) hx hb dX0_whole_31 hl (k := 2) rfl (nI_add i 1) (by decide) rfl (fun ls hl => ?_)
        refine lv_goto (tgt := 11) hx hb dX0_whole_34 (by decide) ?_
        exact ih11 (i + 1, va_up xx i (q i)) _ _ _ ⟨(show (i + 1) ≤ ql from by omega), (show ∀ t, t < (i + 1) → (va_up xx i (q i)) t = q t from up_fill (g := q) hxx), hP, hD, hS, lv_sub hl [1, 2, 0] rfl⟩ (show ql - (i + 1) < ql - i from by omega)
    · skip
      exact absurd c4 (by decide)
  · skip
    refine lv_iload_n hx hb dX0_whole_0 rfl (lv_at hl 1 rfl) ?_
    refine nr_callSi (rest := []) ⟨hx, hb, hml, hown, hts⟩ hK hP hD hS hA 1 [.int p0] (mt0_isDoc l D cA _ p0 ) (lw_S q76 q77 q15 q78) (by decide +kernel) ⟨Nat.le_of_ble_eq_true rfl, Nat.le_of_ble_eq_true rfl⟩ rfl hl.1 rfl (Nat.le_of_ble_eq_true rfl) dX0_whole_1 ⟨Nat.zero_le _, Nat.zero_le _⟩ (fun r1 H locs hw1 hP hD hS => ?_)
    have hw1 : r1 = nI (if inD p0 then 1 else 0) := hw1
    have e1 : r1 = nI 0 := hw1.trans (congrArg nI (if_neg hin))
    subst e1
    refine nr_if_ne (tgt := 9) hx hb dX0_whole_4 (by decide) (by omega) (fun c4 => ?_) (fun c4 => ?_)
    · skip
      exact absurd c4 (by decide)
    · skip
      refine lv_iconst (v := (-1)) hx hb dX0_whole_7 (by decide) ?_
      exact nr_iret hx hb hr hlocks hK (xl, yl, xx, yy, co, nc) hP hD hS (show (-1) = sD1 (gWh ln lt ql q) p0 from (sD1_out _ hin).symm) dX0_whole_8
set_option maxHeartbeats 4000000 in
set_option maxRecDepth 100000 in
/-- between(a, b) -/
theorem mt0_between (l : Launch) (D : va_G) (ad : Nat → Nat) (cA : ClassId) (sz : Nat) (ln : Nat → Nat) (lt : Nat → Nat) (pn : Nat → Nat) (ql : Nat) (q : Nat → Nat) (qp : Nat → Nat) (mk : Nat → Int32) (bd : Nat) (be : Nat) (xl : Nat) (yl : Nat) (xx : Nat → Nat) (yy : Nat → Nat) (co : Nat → Nat) (nc : Nat → Nat) (p0 : Int32) (p1 : Int32) (hI : inv0 ln lt pn ql q qp) : nMi l yX0_between cX0_between 4 .int 3 [.ref (ad 0), .int p0, .int p1] D vwCl cA (wX0 ad cA ln lt pn ql q qp mk bd be xl yl xx yy co nc) sz (fun (r : Int32) (u : Nat × Nat × (Nat → Nat) × (Nat → Nat) × (Nat → Nat) × (Nat → Nat)) => (fun (xl' : Nat) (yl' : Nat) (xx' : Nat → Nat) (yy' : Nat → Nat) (co' : Nat → Nat) (nc' : Nat → Nat) => r = sD2 (gBe ln lt) p0 p1) u.1 u.2.1 u.2.2.1 u.2.2.2.1 u.2.2.2.2.1 u.2.2.2.2.2) (fun (u : Nat × Nat × (Nat → Nat) × (Nat → Nat) × (Nat → Nat) × (Nat → Nat)) => (fun (xl' : Nat) (yl' : Nat) (xx' : Nat → Nat) (yy' : Nat → Nat) (co' : Nat → Nat) (nc' : Nat → Nat) => (wX0 ad cA ln lt pn ql q qp mk bd be xl' yl' xx' yy' co' nc')) u.1 u.2.1 u.2.2.1 u.2.2.2.1 u.2.2.2.2.1 u.2.2.2.2.2) := by
  refine nr_metI (by decide) (Nat.le_of_ble_eq_true rfl) ?_
  intro p e s m below meth c A ls hx hb hr hml hown hlocks hts hA hK hP hD hS hl
  have hown : s.vm.findClass RX0 = some m.cls := hown
  have hl : lv_has ls 4 [(0, .ref (ad 0)), (1, .int p0), (2, .int p1)] := hl
  have hP : va_P D vwCl (wX0 ad cA ln lt pn ql q qp mk bd be xl yl xx yy co nc) s.heap := hP
  by_cases hin : inD p0 ∧ inD p1
  · skip
    obtain ⟨d, hd, ed⟩ := inD_of hin.1
    obtain ⟨b2, hb2, eb2⟩ := inD_of hin.2
    subst ed
    subst eb2
    have hln := hI.1 d hd
    have hlb := hI.1 b2 hb2
    refine lv_iload_n hx hb dX0_between_0 rfl (lv_at hl 1 rfl) ?_
    refine nr_callSi (rest := []) ⟨hx, hb, hml, hown, hts⟩ hK hP hD hS hA 1 [.int (nI d)] (mt0_isDoc l D cA _ (nI d) ) (lw_S q76 q77 q15 q78) (by decide +kernel) ⟨Nat.le_of_ble_eq_true rfl, Nat.le_of_ble_eq_true rfl⟩ rfl hl.1 rfl (Nat.le_of_ble_eq_true rfl) dX0_between_1 ⟨Nat.zero_le _, Nat.zero_le _⟩ (fun r1 H locs hw1 hP hD hS => ?_)
    have hw1 : r1 = nI (if inD (nI d) then 1 else 0) := hw1
    have e1 : r1 = nI 1 := hw1.trans (congrArg nI (if_pos (inD_nI hd)))
    subst e1
    refine nr_if_eq (tgt := 14) hx hb dX0_between_4 (by decide) (by omega) (fun c4 => ?_) (fun c4 => ?_)
    · skip
      exact absurd c4 (by decide)
    · skip
      refine lv_iload_n hx hb dX0_between_7 rfl (lv_at hl 2 rfl) ?_
      refine nr_callSi (rest := []) ⟨hx, hb, hml, hown, hts⟩ hK hP hD hS hA 1 [.int (nI b2)] (mt0_isDoc l D cA _ (nI b2) ) (lw_S q76 q77 q15 q78) (by decide +kernel) ⟨Nat.le_of_ble_eq_true rfl, Nat.le_of_ble_eq_true rfl⟩ rfl hl.1 rfl (Nat.le_of_ble_eq_true rfl) dX0_between_8 ⟨Nat.zero_le _, Nat.zero_le _⟩ (fun r8 H locs hw8 hP hD hS => ?_)
      have hw8 : r8 = nI (if inD (nI b2) then 1 else 0) := hw8
      have e8 : r8 = nI 1 := hw8.trans (congrArg nI (if_pos (inD_nI hb2)))
      subst e8
      refine nr_if_ne (tgt := 16) hx hb dX0_between_11 (by decide) (by omega) (fun c11 => ?_) (fun c11 => ?_)
      · skip
        refine lv_iconst (v := nI 0) hx hb dX0_between_16 (by decide) ?_
        refine lv_istore_n (lv' := [(3, .int (nI 0)), (0, .ref (ad 0)), (1, .int (nI d)), (2, .int (nI b2))]) hx hb dX0_between_17 rfl hl (by decide) rfl (fun ls hl => ?_)
        refine nr_loop (σ := Nat × (Nat → Nat)) (fun v H locs ls => (fun (i : Nat) (xx : Nat → Nat) => (i ≤ ln d) ∧ (∀ t, t < i → xx t = lt (16 * d + t)) ∧ va_P D vwCl (wX0 ad cA ln lt pn ql q qp mk bd be xl yl xx yy co nc) H ∧ va_D A (wX0 ad cA ln lt pn ql q qp mk bd be xl yl xx yy co nc) ∧ va_S A s.heap H locs ∧ lv_has ls 4 [(0, .ref (ad 0)), (1, .int (nI d)), (2, .int (nI b2)), (3, .int (nI i))]) v.1 v.2) (fun v => (fun (i : Nat) (xx : Nat → Nat) => ln d - i) v.1 v.2) ?_ (0, xx) ⟨(show 0 ≤ ln d from by omega), (show ∀ t, t < 0 → xx t = lt (16 * d + t) from fun t h => absurd h (Nat.not_lt_zero t)), hP, hD, hS, lv_sub hl [1, 2, 3, 0] rfl⟩
        intro v H locs ls hv ih18
        obtain ⟨i, xx⟩ := v
        obtain ⟨hi, hxx, hP, hD, hS, hl⟩ := hv
        have hi : i ≤ ln d := hi
        have hxx : ∀ t, t < i → xx t = lt (16 * d + t) := hxx
        have hP : va_P D vwCl (wX0 ad cA ln lt pn ql q qp mk bd be xl yl xx yy co nc) H := hP
        have hD : va_D A (wX0 ad cA ln lt pn ql q qp mk bd be xl yl xx yy co nc) := hD
        have hl : lv_has ls 4 [(0, .ref (ad 0)), (1, .int (nI d)), (2, .int (nI b2)), (3, .int (nI i))] := hl
        refine lv_iload_n hx hb dX0_between_18 rfl (lv_at hl 3 rfl) ?_
        refine lv_aload_n hx hb dX0_between_19 rfl (lv_at hl 0 rfl) ?_
        refine va_get (D := D) (ci := 0) (v := .ref (ad 1)) (C := RX0) (T := TX0) (N := 15) hx hb hts in_X0 hown hK hP 0 rfl rfl 0 (by decide) (hts _ q25) (fun _ h9 => h9) rfl dX0_between_20 ?_
        refine lv_iload_n hx hb dX0_between_23 rfl (lv_at hl 1 rfl) ?_
        refine nr_iald (f := ln) (n := 8) (i := d) hx hb hK hP 1 rfl rfl (by omega) (by decide) dX0_between_24 ?_
        refine nr_icmp_ge (tgt := 51) hx hb dX0_between_25 (by decide) (by omega) (by omega) (fun c25 => ?_) (fun c25 => ?_)
        · skip
          refine lv_aload_n hx hb dX0_between_51 rfl (lv_at hl 0 rfl) ?_
          refine lv_aload_n hx hb dX0_between_52 rfl (lv_at hl 0 rfl) ?_
          refine va_get (D := D) (ci := 0) (v := .ref (ad 1)) (C := RX0) (T := TX0) (N := 15) hx hb hts in_X0 hown hK hP 0 rfl rfl 0 (by decide) (hts _ q25) (fun _ h9 => h9) rfl dX0_between_53 ?_
          refine lv_iload_n hx hb dX0_between_56 rfl (lv_at hl 1 rfl) ?_
          refine nr_iald (f := ln) (n := 8) (i := d) hx hb hK hP 1 rfl rfl (by omega) (by decide) dX0_between_57 ?_
          refine va_put (D := D) (ci := 0) (v := .int (nI (ln d))) (ty := .int) (C := RX0) (T := TX0) (N := 15) hx hb hts in_X0 tyX0 tyX0_ok nmX0 hown hK hP hD hS 0 rfl rfl 9 (by decide) (hts _ q34) (fun _ h9 => h9) rfl (by decide +kernel) rfl rfl (Nat.le_of_ble_eq_true rfl) dX0_between_58 (fun H locs hP hD hS => ?_)
          have hP : va_P D vwCl (wX0 ad cA ln lt pn ql q qp mk bd be (ln d) yl xx yy co nc) H := hP
          have hD : va_D A (wX0 ad cA ln lt pn ql q qp mk bd be (ln d) yl xx yy co nc) := hD
          refine lv_aload_n hx hb dX0_between_61 rfl (lv_at hl 0 rfl) ?_
          refine lv_iload_n hx hb dX0_between_62 rfl (lv_at hl 2 rfl) ?_
          refine nr_callVv (C := RX0) (T := TX0) (N := 15) (ci := 0) (rest := []) (wr := []) ⟨hx, hb, hml, hown, hts⟩ hK hP hD hS hA [0, 1, 2, 3, 4, 5, 6, 7, 8, 9, 10] [] rfl rfl (by decide) (by decide) (by decide) 1 [.int (nI b2)] (mt0_takeAsY l D ad cA _ ln lt pn ql q qp mk bd be (ln d) yl xx yy co nc b2 hb2 hlb) (lw_V q107 q109 qs1 q15 q110) (by decide +kernel) ⟨Nat.le_of_ble_eq_true rfl, Nat.le_of_ble_eq_true rfl⟩ rfl 0 rfl rfl hl.1 rfl (Nat.le_of_ble_eq_true rfl) dX0_between_63 ⟨Nat.zero_le _, Nat.zero_le _⟩ (fun u H locs hw63 hP hD hS => ?_)
          obtain ⟨yl63, yy63⟩ := u
          have hw63 : yl63 = ln b2 ∧ ∀ t, t < ln b2 → yy63 t = lt (16 * b2 + t) := hw63
          have hP : va_P D vwCl (wX0 ad cA ln lt pn ql q qp mk bd be (ln d) yl63 xx yy63 co nc) H := hP
          have hD : va_D A (wX0 ad cA ln lt pn ql q qp mk bd be (ln d) yl63 xx yy63 co nc) := hD
          obtain ⟨z1, hy63⟩ := hw63
          subst z1
          have hP : va_P D vwCl (wX0 ad cA ln lt pn ql q qp mk bd be (ln d) (ln b2) xx yy63 co nc) H := hP
          have hD : va_D A (wX0 ad cA ln lt pn ql q qp mk bd be (ln d) (ln b2) xx yy63 co nc) := hD
          refine lv_aload_n hx hb dX0_between_66 rfl (lv_at hl 0 rfl) ?_
          refine nr_callVi (C := RX0) (T := TX0) (N := 15) (ci := 0) (rest := []) (wr := []) ⟨hx, hb, hml, hown, hts⟩ hK hP hD hS hA [0, 1, 2, 3, 4, 5, 6, 7, 8, 9, 10] [] rfl rfl (by decide) (by decide) (by decide) 0 [] (mt0_wholeDistance l D ad cA _ ln lt pn ql q qp mk bd be (ln d) (ln b2) xx yy63 co nc  hln hlb (fun t h => by rw [hxx t (by omega)]; exact hI.2.1 _) (fun t h => by rw [hy63 t h]; exact hI.2.1 _)) (lw_V q111 q113 qs2 q15 q114) (by decide +kernel) ⟨Nat.le_of_ble_eq_true rfl, Nat.le_of_ble_eq_true rfl⟩ rfl 0 rfl rfl hl.1 rfl (Nat.le_of_ble_eq_true rfl) dX0_between_67 ⟨Nat.zero_le _, Nat.zero_le _⟩ (fun r67 u H locs hw67 hP hD hS => ?_)
          obtain ⟨co67, nc67⟩ := u
          have hw67 : r67 = nI (eD xx yy63 (ln d) (ln b2)) := hw67
          have hP : va_P D vwCl (wX0 ad cA ln lt pn ql q qp mk bd be (ln d) (ln b2) xx yy63 co67 nc67) H := hP
          have hD : va_D A (wX0 ad cA ln lt pn ql q qp mk bd be (ln d) (ln b2) xx yy63 co67 nc67) := hD
          have e67 : r67 = nI (eD xx yy63 (ln d) (ln b2)) := hw67
          subst e67
          exact nr_iret hx hb hr hlocks hK (ln d, ln b2, xx, yy63, co67, nc67) hP hD hS (show (nI (eD xx yy63 (ln d) (ln b2))) = sD2 (gBe ln lt) (nI d) (nI b2) from by rw [sD2_in (gBe ln lt) hd hb2, eD_congr (ln d) (ln b2) (fun t h => hxx t (by omega)) hy63]) dX0_between_70
        · skip
          refine lv_aload_n hx hb dX0_between_28 rfl (lv_at hl 0 rfl) ?_
          refine va_get (D := D) (ci := 0) (v := .ref (ad 7)) (C := RX0) (T := TX0) (N := 15) hx hb hts in_X0 hown hK hP 0 rfl rfl 11 (by decide) (hts _ q36) (fun _ h9 => h9) rfl dX0_between_29 ?_
          refine lv_iload_n hx hb dX0_between_32 rfl (lv_at hl 3 rfl) ?_
          refine lv_aload_n hx hb dX0_between_33 rfl (lv_at hl 0 rfl) ?_
          refine va_get (D := D) (ci := 0) (v := .ref (ad 2)) (C := RX0) (T := TX0) (N := 15) hx hb hts in_X0 hown hK hP 0 rfl rfl 1 (by decide) (hts _ q26) (fun _ h9 => h9) rfl dX0_between_34 ?_
          refine lv_bipush (v := nI 16) hx hb dX0_between_37 (by decide) ?_
          refine lv_iload_n hx hb dX0_between_39 rfl (lv_at hl 1 rfl) ?_
          refine nr_mul hx hb dX0_between_40 ?_
          refine lv_iload_n hx hb dX0_between_41 rfl (lv_at hl 3 rfl) ?_
          refine nr_add hx hb dX0_between_42 ?_
          refine nr_iald (f := lt) (n := 128) (i := (16 * d) + i) hx hb hK hP 2 rfl rfl (by omega) (by decide) dX0_between_43 ?_
          refine nr_iast (f := xx) (n := 16) (i := i) (v := lt ((16 * d) + i)) hx hb hK hP hD hS 7 rfl rfl (by omega) (by decide) dX0_between_44 (fun H locs hP hD hS => ?_)
          have hP : va_P D vwCl (wX0 ad cA ln lt pn ql q qp mk bd be xl yl (va_up xx i (lt ((16 * d) + i))) yy co nc) H := hP
          have hD : va_D A (wX0 ad cA ln lt pn ql q qp mk bd be xl yl (va_up xx i (lt ((16 * d) + i))) yy co nc) := hD
          refine lv_iinc (v := nI (i + 1)) (lv' := [(3, .int (nI (i + 1))), (0, .ref (ad 0)), (1, .int (nI d)), (2, .int (nI b2))]) hx hb dX0_between_45 hl (k := 3) rfl (nI_add i 1) (by decide) rfl (fun ls hl => ?_)
          refine lv_goto (tgt := 18) hx hb dX0_between_48 (by decide) ?_
          exact ih18 (i + 1, va_up xx i (lt ((16 * d) + i))) _ _ _ ⟨(show (i + 1) ≤ ln d from by omega), (show ∀ t, t < (i + 1) → (va_up xx i (lt ((16 * d) + i))) t = lt (16 * d + t) from up_fill (g := fun t => lt (16 * d + t)) hxx), hP, hD, hS, lv_sub hl [1, 2, 3, 0] rfl⟩ (show ln d - (i + 1) < ln d - i from by omega)
      · skip
        exact absurd c11 (by decide)
  · skip
    by_cases hin0 : inD p0
    · skip
      have hz1 : True := trivial
      refine lv_iload_n hx hb dX0_between_0 rfl (lv_at hl 1 rfl) ?_
      refine nr_callSi (rest := []) ⟨hx, hb, hml, hown, hts⟩ hK hP hD hS hA 1 [.int p0] (mt0_isDoc l D cA _ p0 ) (lw_S q76 q77 q15 q78) (by decide +kernel) ⟨Nat.le_of_ble_eq_true rfl, Nat.le_of_ble_eq_true rfl⟩ rfl hl.1 rfl (Nat.le_of_ble_eq_true rfl) dX0_between_1 ⟨Nat.zero_le _, Nat.zero_le _⟩ (fun r1 H locs hw1 hP hD hS => ?_)
      have hw1 : r1 = nI (if inD p0 then 1 else 0) := hw1
      have e1 : r1 = nI 1 := hw1.trans (congrArg nI (if_pos hin0))
      subst e1
      refine nr_if_eq (tgt := 14) hx hb dX0_between_4 (by decide) (by omega) (fun c4 => ?_) (fun c4 => ?_)
      · skip
        exact absurd c4 (by decide)
      · skip
        refine lv_iload_n hx hb dX0_between_7 rfl (lv_at hl 2 rfl) ?_
        refine nr_callSi (rest := []) ⟨hx, hb, hml, hown, hts⟩ hK hP hD hS hA 1 [.int p1] (mt0_isDoc l D cA _ p1 ) (lw_S q76 q77 q15 q78) (by decide +kernel) ⟨Nat.le_of_ble_eq_true rfl, Nat.le_of_ble_eq_true rfl⟩ rfl hl.1 rfl (Nat.le_of_ble_eq_true rfl) dX0_between_8 ⟨Nat.zero_le _, Nat.zero_le _⟩ (fun r8 H locs hw8 hP hD hS => ?_)
        have hw8 : r8 = nI (if inD p1 then 1 else 0) := hw8
        have e8 : r8 = nI 0 := hw8.trans (congrArg nI (if_neg (fun z => hin ⟨hin0, z⟩)))
        subst e8
        refine nr_if_ne (tgt := 16) hx hb dX0_between_11 (by decide) (by omega) (fun c11 => ?_) (fun c11 => ?_)
        · skip
          exact absurd c11 (by decide)
        · skip
          refine lv_iconst (v := (-1)) hx hb dX0_between_14 (by decide) ?_
          exact nr_iret hx hb hr hlocks hK (xl, yl, xx, yy, co, nc) hP hD hS (show (-1) = sD2 (gBe ln lt) p0 p1 from (sD2_out _ hin).symm) dX0_between_15
    · skip
      have hz0 : True := trivial
      refine lv_iload_n hx hb dX0_between_0 rfl (lv_at hl 1 rfl) ?_
      refine nr_callSi (rest := []) ⟨hx, hb, hml, hown, hts⟩ hK hP hD hS hA 1 [.int p0] (mt0_isDoc l D cA _ p0 ) (lw_S q76 q77 q15 q78) (by decide +kernel) ⟨Nat.le_of_ble_eq_true rfl, Nat.le_of_ble_eq_true rfl⟩ rfl hl.1 rfl (Nat.le_of_ble_eq_true rfl) dX0_between_1 ⟨Nat.zero_le _, Nat.zero_le _⟩ (fun r1 H locs hw1 hP hD hS => ?_)
      have hw1 : r1 = nI (if inD p0 then 1 else 0) := hw1
      have e1 : r1 = nI 0 := hw1.trans (congrArg nI (if_neg hin0))
      subst e1
      refine nr_if_eq (tgt := 14) hx hb dX0_between_4 (by decide) (by omega) (fun c4 => ?_) (fun c4 => ?_)
      · skip
        refine lv_iconst (v := (-1)) hx hb dX0_between_14 (by decide) ?_
        exact nr_iret hx hb hr hlocks hK (xl, yl, xx, yy, co, nc) hP hD hS (show (-1) = sD2 (gBe ln lt) p0 p1 from (sD2_out _ hin).symm) dX0_between_15
      · skip
        exact absurd c4 (by decide)
set_option maxHeartbeats 4000000 in
set_option maxRecDepth 100000 in
/-- within(errors) -/
theorem mt0_within (l : Launch) (D : va_G) (ad : Nat → Nat) (cA : ClassId) (sz : Nat) (ln : Nat → Nat) (lt : Nat → Nat) (pn : Nat → Nat) (ql : Nat) (q : Nat → Nat) (qp : Nat → Nat) (mk : Nat → Int32) (bd : Nat) (be : Nat) (xl : Nat) (yl : Nat) (xx : Nat → Nat) (yy : Nat → Nat) (co : Nat → Nat) (nc : Nat → Nat) (er : Int32) (hI : inv0 ln lt pn ql q qp) : nMi l yX0_within cX0_within 4 .int 2 [.ref (ad 0), .int er] D vwCl cA (wX0 ad cA ln lt pn ql q qp mk bd be xl yl xx yy co nc) sz (fun (r : Int32) (u : (Nat → Int32) × Nat × Nat) => (fun (mk' : Nat → Int32) (bd' : Nat) (be' : Nat) => r = nI (cW (gDi ln lt ql q) er 8)) u.1 u.2.1 u.2.2) (fun (u : (Nat → Int32) × Nat × Nat) => (fun (mk' : Nat → Int32) (bd' : Nat) (be' : Nat) => (wX0 ad cA ln lt pn ql q qp mk' bd' be' xl yl xx yy co nc)) u.1 u.2.1 u.2.2) := by
  refine nr_metI (by decide) (Nat.le_of_ble_eq_true rfl) ?_
  intro p e s m below meth c A ls hx hb hr hml hown hlocks hts hA hK hP hD hS hl
  have hown : s.vm.findClass RX0 = some m.cls := hown
  have hl : lv_has ls 4 [(0, .ref (ad 0)), (1, .int er)] := hl
  have hP : va_P D vwCl (wX0 ad cA ln lt pn ql q qp mk bd be xl yl xx yy co nc) s.heap := hP
  have hq8 := hI.2.2.1
  refine lv_iconst (v := nI 0) hx hb dX0_within_0 (by decide) ?_
  refine lv_istore_n (lv' := [(2, .int (nI 0)), (0, .ref (ad 0)), (1, .int er)]) hx hb dX0_within_1 rfl hl (by decide) rfl (fun ls hl => ?_)
  refine lv_iconst (v := nI 0) hx hb dX0_within_2 (by decide) ?_
  refine lv_istore_n (lv' := [(3, .int (nI 0)), (2, .int (nI 0)), (0, .ref (ad 0)), (1, .int er)]) hx hb dX0_within_3 rfl hl (by decide) rfl (fun ls hl => ?_)
  refine nr_loop (σ := Nat × Nat × (Nat → Int32) × Nat × Nat) (fun v H locs ls => (fun (n : Nat) (d : Nat) (mk : Nat → Int32) (bd : Nat) (be : Nat) => (d ≤ 8) ∧ (n = cW (gDi ln lt ql q) er d) ∧ va_P D vwCl (wX0 ad cA ln lt pn ql q qp mk bd be xl yl xx yy co nc) H ∧ va_D A (wX0 ad cA ln lt pn ql q qp mk bd be xl yl xx yy co nc) ∧ va_S A s.heap H locs ∧ lv_has ls 4 [(0, .ref (ad 0)), (1, .int er), (2, .int (nI n)), (3, .int (nI d))]) v.1 v.2.1 v.2.2.1 v.2.2.2.1 v.2.2.2.2) (fun v => (fun (n : Nat) (d : Nat) (mk : Nat → Int32) (bd : Nat) (be : Nat) => 8 - d) v.1 v.2.1 v.2.2.1 v.2.2.2.1 v.2.2.2.2) ?_ (0, 0, mk, bd, be) ⟨(show 0 ≤ 8 from by omega), (show 0 = cW (gDi ln lt ql q) er 0 from rfl), hP, hD, hS, lv_sub hl [2, 3, 1, 0] rfl⟩
  intro v H locs ls hv ih4
  obtain ⟨n, d, mk, bd, be⟩ := v
  obtain ⟨hd8, hn, hP, hD, hS, hl⟩ := hv
  have hd8 : d ≤ 8 := hd8
  have hn : n = cW (gDi ln lt ql q) er d := hn
  have hP : va_P D vwCl (wX0 ad cA ln lt pn ql q qp mk bd be xl yl xx yy co nc) H := hP
  have hD : va_D A (wX0 ad cA ln lt pn ql q qp mk bd be xl yl xx yy co nc) := hD
  have hl : lv_has ls 4 [(0, .ref (ad 0)), (1, .int er), (2, .int (nI n)), (3, .int (nI d))] := hl
  refine lv_iload_n hx hb dX0_within_4 rfl (lv_at hl 3 rfl) ?_
  refine lv_bipush (v := nI 8) hx hb dX0_within_5 (by decide) ?_
  refine nr_icmp_ge (tgt := 46) hx hb dX0_within_7 (by decide) (by omega) (by omega) (fun c7 => ?_) (fun c7 => ?_)
  · skip
    refine lv_iload_n hx hb dX0_within_46 rfl (lv_at hl 2 rfl) ?_
    exact nr_iret hx hb hr hlocks hK (mk, bd, be) hP hD hS (show (nI n) = nI (cW (gDi ln lt ql q) er 8) from by rw [hn, show d = 8 by omega]) dX0_within_47
  · skip
    have hle := bDi_le q (dc lt d) ql (ln d)
    refine lv_aload_n hx hb dX0_within_10 rfl (lv_at hl 0 rfl) ?_
    refine lv_iload_n hx hb dX0_within_11 rfl (lv_at hl 3 rfl) ?_
    refine lv_iload_n hx hb dX0_within_12 rfl (lv_at hl 1 rfl) ?_
    refine nr_callVi (C := RX0) (T := TX0) (N := 15) (ci := 0) (rest := []) (wr := []) ⟨hx, hb, hml, hown, hts⟩ hK hP hD hS hA [0, 1, 2, 3, 4, 5, 6, 7, 8, 9, 10] [] rfl rfl (by decide) (by decide) (by decide) 2 [.int (nI d), .int er] (mt0_mayBeWithin l D ad cA _ ln lt pn ql q qp mk bd be xl yl xx yy co nc d er (by omega) hI) (lw_V q127 q129 qs5 q15 q130) (by decide +kernel) ⟨Nat.le_of_ble_eq_true rfl, Nat.le_of_ble_eq_true rfl⟩ rfl 0 rfl rfl hl.1 rfl (Nat.le_of_ble_eq_true rfl) dX0_within_13 ⟨Nat.zero_le _, Nat.zero_le _⟩ (fun r13 u H locs hw13 hP hD hS => ?_)
    have hw13 : r13 = nI 1 ∨ (r13 = nI 0 ∧ er.toInt < (bDi q (dc lt d) ql (ln d) : Nat)) := hw13
    have hP : va_P D vwCl (wX0 ad cA ln lt pn ql q qp mk bd be xl yl xx yy co nc) H := hP
    have hD : va_D A (wX0 ad cA ln lt pn ql q qp mk bd be xl yl xx yy co nc) := hD
    refine lv_if_eq (tgt := 40) hx hb dX0_within_16 (by decide) (fun c16 => ?_) (fun c16 => ?_)
    · skip
      have hn2 : n = cW (gDi ln lt ql q) er (d + 1) := by
        rcases hw13 with z | ⟨z, z2⟩
        · rw [z] at c16; exact absurd c16 (by decide)
        · show n = cW (gDi ln lt ql q) er d + if nI (bDi q (dc lt d) ql (ln d)) ≤ er then 1 else 0
          rw [if_neg (fun z3 => by rw [Int32.le_iff_toInt_le, nI_toInt (by omega)] at z3; omega)]
          exact hn
      refine lv_iinc (v := nI (d + 1)) (lv' := [(3, .int (nI (d + 1))), (0, .ref (ad 0)), (1, .int er), (2, .int (nI n))]) hx hb dX0_within_40 hl (k := 3) rfl (nI_add d 1) (by decide) rfl (fun ls hl => ?_)
      refine lv_goto (tgt := 4) hx hb dX0_within_43 (by decide) ?_
      exact ih4 (n, d + 1, mk, bd, be) _ _ _ ⟨(show (d + 1) ≤ 8 from by omega), (show n = cW (gDi ln lt ql q) er (d + 1) from hn2), hP, hD, hS, lv_sub hl [1, 2, 3, 0] rfl⟩ (show 8 - (d + 1) < 8 - d from by omega)
    · skip
      refine lv_aload_n hx hb dX0_within_19 rfl (lv_at hl 0 rfl) ?_
      refine lv_iload_n hx hb dX0_within_20 rfl (lv_at hl 3 rfl) ?_
      refine nr_callVv (C := RX0) (T := TX0) (N := 15) (ci := 0) (rest := []) (wr := []) ⟨hx, hb, hml, hown, hts⟩ hK hP hD hS hA [0, 1, 2, 3, 4, 5, 6, 7, 8, 9, 10] [] rfl rfl (by decide) (by decide) (by decide) 1 [.int (nI d)] (mt0_search l D ad cA _ ln lt pn ql q qp mk bd be xl yl xx yy co nc d (by omega) hI) (lw_V q95 q97 qs0 q15 q98) (by decide +kernel) ⟨Nat.le_of_ble_eq_true rfl, Nat.le_of_ble_eq_true rfl⟩ rfl 0 rfl rfl hl.1 rfl (Nat.le_of_ble_eq_true rfl) dX0_within_21 ⟨Nat.zero_le _, Nat.zero_le _⟩ (fun u H locs hw21 hP hD hS => ?_)
      obtain ⟨mk21, bd21, be21⟩ := u
      have hw21 : bd21 = bDi q (dc lt d) ql (ln d) ∧ be21 = bEn q (dc lt d) ql (ln d) := hw21
      have hP : va_P D vwCl (wX0 ad cA ln lt pn ql q qp mk21 bd21 be21 xl yl xx yy co nc) H := hP
      have hD : va_D A (wX0 ad cA ln lt pn ql q qp mk21 bd21 be21 xl yl xx yy co nc) := hD
      obtain ⟨z1, z2⟩ := hw21
      subst z1; subst z2
      have hP : va_P D vwCl (wX0 ad cA ln lt pn ql q qp mk21 (bDi q (dc lt d) ql (ln d)) (bEn q (dc lt d) ql (ln d)) xl yl xx yy co nc) H := hP
      have hD : va_D A (wX0 ad cA ln lt pn ql q qp mk21 (bDi q (dc lt d) ql (ln d)) (bEn q (dc lt d) ql (ln d)) xl yl xx yy co nc) := hD
      refine lv_iload_n hx hb dX0_within_24 rfl (lv_at hl 2 rfl) ?_
      refine lv_aload_n hx hb dX0_within_25 rfl (lv_at hl 0 rfl) ?_
      refine va_get (D := D) (ci := 0) (v := .int (nI (bDi q (dc lt d) ql (ln d)))) (C := RX0) (T := TX0) (N := 15) hx hb hts in_X0 hown hK hP 0 rfl rfl 7 (by decide) (hts _ q32) (fun _ h9 => h9) rfl dX0_within_26 ?_
      refine lv_iload_n hx hb dX0_within_29 rfl (lv_at hl 1 rfl) ?_
      refine nr_cut (F0 m 38 ls [.int (nI (if nI (bDi q (dc lt d) ql (ln d)) ≤ er then 1 else 0)), .int (nI n)]) ?_ (fun J38 => ?_)
      · skip
        refine nr_add hx hb dX0_within_38 ?_
        refine lv_istore_n (lv' := [(2, .int (nI (n + (if nI (bDi q (dc lt d) ql (ln d)) ≤ er then 1 else 0)))), (0, .ref (ad 0)), (1, .int er), (3, .int (nI d))]) hx hb dX0_within_39 rfl hl (by decide) rfl (fun ls hl => ?_)
        have hn2 : n + (if nI (bDi q (dc lt d) ql (ln d)) ≤ er then 1 else 0) = cW (gDi ln lt ql q) er (d + 1) := by rw [hn]; rfl
        refine lv_iinc (v := nI (d + 1)) (lv' := [(3, .int (nI (d + 1))), (2, .int (nI (n + (if nI (bDi q (dc lt d) ql (ln d)) ≤ er then 1 else 0)))), (0, .ref (ad 0)), (1, .int er)]) hx hb dX0_within_40 hl (k := 3) rfl (nI_add d 1) (by decide) rfl (fun ls hl => ?_)
        refine lv_goto (tgt := 4) hx hb dX0_within_43 (by decide) ?_
        exact ih4 (n + (if nI (bDi q (dc lt d) ql (ln d)) ≤ er then 1 else 0), d + 1, mk21, bDi q (dc lt d) ql (ln d), bEn q (dc lt d) ql (ln d)) _ _ _ ⟨(show (d + 1) ≤ 8 from by omega), (show (n + (if nI (bDi q (dc lt d) ql (ln d)) ≤ er then 1 else 0)) = cW (gDi ln lt ql q) er (d + 1) from hn2), hP, hD, hS, lv_sub hl [2, 3, 1, 0] rfl⟩ (show 8 - (d + 1) < 8 - d from by omega)
      refine lv_icmp_gt (tgt := 37) hx hb dX0_within_30 (by decide) (fun c30 => ?_) (fun c30 => ?_)
      · skip
        refine lv_iconst (v := nI 0) hx hb dX0_within_37 (by decide) ?_
        exact nr_as (show nI 0 = nI (if nI (bDi q (dc lt d) ql (ln d)) ≤ er then 1 else 0) from congrArg nI (by rw [if_neg (Int32.not_le.mpr c30)])) J38
      · skip
        refine lv_iconst (v := nI 1) hx hb dX0_within_33 (by decide) ?_
        refine lv_goto (tgt := 38) hx hb dX0_within_34 (by decide) ?_
        exact nr_as (show nI 1 = nI (if nI (bDi q (dc lt d) ql (ln d)) ≤ er then 1 else 0) from congrArg nI (by rw [if_pos (Int32.not_lt.mp c30)])) J38
set_option maxHeartbeats 4000000 in
set_option maxRecDepth 100000 in
/-- nearest() -/
theorem mt0_nearest (l : Launch) (D : va_G) (ad : Nat → Nat) (cA : ClassId) (sz : Nat) (ln : Nat → Nat) (lt : Nat → Nat) (pn : Nat → Nat) (ql : Nat) (q : Nat → Nat) (qp : Nat → Nat) (mk : Nat → Int32) (bd : Nat) (be : Nat) (xl : Nat) (yl : Nat) (xx : Nat → Nat) (yy : Nat → Nat) (co : Nat → Nat) (nc : Nat → Nat) (hI : inv0 ln lt pn ql q qp) : nMi l yX0_nearest cX0_nearest 4 .int 2 [.ref (ad 0)] D vwCl cA (wX0 ad cA ln lt pn ql q qp mk bd be xl yl xx yy co nc) sz (fun (r : Int32) (u : (Nat → Int32) × Nat × Nat) => (fun (mk' : Nat → Int32) (bd' : Nat) (be' : Nat) => r = nI (nB0 (gDi ln lt ql q) 8)) u.1 u.2.1 u.2.2) (fun (u : (Nat → Int32) × Nat × Nat) => (fun (mk' : Nat → Int32) (bd' : Nat) (be' : Nat) => (wX0 ad cA ln lt pn ql q qp mk' bd' be' xl yl xx yy co nc)) u.1 u.2.1 u.2.2) := by
  refine nr_metI (by decide) (Nat.le_of_ble_eq_true rfl) ?_
  intro p e s m below meth c A ls hx hb hr hml hown hlocks hts hA hK hP hD hS hl
  have hown : s.vm.findClass RX0 = some m.cls := hown
  have hl : lv_has ls 4 [(0, .ref (ad 0))] := hl
  have hP : va_P D vwCl (wX0 ad cA ln lt pn ql q qp mk bd be xl yl xx yy co nc) s.heap := hP
  have hq8 := hI.2.2.1
  have hle0 := bDi_le q (dc lt 0) ql (ln 0)
  refine lv_iconst (v := nI 0) hx hb dX0_nearest_0 (by decide) ?_
  refine lv_istore_n (lv' := [(1, .int (nI 0)), (0, .ref (ad 0))]) hx hb dX0_nearest_1 rfl hl (by decide) rfl (fun ls hl => ?_)
  refine lv_aload_n hx hb dX0_nearest_2 rfl (lv_at hl 1 rfl) ?_
  refine lv_iconst (v := nI 0) hx hb dX0_nearest_3 (by decide) ?_
  refine nr_callVv (C := RX0) (T := TX0) (N := 15) (ci := 0) (rest := []) (wr := []) ⟨hx, hb, hml, hown, hts⟩ hK hP hD hS hA [0, 1, 2, 3, 4, 5, 6, 7, 8, 9, 10] [] rfl rfl (by decide) (by decide) (by decide) 1 [.int (nI 0)] (mt0_search l D ad cA _ ln lt pn ql q qp mk bd be xl yl xx yy co nc 0 (by decide) hI) (lw_V q95 q97 qs0 q15 q98) (by decide +kernel) ⟨Nat.le_of_ble_eq_true rfl, Nat.le_of_ble_eq_true rfl⟩ rfl 0 rfl rfl hl.1 rfl (Nat.le_of_ble_eq_true rfl) dX0_nearest_4 ⟨Nat.zero_le _, Nat.zero_le _⟩ (fun u H locs hw4 hP hD hS => ?_)
  obtain ⟨mk4, bd4, be4⟩ := u
  have hw4 : bd4 = bDi q (dc lt 0) ql (ln 0) ∧ be4 = bEn q (dc lt 0) ql (ln 0) := hw4
  have hP : va_P D vwCl (wX0 ad cA ln lt pn ql q qp mk4 bd4 be4 xl yl xx yy co nc) H := hP
  have hD : va_D A (wX0 ad cA ln lt pn ql q qp mk4 bd4 be4 xl yl xx yy co nc) := hD
  obtain ⟨z1, z2⟩ := hw4
  subst z1; subst z2
  have hP : va_P D vwCl (wX0 ad cA ln lt pn ql q qp mk4 (bDi q (dc lt 0) ql (ln 0)) (bEn q (dc lt 0) ql (ln 0)) xl yl xx yy co nc) H := hP
  have hD : va_D A (wX0 ad cA ln lt pn ql q qp mk4 (bDi q (dc lt 0) ql (ln 0)) (bEn q (dc lt 0) ql (ln 0)) xl yl xx yy co nc) := hD
  refine lv_aload_n hx hb dX0_nearest_7 rfl (lv_at hl 1 rfl) ?_
  refine va_get (D := D) (ci := 0) (v := .int (nI (bDi q (dc lt 0) ql (ln 0)))) (C := RX0) (T := TX0) (N := 15) hx hb hts in_X0 hown hK hP 0 rfl rfl 7 (by decide) (hts _ q32) (fun _ h9 => h9) rfl dX0_nearest_8 ?_
  refine lv_istore_n (lv' := [(2, .int (nI (bDi q (dc lt 0) ql (ln 0)))), (1, .int (nI 0)), (0, .ref (ad 0))]) hx hb dX0_nearest_11 rfl hl (by decide) rfl (fun ls hl => ?_)
  refine lv_iconst (v := nI 1) hx hb dX0_nearest_12 (by decide) ?_
  refine lv_istore_n (lv' := [(3, .int (nI 1)), (2, .int (nI (bDi q (dc lt 0) ql (ln 0)))), (1, .int (nI 0)), (0, .ref (ad 0))]) hx hb dX0_nearest_13 rfl hl (by decide) rfl (fun ls hl => ?_)
  refine nr_loop (σ := Nat × Nat × Nat × (Nat → Int32) × Nat × Nat) (fun v H locs ls => (fun (b : Nat) (le : Nat) (d : Nat) (mk : Nat → Int32) (bd : Nat) (be : Nat) => (1 ≤ d) ∧ (d ≤ 8) ∧ (le ≤ 8) ∧ (le = nL (gDi ln lt ql q) d) ∧ (b = nB0 (gDi ln lt ql q) d) ∧ va_P D vwCl (wX0 ad cA ln lt pn ql q qp mk bd be xl yl xx yy co nc) H ∧ va_D A (wX0 ad cA ln lt pn ql q qp mk bd be xl yl xx yy co nc) ∧ va_S A s.heap H locs ∧ lv_has ls 4 [(0, .ref (ad 0)), (1, .int (nI b)), (2, .int (nI le)), (3, .int (nI d))]) v.1 v.2.1 v.2.2.1 v.2.2.2.1 v.2.2.2.2.1 v.2.2.2.2.2) (fun v => (fun (b : Nat) (le : Nat) (d : Nat) (mk : Nat → Int32) (bd : Nat) (be : Nat) => 8 - d) v.1 v.2.1 v.2.2.1 v.2.2.2.1 v.2.2.2.2.1 v.2.2.2.2.2) ?_ (0, bDi q (dc lt 0) ql (ln 0), 1, mk4, bDi q (dc lt 0) ql (ln 0), bEn q (dc lt 0) ql (ln 0)) ⟨(show 1 ≤ 1 from by omega), (show 1 ≤ 8 from by omega), (show (bDi q (dc lt 0) ql (ln 0)) ≤ 8 from by omega), (show (bDi q (dc lt 0) ql (ln 0)) = nL (gDi ln lt ql q) 1 from by show _ = min 100 (bDi q (dc lt 0) ql (ln 0)); omega), (show 0 = nB0 (gDi ln lt ql q) 1 from by show _ = if bDi q (dc lt 0) ql (ln 0) < 100 then 0 else 0; split <;> rfl), hP, hD, hS, lv_sub hl [3, 2, 1, 0] rfl⟩
  intro v H locs ls hv ih14
  obtain ⟨b, le, d, mk, bd, be⟩ := v
  obtain ⟨hd1, hd8, hl8, hle, hbb, hP, hD, hS, hl⟩ := hv
  have hd1 : 1 ≤ d := hd1
  have hd8 : d ≤ 8 := hd8
  have hl8 : le ≤ 8 := hl8
  have hle : le = nL (gDi ln lt ql q) d := hle
  have hbb : b = nB0 (gDi ln lt ql q) d := hbb
  have hP : va_P D vwCl (wX0 ad cA ln lt pn ql q qp mk bd be xl yl xx yy co nc) H := hP
  have hD : va_D A (wX0 ad cA ln lt pn ql q qp mk bd be xl yl xx yy co nc) := hD
  have hl : lv_has ls 4 [(0, .ref (ad 0)), (1, .int (nI b)), (2, .int (nI le)), (3, .int (nI d))] := hl
  refine lv_iload_n hx hb dX0_nearest_14 rfl (lv_at hl 3 rfl) ?_
  refine lv_bipush (v := nI 8) hx hb dX0_nearest_15 (by decide) ?_
  refine nr_icmp_ge (tgt := 57) hx hb dX0_nearest_17 (by decide) (by omega) (by omega) (fun c17 => ?_) (fun c17 => ?_)
  · skip
    refine lv_iload_n hx hb dX0_nearest_57 rfl (lv_at hl 1 rfl) ?_
    exact nr_iret hx hb hr hlocks hK (mk, bd, be) hP hD hS (show (nI b) = nI (nB0 (gDi ln lt ql q) 8) from by rw [hbb, show d = 8 by omega]) dX0_nearest_58
  · skip
    have hled := bDi_le q (dc lt d) ql (ln d)
    refine lv_aload_n hx hb dX0_nearest_20 rfl (lv_at hl 0 rfl) ?_
    refine lv_iload_n hx hb dX0_nearest_21 rfl (lv_at hl 3 rfl) ?_
    refine lv_iload_n hx hb dX0_nearest_22 rfl (lv_at hl 2 rfl) ?_
    refine lv_iconst (v := nI 1) hx hb dX0_nearest_23 (by decide) ?_
    refine lv_isub hx hb dX0_nearest_24 ?_
    refine nr_callVi (C := RX0) (T := TX0) (N := 15) (ci := 0) (rest := []) (wr := []) ⟨hx, hb, hml, hown, hts⟩ hK hP hD hS hA [0, 1, 2, 3, 4, 5, 6, 7, 8, 9, 10] [] rfl rfl (by decide) (by decide) (by decide) 2 [.int (nI d), .int ((nI le) - (nI 1))] (mt0_mayBeWithin l D ad cA _ ln lt pn ql q qp mk bd be xl yl xx yy co nc d ((nI le) - (nI 1)) (by omega) hI) (lw_V q127 q129 qs5 q15 q130) (by decide +kernel) ⟨Nat.le_of_ble_eq_true rfl, Nat.le_of_ble_eq_true rfl⟩ rfl 0 rfl rfl hl.1 rfl (Nat.le_of_ble_eq_true rfl) dX0_nearest_25 ⟨Nat.zero_le _, Nat.zero_le _⟩ (fun r25 u H locs hw25 hP hD hS => ?_)
    have hw25 : r25 = nI 1 ∨ (r25 = nI 0 ∧ ((nI le) - (nI 1)).toInt < (bDi q (dc lt d) ql (ln d) : Nat)) := hw25
    have hP : va_P D vwCl (wX0 ad cA ln lt pn ql q qp mk bd be xl yl xx yy co nc) H := hP
    have hD : va_D A (wX0 ad cA ln lt pn ql q qp mk bd be xl yl xx yy co nc) := hD
    refine lv_if_eq (tgt := 51) hx hb dX0_nearest_28 (by decide) (fun c28 => ?_) (fun c28 => ?_)
    · skip
      have hno : le ≤ bDi q (dc lt d) ql (ln d) := by
        rcases hw25 with z | ⟨z, z2⟩
        · rw [z] at c28; exact absurd c28 (by decide)
        · rw [pk_sub_toInt (by omega) (by omega)] at z2; omega
      refine lv_iinc (v := nI (d + 1)) (lv' := [(3, .int (nI (d + 1))), (0, .ref (ad 0)), (1, .int (nI b)), (2, .int (nI le))]) hx hb dX0_nearest_51 hl (k := 3) rfl (nI_add d 1) (by decide) rfl (fun ls hl => ?_)
      refine lv_goto (tgt := 14) hx hb dX0_nearest_54 (by decide) ?_
      exact ih14 (b, le, d + 1, mk, bd, be) _ _ _ ⟨(show 1 ≤ (d + 1) from by omega), (show (d + 1) ≤ 8 from by omega), (show le ≤ 8 from by omega), (show le = nL (gDi ln lt ql q) (d + 1) from by show _ = min (nL (gDi ln lt ql q) d) (bDi q (dc lt d) ql (ln d)); omega), (show b = nB0 (gDi ln lt ql q) (d + 1) from by show _ = if bDi q (dc lt d) ql (ln d) < nL (gDi ln lt ql q) d then d else nB0 (gDi ln lt ql q) d; split <;> omega), hP, hD, hS, lv_sub hl [1, 2, 3, 0] rfl⟩ (show 8 - (d + 1) < 8 - d from by omega)
    · skip
      refine lv_aload_n hx hb dX0_nearest_31 rfl (lv_at hl 0 rfl) ?_
      refine lv_iload_n hx hb dX0_nearest_32 rfl (lv_at hl 3 rfl) ?_
      refine nr_callVv (C := RX0) (T := TX0) (N := 15) (ci := 0) (rest := []) (wr := []) ⟨hx, hb, hml, hown, hts⟩ hK hP hD hS hA [0, 1, 2, 3, 4, 5, 6, 7, 8, 9, 10] [] rfl rfl (by decide) (by decide) (by decide) 1 [.int (nI d)] (mt0_search l D ad cA _ ln lt pn ql q qp mk bd be xl yl xx yy co nc d (by omega) hI) (lw_V q95 q97 qs0 q15 q98) (by decide +kernel) ⟨Nat.le_of_ble_eq_true rfl, Nat.le_of_ble_eq_true rfl⟩ rfl 0 rfl rfl hl.1 rfl (Nat.le_of_ble_eq_true rfl) dX0_nearest_33 ⟨Nat.zero_le _, Nat.zero_le _⟩ (fun u H locs hw33 hP hD hS => ?_)
      obtain ⟨mk33, bd33, be33⟩ := u
      have hw33 : bd33 = bDi q (dc lt d) ql (ln d) ∧ be33 = bEn q (dc lt d) ql (ln d) := hw33
      have hP : va_P D vwCl (wX0 ad cA ln lt pn ql q qp mk33 bd33 be33 xl yl xx yy co nc) H := hP
      have hD : va_D A (wX0 ad cA ln lt pn ql q qp mk33 bd33 be33 xl yl xx yy co nc) := hD
      obtain ⟨z1, z2⟩ := hw33
      subst z1; subst z2
      have hP : va_P D vwCl (wX0 ad cA ln lt pn ql q qp mk33 (bDi q (dc lt d) ql (ln d)) (bEn q (dc lt d) ql (ln d)) xl yl xx yy co nc) H := hP
      have hD : va_D A (wX0 ad cA ln lt pn ql q qp mk33 (bDi q (dc lt d) ql (ln d)) (bEn q (dc lt d) ql (ln d)) xl yl xx yy co nc) := hD
      refine lv_aload_n hx hb dX0_nearest_36 rfl (lv_at hl 0 rfl) ?_
      refine va_get (D := D) (ci := 0) (v := .int (nI (bDi q (dc lt d) ql (ln d)))) (C := RX0) (T := TX0) (N := 15) hx hb hts in_X0 hown hK hP 0 rfl rfl 7 (by decide) (hts _ q32) (fun _ h9 => h9) rfl dX0_nearest_37 ?_
      refine lv_iload_n hx hb dX0_nearest_40 rfl (lv_at hl 2 rfl) ?_
      refine nr_icmp_ge (tgt := 51) hx hb dX0_nearest_41 (by decide) (by omega) (by omega) (fun c41 => ?_) (fun c41 => ?_)
      · skip
        refine lv_iinc (v := nI (d + 1)) (lv' := [(3, .int (nI (d + 1))), (0, .ref (ad 0)), (1, .int (nI b)), (2, .int (nI le))]) hx hb dX0_nearest_51 hl (k := 3) rfl (nI_add d 1) (by decide) rfl (fun ls hl => ?_)
        refine lv_goto (tgt := 14) hx hb dX0_nearest_54 (by decide) ?_
        exact ih14 (b, le, d + 1, mk33, bDi q (dc lt d) ql (ln d), bEn q (dc lt d) ql (ln d)) _ _ _ ⟨(show 1 ≤ (d + 1) from by omega), (show (d + 1) ≤ 8 from by omega), (show le ≤ 8 from by omega), (show le = nL (gDi ln lt ql q) (d + 1) from by show _ = min (nL (gDi ln lt ql q) d) (bDi q (dc lt d) ql (ln d)); omega), (show b = nB0 (gDi ln lt ql q) (d + 1) from by show _ = if bDi q (dc lt d) ql (ln d) < nL (gDi ln lt ql q) d then d else nB0 (gDi ln lt ql q) d; split <;> omega), hP, hD, hS, lv_sub hl [1, 2, 3, 0] rfl⟩ (show 8 - (d + 1) < 8 - d from by omega)
      · skip
        refine lv_aload_n hx hb dX0_nearest_44 rfl (lv_at hl 0 rfl) ?_
        refine va_get (D := D) (ci := 0) (v := .int (nI (bDi q (dc lt d) ql (ln d)))) (C := RX0) (T := TX0) (N := 15) hx hb hts in_X0 hown hK hP 0 rfl rfl 7 (by decide) (hts _ q32) (fun _ h9 => h9) rfl dX0_nearest_45 ?_
        refine lv_istore_n (lv' := [(2, .int (nI (bDi q (dc lt d) ql (ln d)))), (0, .ref (ad 0)), (1, .int (nI b)), (3, .int (nI d))]) hx hb dX0_nearest_48 rfl hl (by decide) rfl (fun ls hl => ?_)
        refine lv_iload_n hx hb dX0_nearest_49 rfl (lv_at hl 3 rfl) ?_
        refine lv_istore_n (lv' := [(1, .int (nI d)), (2, .int (nI (bDi q (dc lt d) ql (ln d)))), (0, .ref (ad 0)), (3, .int (nI d))]) hx hb dX0_nearest_50 rfl hl (by decide) rfl (fun ls hl => ?_)
        refine lv_iinc (v := nI (d + 1)) (lv' := [(3, .int (nI (d + 1))), (1, .int (nI d)), (2, .int (nI (bDi q (dc lt d) ql (ln d)))), (0, .ref (ad 0))]) hx hb dX0_nearest_51 hl (k := 3) rfl (nI_add d 1) (by decide) rfl (fun ls hl => ?_)
        refine lv_goto (tgt := 14) hx hb dX0_nearest_54 (by decide) ?_
        exact ih14 (d, bDi q (dc lt d) ql (ln d), d + 1, mk33, bDi q (dc lt d) ql (ln d), bEn q (dc lt d) ql (ln d)) _ _ _ ⟨(show 1 ≤ (d + 1) from by omega), (show (d + 1) ≤ 8 from by omega), (show (bDi q (dc lt d) ql (ln d)) ≤ 8 from by omega), (show (bDi q (dc lt d) ql (ln d)) = nL (gDi ln lt ql q) (d + 1) from by show _ = min (nL (gDi ln lt ql q) d) (bDi q (dc lt d) ql (ln d)); omega), (show d = nB0 (gDi ln lt ql q) (d + 1) from by show _ = if bDi q (dc lt d) ql (ln d) < nL (gDi ln lt ql q) d then d else nB0 (gDi ln lt ql q) d; split <;> omega), hP, hD, hS, lv_sub hl [3, 1, 2, 0] rfl⟩ (show 8 - (d + 1) < 8 - d from by omega)
end
section
/-! rows for the model's walks -/
theorem eD_cell {x y : Nat → Nat} {i j : Nat} (hi : 0 < i) (hj : 0 < j) : eD x y i j = min (min (eD x y (i - 1) j + 1) (eD x y i (j - 1) + 1)) (eD x y (i - 1) (j - 1) + if x (i - 1) = y (j - 1) then 0 else 1) := by
  obtain ⟨i, rfl⟩ : ∃ z, i = z + 1 := ⟨i - 1, by omega⟩
  obtain ⟨j, rfl⟩ : ∃ z, j = z + 1 := ⟨j - 1, by omega⟩
  rw [Nat.add_sub_cancel, Nat.add_sub_cancel]
  exact eD_ss x y i j
/-- what the model's search has found when all ends below t are looked through -/
def mL (x y : Nat → Nat) (m : Nat) : Nat → Nat
  | 0 => 100
  | t + 1 => bDi x y m t
def mE (x y : Nat → Nat) (m : Nat) : Nat → Nat
  | 0 => 0
  | t + 1 => bEn x y m t
theorem mL_le {x y : Nat → Nat} {m : Nat} (hm : m ≤ 100) (t : Nat) : mL x y m t ≤ 100 := by
  cases t with
  | zero => exact Nat.le_refl _
  | succ t => have := bDi_le x y m t; show bDi x y m t ≤ 100; omega
theorem mL_step {x y : Nat → Nat} {m : Nat} (hm : m ≤ 100) (t : Nat) : min (mL x y m t) (sC x y t m) = mL x y m (t + 1) := by
  cases t with
  | zero => show min 100 (sC x y 0 m) = m; rw [sC_0]; omega
  | succ t => rfl
theorem mE_step {x y : Nat → Nat} {m : Nat} (t : Nat) : (if min (mL x y m t) (sC x y t m) < mL x y m t then t else mE x y m t) = mE x y m (t + 1) := by
  cases t with
  | zero => show (if min 100 (sC x y 0 m) < 100 then 0 else 0) = 0; split <;> rfl
  | succ t =>
    show (if min (bDi x y m t) (sC x y (t + 1) m) < bDi x y m t then t + 1 else bEn x y m t) = if sC x y (t + 1) m < bDi x y m t then t + 1 else bEn x y m t
    by_cases h : sC x y (t + 1) m < bDi x y m t
    · rw [if_pos h, if_pos (by omega)]
    · rw [if_neg h, if_neg (by omega)]
/-- the distances of the parts that end at t -/
abbrev pE (q lt : Nat → Nat) (ql d t : Nat) : Nat → Nat := fun f => eD q (fun z => dc lt d (f + z)) ql (t - f)
theorem pE_all (q lt : Nat → Nat) (ql d t L0 : Nat) : iM (pE q lt ql d t) L0 (t + 1) = min L0 (sC q (dc lt d) t ql) := iM_parts q (dc lt d) ql L0 t
end
section
set_option maxHeartbeats 4000000 in
set_option maxRecDepth 100000 in
/-- bad(p): 0 just for 0 .. 7 -/
theorem mt1_bad (l : Launch) (D : va_G) (cA : ClassId) (sz : Nat) (p0 : Int32) : nMi l yX1_bad cX1_bad 1 .boolean 0 [.int p0] D vwCl cA [] sz (fun (r : Int32) (u : Unit) => r = nI (if inD p0 then 0 else 1)) (fun (u : Unit) => []) := by
  refine nr_metI (by decide) (Nat.le_of_ble_eq_true rfl) ?_
  intro p e s m below meth c A ls hx hb hr hml hown hlocks hts hA hK hP hD hS hl
  have hown : s.vm.findClass RX1 = some m.cls := hown
  have hl : lv_has ls 1 [(0, .int p0)] := hl
  have hP : va_P D vwCl [] s.heap := hP
  refine lv_iload_n hx hb dX1_bad_0 rfl (lv_at hl 0 rfl) ?_
  refine lv_if_lt (tgt := 10) hx hb dX1_bad_1 (by decide) (fun c1 => ?_) (fun c1 => ?_)
  · skip
    refine lv_iconst (v := nI 1) hx hb dX1_bad_10 (by decide) ?_
    refine lv_goto (tgt := 15) hx hb dX1_bad_11 (by decide) ?_
    exact nr_zret hx hb hr (rfl) hlocks hK () hP hD hS (show (nI 1) = nI (if inD p0 then 0 else 1) from congrArg nI (if_neg (fun h => by first | exact h.1 c1 | exact c7 h.2)).symm) dX1_bad_15
  · skip
    refine lv_iload_n hx hb dX1_bad_4 rfl (lv_at hl 0 rfl) ?_
    refine lv_bipush (v := nI 7) hx hb dX1_bad_5 (by decide) ?_
    refine lv_icmp_le (tgt := 14) hx hb dX1_bad_7 (by decide) (fun c7 => ?_) (fun c7 => ?_)
    · skip
      refine lv_iconst (v := nI 0) hx hb dX1_bad_14 (by decide) ?_
      exact nr_zret hx hb hr (rfl) hlocks hK () hP hD hS (show (nI 0) = nI (if inD p0 then 0 else 1) from congrArg nI (if_pos ⟨c1, c7⟩).symm) dX1_bad_15
    · skip
      refine lv_iconst (v := nI 1) hx hb dX1_bad_10 (by decide) ?_
      refine lv_goto (tgt := 15) hx hb dX1_bad_11 (by decide) ?_
      exact nr_zret hx hb hr (rfl) hlocks hK () hP hD hS (show (nI 1) = nI (if inD p0 then 0 else 1) from congrArg nI (if_neg (fun h => by first | exact h.1 c1 | exact c7 h.2)).symm) dX1_bad_15
set_option maxHeartbeats 4000000 in
set_option maxRecDepth 100000 in
/-- write(doc, letter) -/
theorem mt1_write (l : Launch) (D : va_G) (ad : Nat → Nat) (cA : ClassId) (sz : Nat) (lt : Nat → Nat) (ln : Nat → Nat) (q : Nat → Nat) (ql : Nat) (lf : Nat → Nat) (lfs : Nat) (rg : Nat → Nat) (rgs : Nat) (tb : Nat → Nat) (fe : Nat) (p0 : Int32) (p1 : Int32) (hJ : inv1 ln lt ql q) : nMi l yX1_write cX1_write 3 .int 1 [.ref (ad 0), .int p0, .int p1] D vwCl cA (wX1 ad cA lt ln q ql lf lfs rg rgs tb fe) sz (fun (r : Int32) (u : (Nat → Nat) × (Nat → Nat)) => (fun (lt' : Nat → Nat) (ln' : Nat → Nat) => r = sWr ln p0 ∧ ln' = sWrL ln p0 ∧ lt' = sWrT ln lt p0 p1) u.1 u.2) (fun (u : (Nat → Nat) × (Nat → Nat)) => (fun (lt' : Nat → Nat) (ln' : Nat → Nat) => (wX1 ad cA lt' ln' q ql lf lfs rg rgs tb fe)) u.1 u.2) := by
  refine nr_metI (by decide) (Nat.le_of_ble_eq_true rfl) ?_
  intro p e s m below meth c A ls hx hb hr hml hown hlocks hts hA hK hP hD hS hl
  have hown : s.vm.findClass RX1 = some m.cls := hown
  have hl : lv_has ls 3 [(0, .ref (ad 0)), (1, .int p0), (2, .int p1)] := hl
  have hP : va_P D vwCl (wX1 ad cA lt ln q ql lf lfs rg rgs tb fe) s.heap := hP
  by_cases hin : inD p0
  · skip
    obtain ⟨d, hd, ed⟩ := inD_of hin
    subst ed
    have hln := hJ.1 d hd
    have hlw := lw_lt p1
    refine lv_iload_n hx hb dX1_write_0 rfl (lv_at hl 1 rfl) ?_
    refine nr_callSi (rest := []) ⟨hx, hb, hml, hown, hts⟩ hK hP hD hS hA 1 [.int (nI d)] (mt1_bad l D cA _ (nI d) ) (lw_S q188 q189 q16 q190) (by decide +kernel) ⟨Nat.le_of_ble_eq_true rfl, Nat.le_of_ble_eq_true rfl⟩ rfl hl.1 rfl (Nat.le_of_ble_eq_true rfl) dX1_write_1 ⟨Nat.zero_le _, Nat.zero_le _⟩ (fun r1 H locs hw1 hP hD hS => ?_)
    have hw1 : r1 = nI (if inD (nI d) then 0 else 1) := hw1
    have e1 : r1 = nI 0 := hw1.trans (congrArg nI (if_pos (inD_nI hd)))
    subst e1
    refine nr_if_ne (tgt := 18) hx hb dX1_write_4 (by decide) (by omega) (fun c4 => ?_) (fun c4 => ?_)
    · skip
      exact absurd c4 (by decide)
    · skip
      refine lv_aload_n hx hb dX1_write_7 rfl (lv_at hl 0 rfl) ?_
      refine va_get (D := D) (ci := 1) (v := .ref (ad 2)) (C := RX1) (T := TX1) (N := 10) hx hb hts in_X1 hown hK hP 0 rfl rfl 1 (by decide) (hts _ q154) (fun _ h9 => h9) rfl dX1_write_8 ?_
      refine lv_iload_n hx hb dX1_write_11 rfl (lv_at hl 1 rfl) ?_
      refine nr_iald (f := ln) (n := 8) (i := d) hx hb hK hP 2 rfl rfl (by omega) (by decide) dX1_write_12 ?_
      refine lv_bipush (v := nI 16) hx hb dX1_write_13 (by decide) ?_
      refine nr_icmp_ne (tgt := 20) hx hb dX1_write_15 (by decide) (by omega) (by omega) (fun c15 => ?_) (fun c15 => ?_)
      · skip
        have hc : inD (nI d) ∧ ln (dN (nI d)) < 16 := ⟨inD_nI hd, by rw [dN_nI hd]; omega⟩
        refine lv_aload_n hx hb dX1_write_20 rfl (lv_at hl 0 rfl) ?_
        refine va_get (D := D) (ci := 1) (v := .ref (ad 1)) (C := RX1) (T := TX1) (N := 10) hx hb hts in_X1 hown hK hP 0 rfl rfl 0 (by decide) (hts _ q153) (fun _ h9 => h9) rfl dX1_write_21 ?_
        refine lv_bipush (v := nI 16) hx hb dX1_write_24 (by decide) ?_
        refine lv_iload_n hx hb dX1_write_26 rfl (lv_at hl 1 rfl) ?_
        refine nr_mul hx hb dX1_write_27 ?_
        refine lv_aload_n hx hb dX1_write_28 rfl (lv_at hl 0 rfl) ?_
        refine va_get (D := D) (ci := 1) (v := .ref (ad 2)) (C := RX1) (T := TX1) (N := 10) hx hb hts in_X1 hown hK hP 0 rfl rfl 1 (by decide) (hts _ q154) (fun _ h9 => h9) rfl dX1_write_29 ?_
        refine lv_iload_n hx hb dX1_write_32 rfl (lv_at hl 1 rfl) ?_
        refine nr_iald (f := ln) (n := 8) (i := d) hx hb hK hP 2 rfl rfl (by omega) (by decide) dX1_write_33 ?_
        refine nr_add hx hb dX1_write_34 ?_
        refine lv_iload_n hx hb dX1_write_35 rfl (lv_at hl 2 rfl) ?_
        refine lv_iconst (v := nI 3) hx hb dX1_write_36 (by decide) ?_
        refine lv_iand hx hb dX1_write_37 ?_
        refine nr_as (show p1 &&& (nI 3) = nI (lw p1) from lw_and p1) ?_
        refine nr_iast (f := lt) (n := 128) (i := (16 * d) + (ln d)) (v := lw p1) hx hb hK hP hD hS 1 rfl rfl (by omega) (by decide) dX1_write_38 (fun H locs hP hD hS => ?_)
        have hP : va_P D vwCl (wX1 ad cA (va_up lt ((16 * d) + (ln d)) (lw p1)) ln q ql lf lfs rg rgs tb fe) H := hP
        have hD : va_D A (wX1 ad cA (va_up lt ((16 * d) + (ln d)) (lw p1)) ln q ql lf lfs rg rgs tb fe) := hD
        refine lv_aload_n hx hb dX1_write_39 rfl (lv_at hl 0 rfl) ?_
        refine va_get (D := D) (ci := 1) (v := .ref (ad 2)) (C := RX1) (T := TX1) (N := 10) hx hb hts in_X1 hown hK hP 0 rfl rfl 1 (by decide) (hts _ q154) (fun _ h9 => h9) rfl dX1_write_40 ?_
        refine lv_iload_n hx hb dX1_write_43 rfl (lv_at hl 1 rfl) ?_
        refine lv_dup2_11 hx hb dX1_write_44 rfl rfl ?_
        refine nr_iald (f := ln) (n := 8) (i := d) hx hb hK hP 2 rfl rfl (by omega) (by decide) dX1_write_45 ?_
        refine lv_iconst (v := nI 1) hx hb dX1_write_46 (by decide) ?_
        refine nr_add hx hb dX1_write_47 ?_
        refine nr_iast (f := ln) (n := 8) (i := d) (v := (ln d) + 1) hx hb hK hP hD hS 2 rfl rfl (by omega) (by decide) dX1_write_48 (fun H locs hP hD hS => ?_)
        have hP : va_P D vwCl (wX1 ad cA (va_up lt ((16 * d) + (ln d)) (lw p1)) (va_up ln d ((ln d) + 1)) q ql lf lfs rg rgs tb fe) H := hP
        have hD : va_D A (wX1 ad cA (va_up lt ((16 * d) + (ln d)) (lw p1)) (va_up ln d ((ln d) + 1)) q ql lf lfs rg rgs tb fe) := hD
        refine lv_aload_n hx hb dX1_write_49 rfl (lv_at hl 0 rfl) ?_
        refine va_get (D := D) (ci := 1) (v := .ref (ad 2)) (C := RX1) (T := TX1) (N := 10) hx hb hts in_X1 hown hK hP 0 rfl rfl 1 (by decide) (hts _ q154) (fun _ h9 => h9) rfl dX1_write_50 ?_
        refine lv_iload_n hx hb dX1_write_53 rfl (lv_at hl 1 rfl) ?_
        refine nr_iald (f := va_up ln d ((ln d) + 1)) (n := 8) (i := d) hx hb hK hP 2 rfl rfl (by omega) (by decide) dX1_write_54 ?_
        refine nr_as (show nI ((va_up ln d ((ln d) + 1)) d) = nI (ln d + 1) from congrArg nI (up_s _ _ _)) ?_
        exact nr_iret hx hb hr hlocks hK (va_up lt ((16 * d) + (ln d)) (lw p1), va_up ln d ((ln d) + 1)) hP hD hS (show (nI (ln d + 1)) = sWr ln (nI d) ∧ (va_up ln d ((ln d) + 1)) = sWrL ln (nI d) ∧ (va_up lt ((16 * d) + (ln d)) (lw p1)) = sWrT ln lt (nI d) p1 from ⟨by unfold sWr; rw [if_pos hc, dN_nI hd], by unfold sWrL; rw [if_pos hc, dN_nI hd], by unfold sWrT; rw [if_pos hc, dN_nI hd]⟩) dX1_write_55
      · skip
        have hc : ¬ (inD (nI d) ∧ ln (dN (nI d)) < 16) := fun z => by have z2 := z.2; rw [dN_nI hd] at z2; omega
        refine lv_iconst (v := (-1)) hx hb dX1_write_18 (by decide) ?_
        exact nr_iret hx hb hr hlocks hK (lt, ln) hP hD hS (show (-1) = sWr ln (nI d) ∧ ln = sWrL ln (nI d) ∧ lt = sWrT ln lt (nI d) p1 from ⟨by unfold sWr; rw [if_neg hc], by unfold sWrL; rw [if_neg hc], by unfold sWrT; rw [if_neg hc]⟩) dX1_write_19
  · skip
    refine lv_iload_n hx hb dX1_write_0 rfl (lv_at hl 1 rfl) ?_
    refine nr_callSi (rest := []) ⟨hx, hb, hml, hown, hts⟩ hK hP hD hS hA 1 [.int p0] (mt1_bad l D cA _ p0 ) (lw_S q188 q189 q16 q190) (by decide +kernel) ⟨Nat.le_of_ble_eq_true rfl, Nat.le_of_ble_eq_true rfl⟩ rfl hl.1 rfl (Nat.le_of_ble_eq_true rfl) dX1_write_1 ⟨Nat.zero_le _, Nat.zero_le _⟩ (fun r1 H locs hw1 hP hD hS => ?_)
    have hw1 : r1 = nI (if inD p0 then 0 else 1) := hw1
    have e1 : r1 = nI 1 := hw1.trans (congrArg nI (if_neg hin))
    subst e1
    refine nr_if_ne (tgt := 18) hx hb dX1_write_4 (by decide) (by omega) (fun c4 => ?_) (fun c4 => ?_)
    · skip
      refine lv_iconst (v := (-1)) hx hb dX1_write_18 (by decide) ?_
      exact nr_iret hx hb hr hlocks hK (lt, ln) hP hD hS (show (-1) = sWr ln p0 ∧ ln = sWrL ln p0 ∧ lt = sWrT ln lt p0 p1 from ⟨by unfold sWr; rw [if_neg (fun z => hin z.1)], by unfold sWrL; rw [if_neg (fun z => hin z.1)], by unfold sWrT; rw [if_neg (fun z => hin z.1)]⟩) dX1_write_19
    · skip
      exact absurd c4 (by decide)
set_option maxHeartbeats 4000000 in
set_option maxRecDepth 100000 in
/-- wipe(doc) -/
theorem mt1_wipe (l : Launch) (D : va_G) (ad : Nat → Nat) (cA : ClassId) (sz : Nat) (lt : Nat → Nat) (ln : Nat → Nat) (q : Nat → Nat) (ql : Nat) (lf : Nat → Nat) (lfs : Nat) (rg : Nat → Nat) (rgs : Nat) (tb : Nat → Nat) (fe : Nat) (p0 : Int32) (hJ : inv1 ln lt ql q) : nMi l yX1_wipe cX1_wipe 3 .int 1 [.ref (ad 0), .int p0] D vwCl cA (wX1 ad cA lt ln q ql lf lfs rg rgs tb fe) sz (fun (r : Int32) (u : (Nat → Nat)) => (fun (ln' : Nat → Nat) => r = sWi ln p0 ∧ ln' = sWiL ln p0) u) (fun (u : (Nat → Nat)) => (fun (ln' : Nat → Nat) => (wX1 ad cA lt ln' q ql lf lfs rg rgs tb fe)) u) := by
  refine nr_metI (by decide) (Nat.le_of_ble_eq_true rfl) ?_
  intro p e s m below meth c A ls hx hb hr hml hown hlocks hts hA hK hP hD hS hl
  have hown : s.vm.findClass RX1 = some m.cls := hown
  have hl : lv_has ls 3 [(0, .ref (ad 0)), (1, .int p0)] := hl
  have hP : va_P D vwCl (wX1 ad cA lt ln q ql lf lfs rg rgs tb fe) s.heap := hP
  by_cases hin : inD p0
  · skip
    obtain ⟨d, hd, ed⟩ := inD_of hin
    subst ed
    have hln := hJ.1 d hd
    refine lv_iload_n hx hb dX1_wipe_0 rfl (lv_at hl 1 rfl) ?_
    refine nr_callSi (rest := []) ⟨hx, hb, hml, hown, hts⟩ hK hP hD hS hA 1 [.int (nI d)] (mt1_bad l D cA _ (nI d) ) (lw_S q188 q189 q16 q190) (by decide +kernel) ⟨Nat.le_of_ble_eq_true rfl, Nat.le_of_ble_eq_true rfl⟩ rfl hl.1 rfl (Nat.le_of_ble_eq_true rfl) dX1_wipe_1 ⟨Nat.zero_le _, Nat.zero_le _⟩ (fun r1 H locs hw1 hP hD hS => ?_)
    have hw1 : r1 = nI (if inD (nI d) then 0 else 1) := hw1
    have e1 : r1 = nI 0 := hw1.trans (congrArg nI (if_pos (inD_nI hd)))
    subst e1
    refine nr_if_eq (tgt := 9) hx hb dX1_wipe_4 (by decide) (by omega) (fun c4 => ?_) (fun c4 => ?_)
    · skip
      refine lv_aload_n hx hb dX1_wipe_9 rfl (lv_at hl 0 rfl) ?_
      refine va_get (D := D) (ci := 1) (v := .ref (ad 2)) (C := RX1) (T := TX1) (N := 10) hx hb hts in_X1 hown hK hP 0 rfl rfl 1 (by decide) (hts _ q154) (fun _ h9 => h9) rfl dX1_wipe_10 ?_
      refine lv_iload_n hx hb dX1_wipe_13 rfl (lv_at hl 1 rfl) ?_
      refine nr_iald (f := ln) (n := 8) (i := d) hx hb hK hP 2 rfl rfl (by omega) (by decide) dX1_wipe_14 ?_
      refine lv_istore_n (lv' := [(2, .int (nI (ln d))), (0, .ref (ad 0)), (1, .int (nI d))]) hx hb dX1_wipe_15 rfl hl (by decide) rfl (fun ls hl => ?_)
      refine lv_aload_n hx hb dX1_wipe_16 rfl (lv_at hl 1 rfl) ?_
      refine va_get (D := D) (ci := 1) (v := .ref (ad 2)) (C := RX1) (T := TX1) (N := 10) hx hb hts in_X1 hown hK hP 0 rfl rfl 1 (by decide) (hts _ q154) (fun _ h9 => h9) rfl dX1_wipe_17 ?_
      refine lv_iload_n hx hb dX1_wipe_20 rfl (lv_at hl 2 rfl) ?_
      refine lv_iconst (v := nI 0) hx hb dX1_wipe_21 (by decide) ?_
      refine nr_iast (f := ln) (n := 8) (i := d) (v := 0) hx hb hK hP hD hS 2 rfl rfl (by omega) (by decide) dX1_wipe_22 (fun H locs hP hD hS => ?_)
      have hP : va_P D vwCl (wX1 ad cA lt (va_up ln d 0) q ql lf lfs rg rgs tb fe) H := hP
      have hD : va_D A (wX1 ad cA lt (va_up ln d 0) q ql lf lfs rg rgs tb fe) := hD
      refine lv_iload_n hx hb dX1_wipe_23 rfl (lv_at hl 0 rfl) ?_
      exact nr_iret hx hb hr hlocks hK (va_up ln d 0) hP hD hS (show (nI (ln d)) = sWi ln (nI d) ∧ (va_up ln d 0) = sWiL ln (nI d) from ⟨by unfold sWi; rw [if_pos (inD_nI hd), dN_nI hd], by unfold sWiL; rw [if_pos (inD_nI hd), dN_nI hd]⟩) dX1_wipe_24
    · skip
      exact absurd c4 (by decide)
  · skip
    refine lv_iload_n hx hb dX1_wipe_0 rfl (lv_at hl 1 rfl) ?_
    refine nr_callSi (rest := []) ⟨hx, hb, hml, hown, hts⟩ hK hP hD hS hA 1 [.int p0] (mt1_bad l D cA _ p0 ) (lw_S q188 q189 q16 q190) (by decide +kernel) ⟨Nat.le_of_ble_eq_true rfl, Nat.le_of_ble_eq_true rfl⟩ rfl hl.1 rfl (Nat.le_of_ble_eq_true rfl) dX1_wipe_1 ⟨Nat.zero_le _, Nat.zero_le _⟩ (fun r1 H locs hw1 hP hD hS => ?_)
    have hw1 : r1 = nI (if inD p0 then 0 else 1) := hw1
    have e1 : r1 = nI 1 := hw1.trans (congrArg nI (if_neg hin))
    subst e1
    refine nr_if_eq (tgt := 9) hx hb dX1_wipe_4 (by decide) (by omega) (fun c4 => ?_) (fun c4 => ?_)
    · skip
      exact absurd c4 (by decide)
    · skip
      refine lv_iconst (v := (-1)) hx hb dX1_wipe_7 (by decide) ?_
      exact nr_iret hx hb hr hlocks hK (ln) hP hD hS (show (-1) = sWi ln p0 ∧ ln = sWiL ln p0 from ⟨by unfold sWi; rw [if_neg hin], by unfold sWiL; rw [if_neg hin]⟩) dX1_wipe_8
set_option maxHeartbeats 4000000 in
set_option maxRecDepth 100000 in
/-- type(letter) -/
theorem mt1_type (l : Launch) (D : va_G) (ad : Nat → Nat) (cA : ClassId) (sz : Nat) (lt : Nat → Nat) (ln : Nat → Nat) (q : Nat → Nat) (ql : Nat) (lf : Nat → Nat) (lfs : Nat) (rg : Nat → Nat) (rgs : Nat) (tb : Nat → Nat) (fe : Nat) (p0 : Int32) (hJ : inv1 ln lt ql q) : nMi l yX1_type cX1_type 2 .int 0 [.ref (ad 0), .int p0] D vwCl cA (wX1 ad cA lt ln q ql lf lfs rg rgs tb fe) sz (fun (r : Int32) (u : (Nat → Nat) × Nat) => (fun (q' : Nat → Nat) (ql' : Nat) => r = sTy ql ∧ ql' = sTyL ql ∧ q' = sTyQ ql q p0) u.1 u.2) (fun (u : (Nat → Nat) × Nat) => (fun (q' : Nat → Nat) (ql' : Nat) => (wX1 ad cA lt ln q' ql' lf lfs rg rgs tb fe)) u.1 u.2) := by
  refine nr_metI (by decide) (Nat.le_of_ble_eq_true rfl) ?_
  intro p e s m below meth c A ls hx hb hr hml hown hlocks hts hA hK hP hD hS hl
  have hown : s.vm.findClass RX1 = some m.cls := hown
  have hl : lv_has ls 2 [(0, .ref (ad 0)), (1, .int p0)] := hl
  have hP : va_P D vwCl (wX1 ad cA lt ln q ql lf lfs rg rgs tb fe) s.heap := hP
  have hq8 := hJ.2.2.1
  have hlw := lw_lt p0
  refine lv_aload_n hx hb dX1_type_0 rfl (lv_at hl 0 rfl) ?_
  refine va_get (D := D) (ci := 1) (v := .int (nI ql)) (C := RX1) (T := TX1) (N := 10) hx hb hts in_X1 hown hK hP 0 rfl rfl 3 (by decide) (hts _ q156) (fun _ h9 => h9) rfl dX1_type_1 ?_
  refine lv_bipush (v := nI 8) hx hb dX1_type_4 (by decide) ?_
  refine nr_icmp_ne (tgt := 11) hx hb dX1_type_6 (by decide) (by omega) (by omega) (fun c6 => ?_) (fun c6 => ?_)
  · skip
    refine lv_aload_n hx hb dX1_type_11 rfl (lv_at hl 0 rfl) ?_
    refine va_get (D := D) (ci := 1) (v := .ref (ad 3)) (C := RX1) (T := TX1) (N := 10) hx hb hts in_X1 hown hK hP 0 rfl rfl 2 (by decide) (hts _ q155) (fun _ h9 => h9) rfl dX1_type_12 ?_
    refine lv_aload_n hx hb dX1_type_15 rfl (lv_at hl 0 rfl) ?_
    refine va_get (D := D) (ci := 1) (v := .int (nI ql)) (C := RX1) (T := TX1) (N := 10) hx hb hts in_X1 hown hK hP 0 rfl rfl 3 (by decide) (hts _ q156) (fun _ h9 => h9) rfl dX1_type_16 ?_
    refine lv_iload_n hx hb dX1_type_19 rfl (lv_at hl 1 rfl) ?_
    refine lv_iconst (v := nI 3) hx hb dX1_type_20 (by decide) ?_
    refine lv_iand hx hb dX1_type_21 ?_
    refine nr_as (show p0 &&& (nI 3) = nI (lw p0) from lw_and p0) ?_
    refine nr_iast (f := q) (n := 8) (i := ql) (v := lw p0) hx hb hK hP hD hS 3 rfl rfl (by omega) (by decide) dX1_type_22 (fun H locs hP hD hS => ?_)
    have hP : va_P D vwCl (wX1 ad cA lt ln (va_up q ql (lw p0)) ql lf lfs rg rgs tb fe) H := hP
    have hD : va_D A (wX1 ad cA lt ln (va_up q ql (lw p0)) ql lf lfs rg rgs tb fe) := hD
    refine lv_aload_n hx hb dX1_type_23 rfl (lv_at hl 0 rfl) ?_
    refine lv_dup hx hb dX1_type_24 rfl ?_
    refine va_get (D := D) (ci := 1) (v := .int (nI ql)) (C := RX1) (T := TX1) (N := 10) hx hb hts in_X1 hown hK hP 0 rfl rfl 3 (by decide) (hts _ q156) (fun _ h9 => h9) rfl dX1_type_25 ?_
    refine lv_iconst (v := nI 1) hx hb dX1_type_28 (by decide) ?_
    refine nr_add hx hb dX1_type_29 ?_
    refine va_put (D := D) (ci := 1) (v := .int (nI (ql + 1))) (ty := .int) (C := RX1) (T := TX1) (N := 10) hx hb hts in_X1 tyX1 tyX1_ok nmX1 hown hK hP hD hS 0 rfl rfl 3 (by decide) (hts _ q156) (fun _ h9 => h9) rfl (by decide +kernel) rfl rfl (Nat.le_of_ble_eq_true rfl) dX1_type_30 (fun H locs hP hD hS => ?_)
    have hP : va_P D vwCl (wX1 ad cA lt ln (va_up q ql (lw p0)) (ql + 1) lf lfs rg rgs tb fe) H := hP
    have hD : va_D A (wX1 ad cA lt ln (va_up q ql (lw p0)) (ql + 1) lf lfs rg rgs tb fe) := hD
    refine lv_aload_n hx hb dX1_type_33 rfl (lv_at hl 0 rfl) ?_
    refine va_get (D := D) (ci := 1) (v := .int (nI (ql + 1))) (C := RX1) (T := TX1) (N := 10) hx hb hts in_X1 hown hK hP 0 rfl rfl 3 (by decide) (hts _ q156) (fun _ h9 => h9) rfl dX1_type_34 ?_
    exact nr_iret hx hb hr hlocks hK (va_up q ql (lw p0), ql + 1) hP hD hS (show (nI (ql + 1)) = sTy ql ∧ (ql + 1) = sTyL ql ∧ (va_up q ql (lw p0)) = sTyQ ql q p0 from ⟨by unfold sTy; rw [if_pos (by omega)], by unfold sTyL; rw [if_pos (by omega)], by unfold sTyQ; rw [if_pos (by omega)]⟩) dX1_type_37
  · skip
    refine lv_iconst (v := (-1)) hx hb dX1_type_9 (by decide) ?_
    exact nr_iret hx hb hr hlocks hK (q, ql) hP hD hS (show (-1) = sTy ql ∧ ql = sTyL ql ∧ q = sTyQ ql q p0 from ⟨by unfold sTy; rw [if_neg (by omega)], by unfold sTyL; rw [if_neg (by omega)], by unfold sTyQ; rw [if_neg (by omega)]⟩) dX1_type_10
set_option maxHeartbeats 4000000 in
set_option maxRecDepth 100000 in
/-- clear() -/
theorem mt1_clear (l : Launch) (D : va_G) (ad : Nat → Nat) (cA : ClassId) (sz : Nat) (lt : Nat → Nat) (ln : Nat → Nat) (q : Nat → Nat) (ql : Nat) (lf : Nat → Nat) (lfs : Nat) (rg : Nat → Nat) (rgs : Nat) (tb : Nat → Nat) (fe : Nat) : nMv l yX1_clear cX1_clear 1 0 [.ref (ad 0)] D vwCl cA (wX1 ad cA lt ln q ql lf lfs rg rgs tb fe) sz (fun (u : Nat) => (fun (ql' : Nat) => ql' = 0) u) (fun (u : Nat) => (fun (ql' : Nat) => (wX1 ad cA lt ln q ql' lf lfs rg rgs tb fe)) u) := by
  refine nr_metV (by decide) (Nat.le_of_ble_eq_true rfl) ?_
  intro p e s m below meth c A ls hx hb hr hml hown hlocks hts hA hK hP hD hS hl
  have hown : s.vm.findClass RX1 = some m.cls := hown
  have hl : lv_has ls 1 [(0, .ref (ad 0))] := hl
  have hP : va_P D vwCl (wX1 ad cA lt ln q ql lf lfs rg rgs tb fe) s.heap := hP
  refine lv_aload_n hx hb dX1_clear_0 rfl (lv_at hl 0 rfl) ?_
  refine lv_iconst (v := nI 0) hx hb dX1_clear_1 (by decide) ?_
  refine va_put (D := D) (ci := 1) (v := .int (nI 0)) (ty := .int) (C := RX1) (T := TX1) (N := 10) hx hb hts in_X1 tyX1 tyX1_ok nmX1 hown hK hP hD hS 0 rfl rfl 3 (by decide) (hts _ q156) (fun _ h9 => h9) rfl (by decide +kernel) rfl rfl (Nat.le_of_ble_eq_true rfl) dX1_clear_2 (fun H locs hP hD hS => ?_)
  have hP : va_P D vwCl (wX1 ad cA lt ln q 0 lf lfs rg rgs tb fe) H := hP
  have hD : va_D A (wX1 ad cA lt ln q 0 lf lfs rg rgs tb fe) := hD
  exact nr_vret hx hb hr hlocks hK (0) hP hD hS (show 0 = 0 from rfl) dX1_clear_5
set_option maxHeartbeats 4000000 in
set_option maxRecDepth 100000 in
/-- cell(i, j) -/
theorem mt1_cell (l : Launch) (D : va_G) (ad : Nat → Nat) (cA : ClassId) (sz : Nat) (lt : Nat → Nat) (ln : Nat → Nat) (q : Nat → Nat) (ql : Nat) (lf : Nat → Nat) (lfs : Nat) (rg : Nat → Nat) (rgs : Nat) (tb : Nat → Nat) (fe : Nat) (i : Nat) (j : Nat) (hi : i ≤ 16) (hj : j ≤ 16) (h1 : 0 < i → 0 < j → tb (17 * (i - 1) + j) = eD lf rg (i - 1) j) (h2 : 0 < i → 0 < j → tb (17 * i + j - 1) = eD lf rg i (j - 1)) (h3 : 0 < i → 0 < j → tb (17 * (i - 1) + j - 1) = eD lf rg (i - 1) (j - 1)) (h4 : 0 < i → lf (i - 1) < 4) (h5 : 0 < j → rg (j - 1) < 4) : nMi l yX1_cell cX1_cell 7 .int 0 [.ref (ad 0), .int (nI i), .int (nI j)] D vwCl cA (wX1 ad cA lt ln q ql lf lfs rg rgs tb fe) sz (fun (r : Int32) (u : Unit) => r = nI (eD lf rg i j)) (fun (u : Unit) => (wX1 ad cA lt ln q ql lf lfs rg rgs tb fe)) := by
  refine nr_metI (by decide) (Nat.le_of_ble_eq_true rfl) ?_
  intro p e s m below meth c A ls hx hb hr hml hown hlocks hts hA hK hP hD hS hl
  have hown : s.vm.findClass RX1 = some m.cls := hown
  have hl : lv_has ls 7 [(0, .ref (ad 0)), (1, .int (nI i)), (2, .int (nI j))] := hl
  have hP : va_P D vwCl (wX1 ad cA lt ln q ql lf lfs rg rgs tb fe) s.heap := hP
  refine lv_iload_n hx hb dX1_cell_0 rfl (lv_at hl 1 rfl) ?_
  refine nr_if_ne (tgt := 6) hx hb dX1_cell_1 (by decide) (by omega) (fun c1 => ?_) (fun c1 => ?_)
  · skip
    refine lv_iload_n hx hb dX1_cell_6 rfl (lv_at hl 2 rfl) ?_
    refine nr_if_ne (tgt := 12) hx hb dX1_cell_7 (by decide) (by omega) (fun c7 => ?_) (fun c7 => ?_)
    · skip
      have e1 := h1 (by omega) (by omega)
      have e2 := h2 (by omega) (by omega)
      have e3 := h3 (by omega) (by omega)
      have e4 := h4 (by omega)
      have e5 := h5 (by omega)
      have b1 := eD_le lf rg (i - 1) j
      have b2 := eD_le lf rg i (j - 1)
      have b3 := eD_le lf rg (i - 1) (j - 1)
      refine lv_aload_n hx hb dX1_cell_12 rfl (lv_at hl 0 rfl) ?_
      refine va_get (D := D) (ci := 1) (v := .ref (ad 6)) (C := RX1) (T := TX1) (N := 10) hx hb hts in_X1 hown hK hP 0 rfl rfl 8 (by decide) (hts _ q161) (fun _ h9 => h9) rfl dX1_cell_13 ?_
      refine lv_bipush (v := nI 17) hx hb dX1_cell_16 (by decide) ?_
      refine lv_iload_n hx hb dX1_cell_18 rfl (lv_at hl 1 rfl) ?_
      refine lv_iconst (v := nI 1) hx hb dX1_cell_19 (by decide) ?_
      refine nr_sub hx hb dX1_cell_20 (by omega) ?_
      refine nr_mul hx hb dX1_cell_21 ?_
      refine lv_iload_n hx hb dX1_cell_22 rfl (lv_at hl 2 rfl) ?_
      refine nr_add hx hb dX1_cell_23 ?_
      refine nr_iald (f := tb) (n := 289) (i := (17 * (i - 1)) + j) hx hb hK hP 6 rfl rfl (by omega) (by decide) dX1_cell_24 ?_
      refine lv_iconst (v := nI 1) hx hb dX1_cell_25 (by decide) ?_
      refine nr_add hx hb dX1_cell_26 ?_
      refine lv_istore_n (lv' := [(3, .int (nI ((tb ((17 * (i - 1)) + j)) + 1))), (0, .ref (ad 0)), (1, .int (nI i)), (2, .int (nI j))]) hx hb dX1_cell_27 rfl hl (by decide) rfl (fun ls hl => ?_)
      refine lv_aload_n hx hb dX1_cell_28 rfl (lv_at hl 1 rfl) ?_
      refine va_get (D := D) (ci := 1) (v := .ref (ad 6)) (C := RX1) (T := TX1) (N := 10) hx hb hts in_X1 hown hK hP 0 rfl rfl 8 (by decide) (hts _ q161) (fun _ h9 => h9) rfl dX1_cell_29 ?_
      refine lv_bipush (v := nI 17) hx hb dX1_cell_32 (by decide) ?_
      refine lv_iload_n hx hb dX1_cell_34 rfl (lv_at hl 2 rfl) ?_
      refine nr_mul hx hb dX1_cell_35 ?_
      refine lv_iload_n hx hb dX1_cell_36 rfl (lv_at hl 3 rfl) ?_
      refine nr_add hx hb dX1_cell_37 ?_
      refine lv_iconst (v := nI 1) hx hb dX1_cell_38 (by decide) ?_
      refine nr_sub hx hb dX1_cell_39 (by omega) ?_
      refine nr_iald (f := tb) (n := 289) (i := ((17 * i) + j) - 1) hx hb hK hP 6 rfl rfl (by omega) (by decide) dX1_cell_40 ?_
      refine lv_iconst (v := nI 1) hx hb dX1_cell_41 (by decide) ?_
      refine nr_add hx hb dX1_cell_42 ?_
      refine lv_istore (lv' := [(4, .int (nI ((tb (((17 * i) + j) - 1)) + 1))), (3, .int (nI ((tb ((17 * (i - 1)) + j)) + 1))), (0, .ref (ad 0)), (1, .int (nI i)), (2, .int (nI j))]) hx hb dX1_cell_43 hl (by decide) rfl (fun ls hl => ?_)
      refine lv_aload_n hx hb dX1_cell_45 rfl (lv_at hl 2 rfl) ?_
      refine va_get (D := D) (ci := 1) (v := .ref (ad 6)) (C := RX1) (T := TX1) (N := 10) hx hb hts in_X1 hown hK hP 0 rfl rfl 8 (by decide) (hts _ q161) (fun _ h9 => h9) rfl dX1_cell_46 ?_
      refine lv_bipush (v := nI 17) hx hb dX1_cell_49 (by decide) ?_
      refine lv_iload_n hx hb dX1_cell_51 rfl (lv_at hl 3 rfl) ?_
      refine lv_iconst (v := nI 1) hx hb dX1_cell_52 (by decide) ?_
      refine nr_sub hx hb dX1_cell_53 (by omega) ?_
      refine nr_mul hx hb dX1_cell_54 ?_
      refine lv_iload_n hx hb dX1_cell_55 rfl (lv_at hl 4 rfl) ?_
      refine nr_add hx hb dX1_cell_56 ?_
      refine lv_iconst (v := nI 1) hx hb dX1_cell_57 (by decide) ?_
      refine nr_sub hx hb dX1_cell_58 (by omega) ?_
      refine nr_iald (f := tb) (n := 289) (i := ((17 * (i - 1)) + j) - 1) hx hb hK hP 6 rfl rfl (by omega) (by decide) dX1_cell_59 ?_
      refine lv_aload_n hx hb dX1_cell_60 rfl (lv_at hl 2 rfl) ?_
      refine va_get (D := D) (ci := 1) (v := .ref (ad 4)) (C := RX1) (T := TX1) (N := 10) hx hb hts in_X1 hown hK hP 0 rfl rfl 4 (by decide) (hts _ q157) (fun _ h9 => h9) rfl dX1_cell_61 ?_
      refine lv_iload_n hx hb dX1_cell_64 rfl (lv_at hl 3 rfl) ?_
      refine lv_iconst (v := nI 1) hx hb dX1_cell_65 (by decide) ?_
      refine nr_sub hx hb dX1_cell_66 (by omega) ?_
      refine nr_iald (f := lf) (n := 16) (i := i - 1) hx hb hK hP 4 rfl rfl (by omega) (by decide) dX1_cell_67 ?_
      refine lv_aload_n hx hb dX1_cell_68 rfl (lv_at hl 2 rfl) ?_
      refine va_get (D := D) (ci := 1) (v := .ref (ad 5)) (C := RX1) (T := TX1) (N := 10) hx hb hts in_X1 hown hK hP 0 rfl rfl 6 (by decide) (hts _ q159) (fun _ h9 => h9) rfl dX1_cell_69 ?_
      refine lv_iload_n hx hb dX1_cell_72 rfl (lv_at hl 4 rfl) ?_
      refine lv_iconst (v := nI 1) hx hb dX1_cell_73 (by decide) ?_
      refine nr_sub hx hb dX1_cell_74 (by omega) ?_
      refine nr_iald (f := rg) (n := 16) (i := j - 1) hx hb hK hP 5 rfl rfl (by omega) (by decide) dX1_cell_75 ?_
      refine nr_cut (F0 m 84 ls [.int (nI (if lf (i - 1) = rg (j - 1) then 0 else 1)), .int (nI (tb (((17 * (i - 1)) + j) - 1)))]) ?_ (fun J84 => ?_)
      · skip
        refine nr_add hx hb dX1_cell_84 ?_
        have b4 : (if lf (i - 1) = rg (j - 1) then 0 else 1) ≤ 1 := by split <;> omega
        refine lv_istore (lv' := [(5, .int (nI ((tb (((17 * (i - 1)) + j) - 1)) + (if lf (i - 1) = rg (j - 1) then 0 else 1)))), (4, .int (nI ((tb (((17 * i) + j) - 1)) + 1))), (3, .int (nI ((tb ((17 * (i - 1)) + j)) + 1))), (0, .ref (ad 0)), (1, .int (nI i)), (2, .int (nI j))]) hx hb dX1_cell_85 hl (by decide) rfl (fun ls hl => ?_)
        refine lv_iload_n hx hb dX1_cell_87 rfl (lv_at hl 2 rfl) ?_
        refine lv_iload hx hb dX1_cell_88 (lv_at hl 1 rfl) ?_
        refine nr_cut (F0 m 99 ls [.int (nI (min (tb (17 * (i - 1) + j) + 1) (tb (17 * i + j - 1) + 1)))]) ?_ (fun J99 => ?_)
        · skip
          refine lv_istore (lv' := [(6, .int (nI (min (tb (17 * (i - 1) + j) + 1) (tb (17 * i + j - 1) + 1)))), (5, .int (nI ((tb (((17 * (i - 1)) + j) - 1)) + (if lf (i - 1) = rg (j - 1) then 0 else 1)))), (4, .int (nI ((tb (((17 * i) + j) - 1)) + 1))), (3, .int (nI ((tb ((17 * (i - 1)) + j)) + 1))), (0, .ref (ad 0)), (1, .int (nI i)), (2, .int (nI j))]) hx hb dX1_cell_99 hl (by decide) rfl (fun ls hl => ?_)
          refine lv_iload hx hb dX1_cell_101 (lv_at hl 1 rfl) ?_
          refine lv_iload hx hb dX1_cell_103 (lv_at hl 0 rfl) ?_
          refine nr_cut (F0 m 115 ls [.int (nI (min (min (tb (17 * (i - 1) + j) + 1) (tb (17 * i + j - 1) + 1)) (tb (17 * (i - 1) + j - 1) + if lf (i - 1) = rg (j - 1) then 0 else 1)))]) ?_ (fun J115 => ?_)
          · skip
            exact nr_iret hx hb hr hlocks hK () hP hD hS (show (nI (min (min (tb (17 * (i - 1) + j) + 1) (tb (17 * i + j - 1) + 1)) (tb (17 * (i - 1) + j - 1) + if lf (i - 1) = rg (j - 1) then 0 else 1))) = nI (eD lf rg i j) from congrArg nI (by rw [eD_cell (by omega) (by omega), e1, e2, e3])) dX1_cell_115
          refine nr_icmp_ge (tgt := 113) hx hb dX1_cell_105 (by decide) (by omega) (by omega) (fun c105 => ?_) (fun c105 => ?_)
          · skip
            refine lv_iload hx hb dX1_cell_113 (lv_at hl 0 rfl) ?_
            exact nr_as (show nI (min (tb (17 * (i - 1) + j) + 1) (tb (17 * i + j - 1) + 1)) = nI (min (min (tb (17 * (i - 1) + j) + 1) (tb (17 * i + j - 1) + 1)) (tb (17 * (i - 1) + j - 1) + if lf (i - 1) = rg (j - 1) then 0 else 1)) from congrArg nI (by omega)) J115
          · skip
            refine lv_iload hx hb dX1_cell_108 (lv_at hl 1 rfl) ?_
            refine lv_goto (tgt := 115) hx hb dX1_cell_110 (by decide) ?_
            exact nr_as (show nI ((tb (((17 * (i - 1)) + j) - 1)) + (if lf (i - 1) = rg (j - 1) then 0 else 1)) = nI (min (min (tb (17 * (i - 1) + j) + 1) (tb (17 * i + j - 1) + 1)) (tb (17 * (i - 1) + j - 1) + if lf (i - 1) = rg (j - 1) then 0 else 1)) from congrArg nI (by omega)) J115
        refine nr_icmp_ge (tgt := 97) hx hb dX1_cell_90 (by decide) (by omega) (by omega) (fun c90 => ?_) (fun c90 => ?_)
        · skip
          refine lv_iload hx hb dX1_cell_97 (lv_at hl 1 rfl) ?_
          exact nr_as (show nI ((tb (((17 * i) + j) - 1)) + 1) = nI (min (tb (17 * (i - 1) + j) + 1) (tb (17 * i + j - 1) + 1)) from congrArg nI (by omega)) J99
        · skip
          refine lv_iload_n hx hb dX1_cell_93 rfl (lv_at hl 2 rfl) ?_
          refine lv_goto (tgt := 99) hx hb dX1_cell_94 (by decide) ?_
          exact nr_as (show nI ((tb ((17 * (i - 1)) + j)) + 1) = nI (min (tb (17 * (i - 1) + j) + 1) (tb (17 * i + j - 1) + 1)) from congrArg nI (by omega)) J99
      refine nr_icmp_ne (tgt := 83) hx hb dX1_cell_76 (by decide) (by omega) (by omega) (fun c76 => ?_) (fun c76 => ?_)
      · skip
        refine lv_iconst (v := nI 1) hx hb dX1_cell_83 (by decide) ?_
        exact nr_as (show nI 1 = nI (if lf (i - 1) = rg (j - 1) then 0 else 1) from congrArg nI (by split <;> omega)) J84
      · skip
        refine lv_iconst (v := nI 0) hx hb dX1_cell_79 (by decide) ?_
        refine lv_goto (tgt := 84) hx hb dX1_cell_80 (by decide) ?_
        exact nr_as (show nI 0 = nI (if lf (i - 1) = rg (j - 1) then 0 else 1) from congrArg nI (by split <;> omega)) J84
    · skip
      refine lv_iload_n hx hb dX1_cell_10 rfl (lv_at hl 1 rfl) ?_
      exact nr_iret hx hb hr hlocks hK () hP hD hS (show (nI i) = nI (eD lf rg i j) from congrArg nI (by rw [c7, eD_i0])) dX1_cell_11
  · skip
    refine lv_iload_n hx hb dX1_cell_4 rfl (lv_at hl 2 rfl) ?_
    exact nr_iret hx hb hr hlocks hK () hP hD hS (show (nI j) = nI (eD lf rg i j) from congrArg nI (by rw [c1, eD_0])) dX1_cell_5
set_option maxHeartbeats 4000000 in
set_option maxRecDepth 100000 in
/-- compared() -/
theorem mt1_compared (l : Launch) (D : va_G) (ad : Nat → Nat) (cA : ClassId) (sz : Nat) (lt : Nat → Nat) (ln : Nat → Nat) (q : Nat → Nat) (ql : Nat) (lf : Nat → Nat) (lfs : Nat) (rg : Nat → Nat) (rgs : Nat) (tb : Nat → Nat) (fe : Nat) (hls : lfs ≤ 16) (hrs : rgs ≤ 16) (hl4 : ∀ t, t < lfs → lf t < 4) (hr4 : ∀ t, t < rgs → rg t < 4) : nMi l yX1_compared cX1_compared 3 .int 1 [.ref (ad 0)] D vwCl cA (wX1 ad cA lt ln q ql lf lfs rg rgs tb fe) sz (fun (r : Int32) (u : (Nat → Nat)) => (fun (tb' : Nat → Nat) => r = nI (eD lf rg lfs rgs)) u) (fun (u : (Nat → Nat)) => (fun (tb' : Nat → Nat) => (wX1 ad cA lt ln q ql lf lfs rg rgs tb' fe)) u) := by
  refine nr_metI (by decide) (Nat.le_of_ble_eq_true rfl) ?_
  intro p e s m below meth c A ls hx hb hr hml hown hlocks hts hA hK hP hD hS hl
  have hown : s.vm.findClass RX1 = some m.cls := hown
  have hl : lv_has ls 3 [(0, .ref (ad 0))] := hl
  have hP : va_P D vwCl (wX1 ad cA lt ln q ql lf lfs rg rgs tb fe) s.heap := hP
  refine lv_iconst (v := nI 0) hx hb dX1_compared_0 (by decide) ?_
  refine lv_istore_n (lv' := [(1, .int (nI 0)), (0, .ref (ad 0))]) hx hb dX1_compared_1 rfl hl (by decide) rfl (fun ls hl => ?_)
  refine nr_loop (σ := Nat × (Nat → Nat)) (fun v H locs ls => (fun (i : Nat) (tb : Nat → Nat) => (i ≤ lfs + 1) ∧ (∀ a b, a < i → b ≤ rgs → tb (17 * a + b) = eD lf rg a b) ∧ va_P D vwCl (wX1 ad cA lt ln q ql lf lfs rg rgs tb fe) H ∧ va_D A (wX1 ad cA lt ln q ql lf lfs rg rgs tb fe) ∧ va_S A s.heap H locs ∧ lv_has ls 3 [(0, .ref (ad 0)), (1, .int (nI i))]) v.1 v.2) (fun v => (fun (i : Nat) (tb : Nat → Nat) => lfs + 1 - i) v.1 v.2) ?_ (0, tb) ⟨(show 0 ≤ lfs + 1 from by omega), (show ∀ a b, a < 0 → b ≤ rgs → tb (17 * a + b) = eD lf rg a b from fun a b h _ => absurd h (Nat.not_lt_zero a)), hP, hD, hS, lv_sub hl [1, 0] rfl⟩
  intro v H locs ls hv ih2
  obtain ⟨i, tb⟩ := v
  obtain ⟨hi, ht, hP, hD, hS, hl⟩ := hv
  have hi : i ≤ lfs + 1 := hi
  have ht : ∀ a b, a < i → b ≤ rgs → tb (17 * a + b) = eD lf rg a b := ht
  have hP : va_P D vwCl (wX1 ad cA lt ln q ql lf lfs rg rgs tb fe) H := hP
  have hD : va_D A (wX1 ad cA lt ln q ql lf lfs rg rgs tb fe) := hD
  have hl : lv_has ls 3 [(0, .ref (ad 0)), (1, .int (nI i))] := hl
  refine lv_iload_n hx hb dX1_compared_2 rfl (lv_at hl 1 rfl) ?_
  refine lv_aload_n hx hb dX1_compared_3 rfl (lv_at hl 0 rfl) ?_
  refine va_get (D := D) (ci := 1) (v := .int (nI lfs)) (C := RX1) (T := TX1) (N := 10) hx hb hts in_X1 hown hK hP 0 rfl rfl 5 (by decide) (hts _ q158) (fun _ h9 => h9) rfl dX1_compared_4 ?_
  refine nr_icmp_gt (tgt := 49) hx hb dX1_compared_7 (by decide) (by omega) (by omega) (fun c7 => ?_) (fun c7 => ?_)
  · skip
    refine lv_aload_n hx hb dX1_compared_49 rfl (lv_at hl 0 rfl) ?_
    refine va_get (D := D) (ci := 1) (v := .ref (ad 6)) (C := RX1) (T := TX1) (N := 10) hx hb hts in_X1 hown hK hP 0 rfl rfl 8 (by decide) (hts _ q161) (fun _ h9 => h9) rfl dX1_compared_50 ?_
    refine lv_bipush (v := nI 17) hx hb dX1_compared_53 (by decide) ?_
    refine lv_aload_n hx hb dX1_compared_55 rfl (lv_at hl 0 rfl) ?_
    refine va_get (D := D) (ci := 1) (v := .int (nI lfs)) (C := RX1) (T := TX1) (N := 10) hx hb hts in_X1 hown hK hP 0 rfl rfl 5 (by decide) (hts _ q158) (fun _ h9 => h9) rfl dX1_compared_56 ?_
    refine nr_mul hx hb dX1_compared_59 ?_
    refine lv_aload_n hx hb dX1_compared_60 rfl (lv_at hl 0 rfl) ?_
    refine va_get (D := D) (ci := 1) (v := .int (nI rgs)) (C := RX1) (T := TX1) (N := 10) hx hb hts in_X1 hown hK hP 0 rfl rfl 7 (by decide) (hts _ q160) (fun _ h9 => h9) rfl dX1_compared_61 ?_
    refine nr_add hx hb dX1_compared_64 ?_
    refine nr_iald (f := tb) (n := 289) (i := (17 * lfs) + rgs) hx hb hK hP 6 rfl rfl (by omega) (by decide) dX1_compared_65 ?_
    exact nr_iret hx hb hr hlocks hK (tb) hP hD hS (show (nI (tb ((17 * lfs) + rgs))) = nI (eD lf rg lfs rgs) from congrArg nI (ht lfs rgs (by omega) (Nat.le_refl _))) dX1_compared_66
  · skip
    refine lv_iconst (v := nI 0) hx hb dX1_compared_10 (by decide) ?_
    refine lv_istore_n (lv' := [(2, .int (nI 0)), (0, .ref (ad 0)), (1, .int (nI i))]) hx hb dX1_compared_11 rfl hl (by decide) rfl (fun ls hl => ?_)
    refine nr_loop (σ := Nat × (Nat → Nat)) (fun v H locs ls => (fun (j : Nat) (tb : Nat → Nat) => (j ≤ rgs + 1) ∧ (∀ a b, a < i → b ≤ rgs → tb (17 * a + b) = eD lf rg a b) ∧ (∀ b, b < j → tb (17 * i + b) = eD lf rg i b) ∧ va_P D vwCl (wX1 ad cA lt ln q ql lf lfs rg rgs tb fe) H ∧ va_D A (wX1 ad cA lt ln q ql lf lfs rg rgs tb fe) ∧ va_S A s.heap H locs ∧ lv_has ls 3 [(0, .ref (ad 0)), (1, .int (nI i)), (2, .int (nI j))]) v.1 v.2) (fun v => (fun (j : Nat) (tb : Nat → Nat) => rgs + 1 - j) v.1 v.2) ?_ (0, tb) ⟨(show 0 ≤ rgs + 1 from by omega), (show ∀ a b, a < i → b ≤ rgs → tb (17 * a + b) = eD lf rg a b from ht), (show ∀ b, b < 0 → tb (17 * i + b) = eD lf rg i b from fun b h => absurd h (Nat.not_lt_zero b)), hP, hD, hS, lv_sub hl [1, 2, 0] rfl⟩
    intro v H locs ls hv ih12
    obtain ⟨j, tb⟩ := v
    obtain ⟨hj, ht, hrow, hP, hD, hS, hl⟩ := hv
    have hj : j ≤ rgs + 1 := hj
    have ht : ∀ a b, a < i → b ≤ rgs → tb (17 * a + b) = eD lf rg a b := ht
    have hrow : ∀ b, b < j → tb (17 * i + b) = eD lf rg i b := hrow
    have hP : va_P D vwCl (wX1 ad cA lt ln q ql lf lfs rg rgs tb fe) H := hP
    have hD : va_D A (wX1 ad cA lt ln q ql lf lfs rg rgs tb fe) := hD
    have hl : lv_has ls 3 [(0, .ref (ad 0)), (1, .int (nI i)), (2, .int (nI j))] := hl
    refine lv_iload_n hx hb dX1_compared_12 rfl (lv_at hl 2 rfl) ?_
    refine lv_aload_n hx hb dX1_compared_13 rfl (lv_at hl 0 rfl) ?_
    refine va_get (D := D) (ci := 1) (v := .int (nI rgs)) (C := RX1) (T := TX1) (N := 10) hx hb hts in_X1 hown hK hP 0 rfl rfl 7 (by decide) (hts _ q160) (fun _ h9 => h9) rfl dX1_compared_14 ?_
    refine nr_icmp_gt (tgt := 43) hx hb dX1_compared_17 (by decide) (by omega) (by omega) (fun c17 => ?_) (fun c17 => ?_)
    · skip
      refine lv_iinc (v := nI (i + 1)) (lv' := [(1, .int (nI (i + 1))), (0, .ref (ad 0)), (2, .int (nI j))]) hx hb dX1_compared_43 hl (k := 1) rfl (nI_add i 1) (by decide) rfl (fun ls hl => ?_)
      refine lv_goto (tgt := 2) hx hb dX1_compared_46 (by decide) ?_
      exact ih2 (i + 1, tb) _ _ _ ⟨(show (i + 1) ≤ lfs + 1 from by omega), (show ∀ a b, a < (i + 1) → b ≤ rgs → tb (17 * a + b) = eD lf rg a b from fun a b h h2 => by by_cases z : a = i; (rw [z]; exact hrow b (by omega)); exact ht a b (by omega) h2), hP, hD, hS, lv_sub hl [1, 0] rfl⟩ (show lfs + 1 - (i + 1) < lfs + 1 - i from by omega)
    · skip
      refine lv_aload_n hx hb dX1_compared_20 rfl (lv_at hl 0 rfl) ?_
      refine va_get (D := D) (ci := 1) (v := .ref (ad 6)) (C := RX1) (T := TX1) (N := 10) hx hb hts in_X1 hown hK hP 0 rfl rfl 8 (by decide) (hts _ q161) (fun _ h9 => h9) rfl dX1_compared_21 ?_
      refine lv_bipush (v := nI 17) hx hb dX1_compared_24 (by decide) ?_
      refine lv_iload_n hx hb dX1_compared_26 rfl (lv_at hl 1 rfl) ?_
      refine nr_mul hx hb dX1_compared_27 ?_
      refine lv_iload_n hx hb dX1_compared_28 rfl (lv_at hl 2 rfl) ?_
      refine nr_add hx hb dX1_compared_29 ?_
      refine lv_aload_n hx hb dX1_compared_30 rfl (lv_at hl 0 rfl) ?_
      refine lv_iload_n hx hb dX1_compared_31 rfl (lv_at hl 1 rfl) ?_
      refine lv_iload_n hx hb dX1_compared_32 rfl (lv_at hl 2 rfl) ?_
      refine nr_callVi (C := RX1) (T := TX1) (N := 10) (ci := 1) (rest := [.int (nI ((17 * i) + j)), .ref (ad 6)]) (wr := []) ⟨hx, hb, hml, hown, hts⟩ hK hP hD hS hA [0, 1, 2, 3, 4, 5, 6] [] rfl rfl (by decide) (by decide) (by decide) 2 [.int (nI i), .int (nI j)] (mt1_cell l D ad cA _ lt ln q ql lf lfs rg rgs tb fe i j (by omega) (by omega) (fun z1 z2 => ht (i - 1) j (by omega) (by omega)) (fun z1 z2 => by have z := hrow (j - 1) (by omega); rwa [show 17 * i + (j - 1) = 17 * i + j - 1 by omega] at z) (fun z1 z2 => by have z := ht (i - 1) (j - 1) (by omega) (by omega); rwa [show 17 * (i - 1) + (j - 1) = 17 * (i - 1) + j - 1 by omega] at z) (fun z1 => hl4 (i - 1) (by omega)) (fun z1 => hr4 (j - 1) (by omega))) (lw_V q223 q225 qs11 q16 q226) (by decide +kernel) ⟨Nat.le_of_ble_eq_true rfl, Nat.le_of_ble_eq_true rfl⟩ rfl 0 rfl rfl hl.1 rfl (Nat.le_of_ble_eq_true rfl) dX1_compared_33 ⟨Nat.zero_le _, Nat.zero_le _⟩ (fun r33 u H locs hw33 hP hD hS => ?_)
      have hw33 : r33 = nI (eD lf rg i j) := hw33
      have hP : va_P D vwCl (wX1 ad cA lt ln q ql lf lfs rg rgs tb fe) H := hP
      have hD : va_D A (wX1 ad cA lt ln q ql lf lfs rg rgs tb fe) := hD
      have e33 : r33 = nI (eD lf rg i j) := hw33
      subst e33
      refine nr_iast (f := tb) (n := 289) (i := (17 * i) + j) (v := eD lf rg i j) hx hb hK hP hD hS 6 rfl rfl (by omega) (by decide) dX1_compared_36 (fun H locs hP hD hS => ?_)
      have hP : va_P D vwCl (wX1 ad cA lt ln q ql lf lfs rg rgs (va_up tb ((17 * i) + j) (eD lf rg i j)) fe) H := hP
      have hD : va_D A (wX1 ad cA lt ln q ql lf lfs rg rgs (va_up tb ((17 * i) + j) (eD lf rg i j)) fe) := hD
      refine lv_iinc (v := nI (j + 1)) (lv' := [(2, .int (nI (j + 1))), (0, .ref (ad 0)), (1, .int (nI i))]) hx hb dX1_compared_37 hl (k := 2) rfl (nI_add j 1) (by decide) rfl (fun ls hl => ?_)
      refine lv_goto (tgt := 12) hx hb dX1_compared_40 (by decide) ?_
      exact ih12 (j + 1, va_up tb ((17 * i) + j) (eD lf rg i j)) _ _ _ ⟨(show (j + 1) ≤ rgs + 1 from by omega), (show ∀ a b, a < i → b ≤ rgs → (va_up tb ((17 * i) + j) (eD lf rg i j)) (17 * a + b) = eD lf rg a b from fun a b h h2 => by rw [up_n _ _ (by omega)]; exact ht a b h h2), (show ∀ b, b < (j + 1) → (va_up tb ((17 * i) + j) (eD lf rg i j)) (17 * i + b) = eD lf rg i b from fun b h => by by_cases z : b = j; (rw [z, up_s]); (rw [up_n _ _ (by omega)]; exact hrow b (by omega))), hP, hD, hS, lv_sub hl [1, 2, 0] rfl⟩ (show rgs + 1 - (j + 1) < rgs + 1 - j from by omega)
set_option maxHeartbeats 4000000 in
set_option maxRecDepth 100000 in
/-- layQuery() -/
theorem mt1_layQuery (l : Launch) (D : va_G) (ad : Nat → Nat) (cA : ClassId) (sz : Nat) (lt : Nat → Nat) (ln : Nat → Nat) (q : Nat → Nat) (ql : Nat) (lf : Nat → Nat) (lfs : Nat) (rg : Nat → Nat) (rgs : Nat) (tb : Nat → Nat) (fe : Nat) (hq : ql ≤ 8) : nMv l yX1_layQuery cX1_layQuery 2 0 [.ref (ad 0)] D vwCl cA (wX1 ad cA lt ln q ql lf lfs rg rgs tb fe) sz (fun (u : (Nat → Nat) × Nat) => (fun (lf' : Nat → Nat) (lfs' : Nat) => lfs' = ql ∧ ∀ t, t < ql → lf' t = q t) u.1 u.2) (fun (u : (Nat → Nat) × Nat) => (fun (lf' : Nat → Nat) (lfs' : Nat) => (wX1 ad cA lt ln q ql lf' lfs' rg rgs tb fe)) u.1 u.2) := by
  refine nr_metV (by decide) (Nat.le_of_ble_eq_true rfl) ?_
  intro p e s m below meth c A ls hx hb hr hml hown hlocks hts hA hK hP hD hS hl
  have hown : s.vm.findClass RX1 = some m.cls := hown
  have hl : lv_has ls 2 [(0, .ref (ad 0))] := hl
  have hP : va_P D vwCl (wX1 ad cA lt ln q ql lf lfs rg rgs tb fe) s.heap := hP
  refine lv_aload_n hx hb dX1_layQuery_0 rfl (lv_at hl 0 rfl) ?_
  refine lv_aload_n hx hb dX1_layQuery_1 rfl (lv_at hl 0 rfl) ?_
  refine va_get (D := D) (ci := 1) (v := .int (nI ql)) (C := RX1) (T := TX1) (N := 10) hx hb hts in_X1 hown hK hP 0 rfl rfl 3 (by decide) (hts _ q156) (fun _ h9 => h9) rfl dX1_layQuery_2 ?_
  refine va_put (D := D) (ci := 1) (v := .int (nI ql)) (ty := .int) (C := RX1) (T := TX1) (N := 10) hx hb hts in_X1 tyX1 tyX1_ok nmX1 hown hK hP hD hS 0 rfl rfl 5 (by decide) (hts _ q158) (fun _ h9 => h9) rfl (by decide +kernel) rfl rfl (Nat.le_of_ble_eq_true rfl) dX1_layQuery_5 (fun H locs hP hD hS => ?_)
  have hP : va_P D vwCl (wX1 ad cA lt ln q ql lf ql rg rgs tb fe) H := hP
  have hD : va_D A (wX1 ad cA lt ln q ql lf ql rg rgs tb fe) := hD
  refine lv_iconst (v := nI 0) hx hb dX1_layQuery_8 (by decide) ?_
  refine lv_istore_n (lv' := [(1, .int (nI 0)), (0, .ref (ad 0))]) hx hb dX1_layQuery_9 rfl hl (by decide) rfl (fun ls hl => ?_)
  refine nr_loop (σ := Nat × (Nat → Nat)) (fun v H locs ls => (fun (i : Nat) (lf : Nat → Nat) => (i ≤ ql) ∧ (∀ t, t < i → lf t = q t) ∧ va_P D vwCl (wX1 ad cA lt ln q ql lf ql rg rgs tb fe) H ∧ va_D A (wX1 ad cA lt ln q ql lf ql rg rgs tb fe) ∧ va_S A s.heap H locs ∧ lv_has ls 2 [(0, .ref (ad 0)), (1, .int (nI i))]) v.1 v.2) (fun v => (fun (i : Nat) (lf : Nat → Nat) => ql - i) v.1 v.2) ?_ (0, lf) ⟨(show 0 ≤ ql from by omega), (show ∀ t, t < 0 → lf t = q t from fun t h => absurd h (Nat.not_lt_zero t)), hP, hD, hS, lv_sub hl [1, 0] rfl⟩
  intro v H locs ls hv ih10
  obtain ⟨i, lf⟩ := v
  obtain ⟨hi, hf, hP, hD, hS, hl⟩ := hv
  have hi : i ≤ ql := hi
  have hf : ∀ t, t < i → lf t = q t := hf
  have hP : va_P D vwCl (wX1 ad cA lt ln q ql lf ql rg rgs tb fe) H := hP
  have hD : va_D A (wX1 ad cA lt ln q ql lf ql rg rgs tb fe) := hD
  have hl : lv_has ls 2 [(0, .ref (ad 0)), (1, .int (nI i))] := hl
  refine lv_iload_n hx hb dX1_layQuery_10 rfl (lv_at hl 1 rfl) ?_
  refine lv_aload_n hx hb dX1_layQuery_11 rfl (lv_at hl 0 rfl) ?_
  refine va_get (D := D) (ci := 1) (v := .int (nI ql)) (C := RX1) (T := TX1) (N := 10) hx hb hts in_X1 hown hK hP 0 rfl rfl 3 (by decide) (hts _ q156) (fun _ h9 => h9) rfl dX1_layQuery_12 ?_
  refine nr_icmp_ge (tgt := 36) hx hb dX1_layQuery_15 (by decide) (by omega) (by omega) (fun c15 => ?_) (fun c15 => ?_)
  · skip
    exact nr_vret hx hb hr hlocks hK (lf, ql) hP hD hS (show ql = ql ∧ ∀ t, t < ql → lf t = q t from ⟨rfl, fun t h => hf t (by omega)⟩) dX1_layQuery_36
  · skip
    refine lv_aload_n hx hb dX1_layQuery_18 rfl (lv_at hl 0 rfl) ?_
    refine va_get (D := D) (ci := 1) (v := .ref (ad 4)) (C := RX1) (T := TX1) (N := 10) hx hb hts in_X1 hown hK hP 0 rfl rfl 4 (by decide) (hts _ q157) (fun _ h9 => h9) rfl dX1_layQuery_19 ?_
    refine lv_iload_n hx hb dX1_layQuery_22 rfl (lv_at hl 1 rfl) ?_
    refine lv_aload_n hx hb dX1_layQuery_23 rfl (lv_at hl 0 rfl) ?_
    refine va_get (D := D) (ci := 1) (v := .ref (ad 3)) (C := RX1) (T := TX1) (N := 10) hx hb hts in_X1 hown hK hP 0 rfl rfl 2 (by decide) (hts _ q155) (fun _ h9 => h9) rfl dX1_layQuery_24 ?_
    refine lv_iload_n hx hb dX1_layQuery_27 rfl (lv_at hl 1 rfl) ?_
    refine nr_iald (f := q) (n := 8) (i := i) hx hb hK hP 3 rfl rfl (by omega) (by decide) dX1_layQuery_28 ?_
    refine nr_iast (f := lf) (n := 16) (i := i) (v := q i) hx hb hK hP hD hS 4 rfl rfl (by omega) (by decide) dX1_layQuery_29 (fun H locs hP hD hS => ?_)
    have hP : va_P D vwCl (wX1 ad cA lt ln q ql (va_up lf i (q i)) ql rg rgs tb fe) H := hP
    have hD : va_D A (wX1 ad cA lt ln q ql (va_up lf i (q i)) ql rg rgs tb fe) := hD
    refine lv_iinc (v := nI (i + 1)) (lv' := [(1, .int (nI (i + 1))), (0, .ref (ad 0))]) hx hb dX1_layQuery_30 hl (k := 1) rfl (nI_add i 1) (by decide) rfl (fun ls hl => ?_)
    refine lv_goto (tgt := 10) hx hb dX1_layQuery_33 (by decide) ?_
    exact ih10 (i + 1, va_up lf i (q i)) _ _ _ ⟨(show (i + 1) ≤ ql from by omega), (show ∀ t, t < (i + 1) → (va_up lf i (q i)) t = q t from up_fill (g := q) hf), hP, hD, hS, lv_sub hl [1, 0] rfl⟩ (show ql - (i + 1) < ql - i from by omega)
set_option maxHeartbeats 4000000 in
set_option maxRecDepth 100000 in
/-- layPart(d, from, to) -/
theorem mt1_layPart (l : Launch) (D : va_G) (ad : Nat → Nat) (cA : ClassId) (sz : Nat) (lt : Nat → Nat) (ln : Nat → Nat) (q : Nat → Nat) (ql : Nat) (lf : Nat → Nat) (lfs : Nat) (rg : Nat → Nat) (rgs : Nat) (tb : Nat → Nat) (fe : Nat) (d : Nat) (f : Nat) (g : Nat) (hd : d < 8) (hfg : f ≤ g) (hg : g ≤ 16) : nMv l yX1_layPart cX1_layPart 5 0 [.ref (ad 0), .int (nI d), .int (nI f), .int (nI g)] D vwCl cA (wX1 ad cA lt ln q ql lf lfs rg rgs tb fe) sz (fun (u : (Nat → Nat) × Nat) => (fun (rg' : Nat → Nat) (rgs' : Nat) => rgs' = g - f ∧ ∀ zz, zz < g - f → rg' zz = lt (16 * d + f + zz)) u.1 u.2) (fun (u : (Nat → Nat) × Nat) => (fun (rg' : Nat → Nat) (rgs' : Nat) => (wX1 ad cA lt ln q ql lf lfs rg' rgs' tb fe)) u.1 u.2) := by
  refine nr_metV (by decide) (Nat.le_of_ble_eq_true rfl) ?_
  intro p e s m below meth c A ls hx hb hr hml hown hlocks hts hA hK hP hD hS hl
  have hown : s.vm.findClass RX1 = some m.cls := hown
  have hl : lv_has ls 5 [(0, .ref (ad 0)), (1, .int (nI d)), (2, .int (nI f)), (3, .int (nI g))] := hl
  have hP : va_P D vwCl (wX1 ad cA lt ln q ql lf lfs rg rgs tb fe) s.heap := hP
  refine lv_aload_n hx hb dX1_layPart_0 rfl (lv_at hl 0 rfl) ?_
  refine lv_iload_n hx hb dX1_layPart_1 rfl (lv_at hl 3 rfl) ?_
  refine lv_iload_n hx hb dX1_layPart_2 rfl (lv_at hl 2 rfl) ?_
  refine nr_sub hx hb dX1_layPart_3 (by omega) ?_
  refine va_put (D := D) (ci := 1) (v := .int (nI (g - f))) (ty := .int) (C := RX1) (T := TX1) (N := 10) hx hb hts in_X1 tyX1 tyX1_ok nmX1 hown hK hP hD hS 0 rfl rfl 7 (by decide) (hts _ q160) (fun _ h9 => h9) rfl (by decide +kernel) rfl rfl (Nat.le_of_ble_eq_true rfl) dX1_layPart_4 (fun H locs hP hD hS => ?_)
  have hP : va_P D vwCl (wX1 ad cA lt ln q ql lf lfs rg (g - f) tb fe) H := hP
  have hD : va_D A (wX1 ad cA lt ln q ql lf lfs rg (g - f) tb fe) := hD
  refine lv_iconst (v := nI 0) hx hb dX1_layPart_7 (by decide) ?_
  refine lv_istore (lv' := [(4, .int (nI 0)), (0, .ref (ad 0)), (1, .int (nI d)), (2, .int (nI f)), (3, .int (nI g))]) hx hb dX1_layPart_8 hl (by decide) rfl (fun ls hl => ?_)
  refine nr_loop (σ := Nat × (Nat → Nat)) (fun v H locs ls => (fun (i : Nat) (rg : Nat → Nat) => (i ≤ g - f) ∧ (∀ t, t < i → rg t = lt (16 * d + f + t)) ∧ va_P D vwCl (wX1 ad cA lt ln q ql lf lfs rg (g - f) tb fe) H ∧ va_D A (wX1 ad cA lt ln q ql lf lfs rg (g - f) tb fe) ∧ va_S A s.heap H locs ∧ lv_has ls 5 [(0, .ref (ad 0)), (1, .int (nI d)), (2, .int (nI f)), (3, .int (nI g)), (4, .int (nI i))]) v.1 v.2) (fun v => (fun (i : Nat) (rg : Nat → Nat) => g - f - i) v.1 v.2) ?_ (0, rg) ⟨(show 0 ≤ g - f from by omega), (show ∀ t, t < 0 → rg t = lt (16 * d + f + t) from fun t h => absurd h (Nat.not_lt_zero t)), hP, hD, hS, lv_sub hl [1, 2, 3, 4, 0] rfl⟩
  intro v H locs ls hv ih10
  obtain ⟨i, rg⟩ := v
  obtain ⟨hi, hrr, hP, hD, hS, hl⟩ := hv
  have hi : i ≤ g - f := hi
  have hrr : ∀ t, t < i → rg t = lt (16 * d + f + t) := hrr
  have hP : va_P D vwCl (wX1 ad cA lt ln q ql lf lfs rg (g - f) tb fe) H := hP
  have hD : va_D A (wX1 ad cA lt ln q ql lf lfs rg (g - f) tb fe) := hD
  have hl : lv_has ls 5 [(0, .ref (ad 0)), (1, .int (nI d)), (2, .int (nI f)), (3, .int (nI g)), (4, .int (nI i))] := hl
  refine lv_iload hx hb dX1_layPart_10 (lv_at hl 4 rfl) ?_
  refine lv_aload_n hx hb dX1_layPart_12 rfl (lv_at hl 0 rfl) ?_
  refine va_get (D := D) (ci := 1) (v := .int (nI (g - f))) (C := RX1) (T := TX1) (N := 10) hx hb hts in_X1 hown hK hP 0 rfl rfl 7 (by decide) (hts _ q160) (fun _ h9 => h9) rfl dX1_layPart_13 ?_
  refine nr_icmp_ge (tgt := 46) hx hb dX1_layPart_16 (by decide) (by omega) (by omega) (fun c16 => ?_) (fun c16 => ?_)
  · skip
    exact nr_vret hx hb hr hlocks hK (rg, g - f) hP hD hS (show (g - f) = g - f ∧ ∀ zz, zz < g - f → rg zz = lt (16 * d + f + zz) from ⟨rfl, fun t h => hrr t (by omega)⟩) dX1_layPart_46
  · skip
    refine lv_aload_n hx hb dX1_layPart_19 rfl (lv_at hl 0 rfl) ?_
    refine va_get (D := D) (ci := 1) (v := .ref (ad 5)) (C := RX1) (T := TX1) (N := 10) hx hb hts in_X1 hown hK hP 0 rfl rfl 6 (by decide) (hts _ q159) (fun _ h9 => h9) rfl dX1_layPart_20 ?_
    refine lv_iload hx hb dX1_layPart_23 (lv_at hl 4 rfl) ?_
    refine lv_aload_n hx hb dX1_layPart_25 rfl (lv_at hl 0 rfl) ?_
    refine va_get (D := D) (ci := 1) (v := .ref (ad 1)) (C := RX1) (T := TX1) (N := 10) hx hb hts in_X1 hown hK hP 0 rfl rfl 0 (by decide) (hts _ q153) (fun _ h9 => h9) rfl dX1_layPart_26 ?_
    refine lv_bipush (v := nI 16) hx hb dX1_layPart_29 (by decide) ?_
    refine lv_iload_n hx hb dX1_layPart_31 rfl (lv_at hl 1 rfl) ?_
    refine nr_mul hx hb dX1_layPart_32 ?_
    refine lv_iload_n hx hb dX1_layPart_33 rfl (lv_at hl 2 rfl) ?_
    refine nr_add hx hb dX1_layPart_34 ?_
    refine lv_iload hx hb dX1_layPart_35 (lv_at hl 4 rfl) ?_
    refine nr_add hx hb dX1_layPart_37 ?_
    refine nr_iald (f := lt) (n := 128) (i := ((16 * d) + f) + i) hx hb hK hP 1 rfl rfl (by omega) (by decide) dX1_layPart_38 ?_
    refine nr_iast (f := rg) (n := 16) (i := i) (v := lt (((16 * d) + f) + i)) hx hb hK hP hD hS 5 rfl rfl (by omega) (by decide) dX1_layPart_39 (fun H locs hP hD hS => ?_)
    have hP : va_P D vwCl (wX1 ad cA lt ln q ql lf lfs (va_up rg i (lt (((16 * d) + f) + i))) (g - f) tb fe) H := hP
    have hD : va_D A (wX1 ad cA lt ln q ql lf lfs (va_up rg i (lt (((16 * d) + f) + i))) (g - f) tb fe) := hD
    refine lv_iinc (v := nI (i + 1)) (lv' := [(4, .int (nI (i + 1))), (0, .ref (ad 0)), (1, .int (nI d)), (2, .int (nI f)), (3, .int (nI g))]) hx hb dX1_layPart_40 hl (k := 4) rfl (nI_add i 1) (by decide) rfl (fun ls hl => ?_)
    refine lv_goto (tgt := 10) hx hb dX1_layPart_43 (by decide) ?_
    exact ih10 (i + 1, va_up rg i (lt (((16 * d) + f) + i))) _ _ _ ⟨(show (i + 1) ≤ g - f from by omega), (show ∀ t, t < (i + 1) → (va_up rg i (lt (((16 * d) + f) + i))) t = lt (16 * d + f + t) from up_fill (g := fun t => lt (16 * d + f + t)) hrr), hP, hD, hS, lv_sub hl [1, 2, 3, 4, 0] rfl⟩ (show g - f - (i + 1) < g - f - i from by omega)
end
section
set_option maxHeartbeats 4000000 in
set_option maxRecDepth 100000 in
/-- search(d) -/
theorem mt1_search (l : Launch) (D : va_G) (ad : Nat → Nat) (cA : ClassId) (sz : Nat) (lt : Nat → Nat) (ln : Nat → Nat) (q : Nat → Nat) (ql : Nat) (lf : Nat → Nat) (lfs : Nat) (rg : Nat → Nat) (rgs : Nat) (tb : Nat → Nat) (fe : Nat) (d : Nat) (hd : d < 8) (hJ : inv1 ln lt ql q) : nMi l yX1_search cX1_search 6 .int 2 [.ref (ad 0), .int (nI d)] D vwCl cA (wX1 ad cA lt ln q ql lf lfs rg rgs tb fe) sz (fun (r : Int32) (u : (Nat → Nat) × Nat × (Nat → Nat) × Nat × (Nat → Nat) × Nat) => (fun (lf' : Nat → Nat) (lfs' : Nat) (rg' : Nat → Nat) (rgs' : Nat) (tb' : Nat → Nat) (fe' : Nat) => r = nI (bDi q (dc lt d) ql (ln d)) ∧ fe' = bEn q (dc lt d) ql (ln d)) u.1 u.2.1 u.2.2.1 u.2.2.2.1 u.2.2.2.2.1 u.2.2.2.2.2) (fun (u : (Nat → Nat) × Nat × (Nat → Nat) × Nat × (Nat → Nat) × Nat) => (fun (lf' : Nat → Nat) (lfs' : Nat) (rg' : Nat → Nat) (rgs' : Nat) (tb' : Nat → Nat) (fe' : Nat) => (wX1 ad cA lt ln q ql lf' lfs' rg' rgs' tb' fe')) u.1 u.2.1 u.2.2.1 u.2.2.2.1 u.2.2.2.2.1 u.2.2.2.2.2) := by
  refine nr_metI (by decide) (Nat.le_of_ble_eq_true rfl) ?_
  intro p e s m below meth c A ls hx hb hr hml hown hlocks hts hA hK hP hD hS hl
  have hown : s.vm.findClass RX1 = some m.cls := hown
  have hl : lv_has ls 6 [(0, .ref (ad 0)), (1, .int (nI d))] := hl
  have hP : va_P D vwCl (wX1 ad cA lt ln q ql lf lfs rg rgs tb fe) s.heap := hP
  have hq8 := hJ.2.2.1
  have hln := hJ.1 d hd
  refine lv_bipush (v := nI 100) hx hb dX1_search_0 (by decide) ?_
  refine lv_istore_n (lv' := [(2, .int (nI 100)), (0, .ref (ad 0)), (1, .int (nI d))]) hx hb dX1_search_2 rfl hl (by decide) rfl (fun ls hl => ?_)
  refine lv_aload_n hx hb dX1_search_3 rfl (lv_at hl 1 rfl) ?_
  refine nr_callVv (C := RX1) (T := TX1) (N := 10) (ci := 1) (rest := []) (wr := []) ⟨hx, hb, hml, hown, hts⟩ hK hP hD hS hA [0, 1, 2, 3, 4, 5, 6] [] rfl rfl (by decide) (by decide) (by decide) 0 [] (mt1_layQuery l D ad cA _ lt ln q ql lf lfs rg rgs tb fe  hq8) (lw_V q211 q213 qs8 q16 q214) (by decide +kernel) ⟨Nat.le_of_ble_eq_true rfl, Nat.le_of_ble_eq_true rfl⟩ rfl 0 rfl rfl hl.1 rfl (Nat.le_of_ble_eq_true rfl) dX1_search_4 ⟨Nat.zero_le _, Nat.zero_le _⟩ (fun u H locs hw4 hP hD hS => ?_)
  obtain ⟨lf4, lfs4⟩ := u
  have hw4 : lfs4 = ql ∧ ∀ t, t < ql → lf4 t = q t := hw4
  have hP : va_P D vwCl (wX1 ad cA lt ln q ql lf4 lfs4 rg rgs tb fe) H := hP
  have hD : va_D A (wX1 ad cA lt ln q ql lf4 lfs4 rg rgs tb fe) := hD
  obtain ⟨z1, hf4⟩ := hw4
  rw [z1] at hP hD
  have hP : va_P D vwCl (wX1 ad cA lt ln q ql lf4 ql rg rgs tb fe) H := hP
  have hD : va_D A (wX1 ad cA lt ln q ql lf4 ql rg rgs tb fe) := hD
  refine lv_aload_n hx hb dX1_search_7 rfl (lv_at hl 1 rfl) ?_
  refine lv_iconst (v := nI 0) hx hb dX1_search_8 (by decide) ?_
  refine va_put (D := D) (ci := 1) (v := .int (nI 0)) (ty := .int) (C := RX1) (T := TX1) (N := 10) hx hb hts in_X1 tyX1 tyX1_ok nmX1 hown hK hP hD hS 0 rfl rfl 9 (by decide) (hts _ q162) (fun _ h9 => h9) rfl (by decide +kernel) rfl rfl (Nat.le_of_ble_eq_true rfl) dX1_search_9 (fun H locs hP hD hS => ?_)
  have hP : va_P D vwCl (wX1 ad cA lt ln q ql lf4 ql rg rgs tb 0) H := hP
  have hD : va_D A (wX1 ad cA lt ln q ql lf4 ql rg rgs tb 0) := hD
  refine lv_iconst (v := nI 0) hx hb dX1_search_12 (by decide) ?_
  refine lv_istore_n (lv' := [(3, .int (nI 0)), (2, .int (nI 100)), (0, .ref (ad 0)), (1, .int (nI d))]) hx hb dX1_search_13 rfl hl (by decide) rfl (fun ls hl => ?_)
  refine nr_loop (σ := Nat × Nat × (Nat → Nat) × Nat × (Nat → Nat) × Nat) (fun v H locs ls => (fun (le : Nat) (t : Nat) (rg : Nat → Nat) (rgs : Nat) (tb : Nat → Nat) (fe : Nat) => (t ≤ ln d + 1) ∧ (le = mL q (dc lt d) ql t) ∧ (fe = mE q (dc lt d) ql t) ∧ va_P D vwCl (wX1 ad cA lt ln q ql lf4 ql rg rgs tb fe) H ∧ va_D A (wX1 ad cA lt ln q ql lf4 ql rg rgs tb fe) ∧ va_S A s.heap H locs ∧ lv_has ls 6 [(0, .ref (ad 0)), (1, .int (nI d)), (2, .int (nI le)), (3, .int (nI t))]) v.1 v.2.1 v.2.2.1 v.2.2.2.1 v.2.2.2.2.1 v.2.2.2.2.2) (fun v => (fun (le : Nat) (t : Nat) (rg : Nat → Nat) (rgs : Nat) (tb : Nat → Nat) (fe : Nat) => ln d + 1 - t) v.1 v.2.1 v.2.2.1 v.2.2.2.1 v.2.2.2.2.1 v.2.2.2.2.2) ?_ (100, 0, rg, rgs, tb, 0) ⟨(show 0 ≤ ln d + 1 from by omega), (show 100 = mL q (dc lt d) ql 0 from rfl), (show 0 = mE q (dc lt d) ql 0 from rfl), hP, hD, hS, lv_sub hl [2, 3, 1, 0] rfl⟩
  intro v H locs ls hv ih14
  obtain ⟨le, t, rg, rgs, tb, fe⟩ := v
  obtain ⟨ht, hle, hfe, hP, hD, hS, hl⟩ := hv
  have ht : t ≤ ln d + 1 := ht
  have hle : le = mL q (dc lt d) ql t := hle
  have hfe : fe = mE q (dc lt d) ql t := hfe
  have hP : va_P D vwCl (wX1 ad cA lt ln q ql lf4 ql rg rgs tb fe) H := hP
  have hD : va_D A (wX1 ad cA lt ln q ql lf4 ql rg rgs tb fe) := hD
  have hl : lv_has ls 6 [(0, .ref (ad 0)), (1, .int (nI d)), (2, .int (nI le)), (3, .int (nI t))] := hl
  refine lv_iload_n hx hb dX1_search_14 rfl (lv_at hl 3 rfl) ?_
  refine lv_aload_n hx hb dX1_search_15 rfl (lv_at hl 0 rfl) ?_
  refine va_get (D := D) (ci := 1) (v := .ref (ad 2)) (C := RX1) (T := TX1) (N := 10) hx hb hts in_X1 hown hK hP 0 rfl rfl 1 (by decide) (hts _ q154) (fun _ h9 => h9) rfl dX1_search_16 ?_
  refine lv_iload_n hx hb dX1_search_19 rfl (lv_at hl 1 rfl) ?_
  refine nr_iald (f := ln) (n := 8) (i := d) hx hb hK hP 2 rfl rfl (by omega) (by decide) dX1_search_20 ?_
  refine nr_icmp_gt (tgt := 73) hx hb dX1_search_21 (by decide) (by omega) (by omega) (fun c21 => ?_) (fun c21 => ?_)
  · skip
    refine lv_iload_n hx hb dX1_search_73 rfl (lv_at hl 2 rfl) ?_
    exact nr_iret hx hb hr hlocks hK (lf4, ql, rg, rgs, tb, fe) hP hD hS (show (nI le) = nI (bDi q (dc lt d) ql (ln d)) ∧ fe = bEn q (dc lt d) ql (ln d) from ⟨by rw [hle, show t = ln d + 1 by omega]; rfl, by rw [hfe, show t = ln d + 1 by omega]; rfl⟩) dX1_search_74
  · skip
    have hm100 := mL_le (x := q) (y := dc lt d) (m := ql) (by omega) t
    refine lv_iconst (v := nI 0) hx hb dX1_search_24 (by decide) ?_
    refine lv_istore (lv' := [(4, .int (nI 0)), (0, .ref (ad 0)), (1, .int (nI d)), (2, .int (nI le)), (3, .int (nI t))]) hx hb dX1_search_25 hl (by decide) rfl (fun ls hl => ?_)
    refine nr_loop (σ := Nat × Nat × (Nat → Nat) × Nat × (Nat → Nat) × Nat) (fun v H locs ls => (fun (l2 : Nat) (f : Nat) (rg : Nat → Nat) (rgs : Nat) (tb : Nat → Nat) (f2 : Nat) => (f ≤ t + 1) ∧ (l2 = iM (pE q lt ql d t) (mL q (dc lt d) ql t) f) ∧ (f2 = if iM (pE q lt ql d t) (mL q (dc lt d) ql t) f < mL q (dc lt d) ql t then t else mE q (dc lt d) ql t) ∧ va_P D vwCl (wX1 ad cA lt ln q ql lf4 ql rg rgs tb f2) H ∧ va_D A (wX1 ad cA lt ln q ql lf4 ql rg rgs tb f2) ∧ va_S A s.heap H locs ∧ lv_has ls 6 [(0, .ref (ad 0)), (1, .int (nI d)), (2, .int (nI l2)), (3, .int (nI t)), (4, .int (nI f))]) v.1 v.2.1 v.2.2.1 v.2.2.2.1 v.2.2.2.2.1 v.2.2.2.2.2) (fun v => (fun (l2 : Nat) (f : Nat) (rg : Nat → Nat) (rgs : Nat) (tb : Nat → Nat) (f2 : Nat) => t + 1 - f) v.1 v.2.1 v.2.2.1 v.2.2.2.1 v.2.2.2.2.1 v.2.2.2.2.2) ?_ (le, 0, rg, rgs, tb, fe) ⟨(show 0 ≤ t + 1 from by omega), (show le = iM (pE q lt ql d t) (mL q (dc lt d) ql t) 0 from hle), (show fe = if iM (pE q lt ql d t) (mL q (dc lt d) ql t) 0 < mL q (dc lt d) ql t then t else mE q (dc lt d) ql t from by rw [hfe]; exact (if_neg (Nat.lt_irrefl _)).symm), hP, hD, hS, lv_sub hl [1, 2, 3, 4, 0] rfl⟩
    intro v H locs ls hv ih27
    obtain ⟨l2, f, rg, rgs, tb, f2⟩ := v
    obtain ⟨hf, hl2, hf2, hP, hD, hS, hl⟩ := hv
    have hf : f ≤ t + 1 := hf
    have hl2 : l2 = iM (pE q lt ql d t) (mL q (dc lt d) ql t) f := hl2
    have hf2 : f2 = if iM (pE q lt ql d t) (mL q (dc lt d) ql t) f < mL q (dc lt d) ql t then t else mE q (dc lt d) ql t := hf2
    have hP : va_P D vwCl (wX1 ad cA lt ln q ql lf4 ql rg rgs tb f2) H := hP
    have hD : va_D A (wX1 ad cA lt ln q ql lf4 ql rg rgs tb f2) := hD
    have hl : lv_has ls 6 [(0, .ref (ad 0)), (1, .int (nI d)), (2, .int (nI l2)), (3, .int (nI t)), (4, .int (nI f))] := hl
    refine lv_iload hx hb dX1_search_27 (lv_at hl 4 rfl) ?_
    refine lv_iload_n hx hb dX1_search_29 rfl (lv_at hl 3 rfl) ?_
    refine nr_icmp_gt (tgt := 67) hx hb dX1_search_30 (by decide) (by omega) (by omega) (fun c30 => ?_) (fun c30 => ?_)
    · skip
      refine lv_iinc (v := nI (t + 1)) (lv' := [(3, .int (nI (t + 1))), (0, .ref (ad 0)), (1, .int (nI d)), (2, .int (nI l2)), (4, .int (nI f))]) hx hb dX1_search_67 hl (k := 3) rfl (nI_add t 1) (by decide) rfl (fun ls hl => ?_)
      refine lv_goto (tgt := 14) hx hb dX1_search_70 (by decide) ?_
      exact ih14 (l2, t + 1, rg, rgs, tb, f2) _ _ _ ⟨(show (t + 1) ≤ ln d + 1 from by omega), (show l2 = mL q (dc lt d) ql (t + 1) from by rw [hl2, show f = t + 1 by omega, pE_all]; exact mL_step (by omega) t), (show f2 = mE q (dc lt d) ql (t + 1) from by rw [hf2, show f = t + 1 by omega, pE_all]; exact mE_step t), hP, hD, hS, lv_sub hl [1, 2, 3, 0] rfl⟩ (show ln d + 1 - (t + 1) < ln d + 1 - t from by omega)
    · skip
      have hil := iM_le (pE q lt ql d t) (mL q (dc lt d) ql t) f
      refine lv_aload_n hx hb dX1_search_33 rfl (lv_at hl 0 rfl) ?_
      refine lv_iload_n hx hb dX1_search_34 rfl (lv_at hl 1 rfl) ?_
      refine lv_iload hx hb dX1_search_35 (lv_at hl 4 rfl) ?_
      refine lv_iload_n hx hb dX1_search_37 rfl (lv_at hl 3 rfl) ?_
      refine nr_callVv (C := RX1) (T := TX1) (N := 10) (ci := 1) (rest := []) (wr := []) ⟨hx, hb, hml, hown, hts⟩ hK hP hD hS hA [0, 1, 2, 3, 4, 5, 6] [] rfl rfl (by decide) (by decide) (by decide) 3 [.int (nI d), .int (nI f), .int (nI t)] (mt1_layPart l D ad cA _ lt ln q ql lf4 ql rg rgs tb f2 d f t hd (by omega) (by omega)) (lw_V q215 q217 qs9 q16 q218) (by decide +kernel) ⟨Nat.le_of_ble_eq_true rfl, Nat.le_of_ble_eq_true rfl⟩ rfl 0 rfl rfl hl.1 rfl (Nat.le_of_ble_eq_true rfl) dX1_search_38 ⟨Nat.zero_le _, Nat.zero_le _⟩ (fun u H locs hw38 hP hD hS => ?_)
      obtain ⟨rg38, rgs38⟩ := u
      have hw38 : rgs38 = t - f ∧ ∀ zz, zz < t - f → rg38 zz = lt (16 * d + f + zz) := hw38
      have hP : va_P D vwCl (wX1 ad cA lt ln q ql lf4 ql rg38 rgs38 tb f2) H := hP
      have hD : va_D A (wX1 ad cA lt ln q ql lf4 ql rg38 rgs38 tb f2) := hD
      obtain ⟨z1, hr38⟩ := hw38
      subst z1
      have hP : va_P D vwCl (wX1 ad cA lt ln q ql lf4 ql rg38 (t - f) tb f2) H := hP
      have hD : va_D A (wX1 ad cA lt ln q ql lf4 ql rg38 (t - f) tb f2) := hD
      refine lv_aload_n hx hb dX1_search_41 rfl (lv_at hl 0 rfl) ?_
      refine nr_callVi (C := RX1) (T := TX1) (N := 10) (ci := 1) (rest := []) (wr := []) ⟨hx, hb, hml, hown, hts⟩ hK hP hD hS hA [0, 1, 2, 3, 4, 5, 6] [] rfl rfl (by decide) (by decide) (by decide) 0 [] (mt1_compared l D ad cA _ lt ln q ql lf4 ql rg38 (t - f) tb f2  (by omega) (by omega) (fun z h => by rw [hf4 z h]; exact hJ.2.2.2 z) (fun z h => by rw [hr38 z h]; exact hJ.2.1 _)) (lw_V q219 q221 qs10 q16 q222) (by decide +kernel) ⟨Nat.le_of_ble_eq_true rfl, Nat.le_of_ble_eq_true rfl⟩ rfl 0 rfl rfl hl.1 rfl (Nat.le_of_ble_eq_true rfl) dX1_search_42 ⟨Nat.zero_le _, Nat.zero_le _⟩ (fun r42 u H locs hw42 hP hD hS => ?_)
      obtain ⟨tb42, rfl⟩ : ∃ z, z = u := ⟨_, rfl⟩
      have hw42 : r42 = nI (eD lf4 rg38 ql (t - f)) := hw42
      have hP : va_P D vwCl (wX1 ad cA lt ln q ql lf4 ql rg38 (t - f) tb42 f2) H := hP
      have hD : va_D A (wX1 ad cA lt ln q ql lf4 ql rg38 (t - f) tb42 f2) := hD
      have e42 : r42 = nI (eD q (fun z => dc lt d (f + z)) ql (t - f)) := hw42.trans (congrArg nI (eD_congr ql (t - f) hf4 (fun z h => (hr38 z h).trans (congrArg lt (by omega)))))
      subst e42
      have hed := eD_le q (fun z => dc lt d (f + z)) ql (t - f)
      refine lv_istore (lv' := [(5, .int (nI (eD q (fun z => dc lt d (f + z)) ql (t - f)))), (0, .ref (ad 0)), (1, .int (nI d)), (2, .int (nI l2)), (3, .int (nI t)), (4, .int (nI f))]) hx hb dX1_search_45 hl (by decide) rfl (fun ls hl => ?_)
      refine lv_iload hx hb dX1_search_47 (lv_at hl 0 rfl) ?_
      refine lv_iload_n hx hb dX1_search_49 rfl (lv_at hl 3 rfl) ?_
      refine nr_icmp_ge (tgt := 61) hx hb dX1_search_50 (by decide) (by omega) (by omega) (fun c50 => ?_) (fun c50 => ?_)
      · skip
        refine lv_iinc (v := nI (f + 1)) (lv' := [(4, .int (nI (f + 1))), (5, .int (nI (eD q (fun z => dc lt d (f + z)) ql (t - f)))), (0, .ref (ad 0)), (1, .int (nI d)), (2, .int (nI l2)), (3, .int (nI t))]) hx hb dX1_search_61 hl (k := 5) rfl (nI_add f 1) (by decide) rfl (fun ls hl => ?_)
        refine lv_goto (tgt := 27) hx hb dX1_search_64 (by decide) ?_
        exact ih27 (l2, f + 1, rg38, t - f, tb42, f2) _ _ _ ⟨(show (f + 1) ≤ t + 1 from by omega), (show l2 = iM (pE q lt ql d t) (mL q (dc lt d) ql t) (f + 1) from by show _ = min (iM (pE q lt ql d t) (mL q (dc lt d) ql t) f) (eD q (fun z => dc lt d (f + z)) ql (t - f)); omega), (show f2 = if iM (pE q lt ql d t) (mL q (dc lt d) ql t) (f + 1) < mL q (dc lt d) ql t then t else mE q (dc lt d) ql t from by show _ = if min (iM (pE q lt ql d t) (mL q (dc lt d) ql t) f) (eD q (fun z => dc lt d (f + z)) ql (t - f)) < mL q (dc lt d) ql t then t else mE q (dc lt d) ql t; first | (rw [hf2]; split <;> split <;> omega) | (split <;> omega)), hP, hD, hS, lv_sub hl [2, 3, 4, 5, 0] rfl⟩ (show t + 1 - (f + 1) < t + 1 - f from by omega)
      · skip
        refine lv_iload hx hb dX1_search_53 (lv_at hl 0 rfl) ?_
        refine lv_istore_n (lv' := [(2, .int (nI (eD q (fun z => dc lt d (f + z)) ql (t - f)))), (5, .int (nI (eD q (fun z => dc lt d (f + z)) ql (t - f)))), (0, .ref (ad 0)), (1, .int (nI d)), (3, .int (nI t)), (4, .int (nI f))]) hx hb dX1_search_55 rfl hl (by decide) rfl (fun ls hl => ?_)
        refine lv_aload_n hx hb dX1_search_56 rfl (lv_at hl 2 rfl) ?_
        refine lv_iload_n hx hb dX1_search_57 rfl (lv_at hl 4 rfl) ?_
        refine va_put (D := D) (ci := 1) (v := .int (nI t)) (ty := .int) (C := RX1) (T := TX1) (N := 10) hx hb hts in_X1 tyX1 tyX1_ok nmX1 hown hK hP hD hS 0 rfl rfl 9 (by decide) (hts _ q162) (fun _ h9 => h9) rfl (by decide +kernel) rfl rfl (Nat.le_of_ble_eq_true rfl) dX1_search_58 (fun H locs hP hD hS => ?_)
        have hP : va_P D vwCl (wX1 ad cA lt ln q ql lf4 ql rg38 (t - f) tb42 t) H := hP
        have hD : va_D A (wX1 ad cA lt ln q ql lf4 ql rg38 (t - f) tb42 t) := hD
        refine lv_iinc (v := nI (f + 1)) (lv' := [(4, .int (nI (f + 1))), (2, .int (nI (eD q (fun z => dc lt d (f + z)) ql (t - f)))), (5, .int (nI (eD q (fun z => dc lt d (f + z)) ql (t - f)))), (0, .ref (ad 0)), (1, .int (nI d)), (3, .int (nI t))]) hx hb dX1_search_61 hl (k := 5) rfl (nI_add f 1) (by decide) rfl (fun ls hl => ?_)
        refine lv_goto (tgt := 27) hx hb dX1_search_64 (by decide) ?_
        exact ih27 (eD q (fun z => dc lt d (f + z)) ql (t - f), f + 1, rg38, t - f, tb42, t) _ _ _ ⟨(show (f + 1) ≤ t + 1 from by omega), (show (eD q (fun z => dc lt d (f + z)) ql (t - f)) = iM (pE q lt ql d t) (mL q (dc lt d) ql t) (f + 1) from by show _ = min (iM (pE q lt ql d t) (mL q (dc lt d) ql t) f) (eD q (fun z => dc lt d (f + z)) ql (t - f)); omega), (show t = if iM (pE q lt ql d t) (mL q (dc lt d) ql t) (f + 1) < mL q (dc lt d) ql t then t else mE q (dc lt d) ql t from by show _ = if min (iM (pE q lt ql d t) (mL q (dc lt d) ql t) f) (eD q (fun z => dc lt d (f + z)) ql (t - f)) < mL q (dc lt d) ql t then t else mE q (dc lt d) ql t; first | (rw [hf2]; split <;> split <;> omega) | (split <;> omega)), hP, hD, hS, lv_sub hl [3, 4, 1, 5, 0] rfl⟩ (show t + 1 - (f + 1) < t + 1 - f from by omega)
set_option maxHeartbeats 4000000 in
set_option maxRecDepth 100000 in
/-- distance(doc) -/
theorem mt1_distance (l : Launch) (D : va_G) (ad : Nat → Nat) (cA : ClassId) (sz : Nat) (lt : Nat → Nat) (ln : Nat → Nat) (q : Nat → Nat) (ql : Nat) (lf : Nat → Nat) (lfs : Nat) (rg : Nat → Nat) (rgs : Nat) (tb : Nat → Nat) (fe : Nat) (p0 : Int32) (hJ : inv1 ln lt ql q) : nMi l yX1_distance cX1_distance 2 .int 3 [.ref (ad 0), .int p0] D vwCl cA (wX1 ad cA lt ln q ql lf lfs rg rgs tb fe) sz (fun (r : Int32) (u : (Nat → Nat) × Nat × (Nat → Nat) × Nat × (Nat → Nat) × Nat) => (fun (lf' : Nat → Nat) (lfs' : Nat) (rg' : Nat → Nat) (rgs' : Nat) (tb' : Nat → Nat) (fe' : Nat) => r = sD1 (gDi ln lt ql q) p0) u.1 u.2.1 u.2.2.1 u.2.2.2.1 u.2.2.2.2.1 u.2.2.2.2.2) (fun (u : (Nat → Nat) × Nat × (Nat → Nat) × Nat × (Nat → Nat) × Nat) => (fun (lf' : Nat → Nat) (lfs' : Nat) (rg' : Nat → Nat) (rgs' : Nat) (tb' : Nat → Nat) (fe' : Nat) => (wX1 ad cA lt ln q ql lf' lfs' rg' rgs' tb' fe')) u.1 u.2.1 u.2.2.1 u.2.2.2.1 u.2.2.2.2.1 u.2.2.2.2.2) := by
  refine nr_metI (by decide) (Nat.le_of_ble_eq_true rfl) ?_
  intro p e s m below meth c A ls hx hb hr hml hown hlocks hts hA hK hP hD hS hl
  have hown : s.vm.findClass RX1 = some m.cls := hown
  have hl : lv_has ls 2 [(0, .ref (ad 0)), (1, .int p0)] := hl
  have hP : va_P D vwCl (wX1 ad cA lt ln q ql lf lfs rg rgs tb fe) s.heap := hP
  by_cases hin : inD p0
  · skip
    obtain ⟨d, hd, ed⟩ := inD_of hin
    subst ed
    refine lv_iload_n hx hb dX1_distance_0 rfl (lv_at hl 1 rfl) ?_
    refine nr_callSi (rest := []) ⟨hx, hb, hml, hown, hts⟩ hK hP hD hS hA 1 [.int (nI d)] (mt1_bad l D cA _ (nI d) ) (lw_S q188 q189 q16 q190) (by decide +kernel) ⟨Nat.le_of_ble_eq_true rfl, Nat.le_of_ble_eq_true rfl⟩ rfl hl.1 rfl (Nat.le_of_ble_eq_true rfl) dX1_distance_1 ⟨Nat.zero_le _, Nat.zero_le _⟩ (fun r1 H locs hw1 hP hD hS => ?_)
    have hw1 : r1 = nI (if inD (nI d) then 0 else 1) := hw1
    have e1 : r1 = nI 0 := hw1.trans (congrArg nI (if_pos (inD_nI hd)))
    subst e1
    refine nr_if_eq (tgt := 11) hx hb dX1_distance_4 (by decide) (by omega) (fun c4 => ?_) (fun c4 => ?_)
    · skip
      refine lv_aload_n hx hb dX1_distance_11 rfl (lv_at hl 0 rfl) ?_
      refine lv_iload_n hx hb dX1_distance_12 rfl (lv_at hl 1 rfl) ?_
      refine nr_callVi (C := RX1) (T := TX1) (N := 10) (ci := 1) (rest := []) (wr := []) ⟨hx, hb, hml, hown, hts⟩ hK hP hD hS hA [0, 1, 2, 3, 4, 5, 6] [] rfl rfl (by decide) (by decide) (by decide) 1 [.int (nI d)] (mt1_search l D ad cA _ lt ln q ql lf lfs rg rgs tb fe d hd hJ) (lw_V q207 q209 qs7 q16 q210) (by decide +kernel) ⟨Nat.le_of_ble_eq_true rfl, Nat.le_of_ble_eq_true rfl⟩ rfl 0 rfl rfl hl.1 rfl (Nat.le_of_ble_eq_true rfl) dX1_distance_13 ⟨Nat.zero_le _, Nat.zero_le _⟩ (fun r13 u H locs hw13 hP hD hS => ?_)
      obtain ⟨lf13, lfs13, rg13, rgs13, tb13, fe13⟩ := u
      have hw13 : r13 = nI (bDi q (dc lt d) ql (ln d)) ∧ fe13 = bEn q (dc lt d) ql (ln d) := hw13
      have hP : va_P D vwCl (wX1 ad cA lt ln q ql lf13 lfs13 rg13 rgs13 tb13 fe13) H := hP
      have hD : va_D A (wX1 ad cA lt ln q ql lf13 lfs13 rg13 rgs13 tb13 fe13) := hD
      obtain ⟨z1, z2⟩ := hw13
      subst z1; subst z2
      have hP : va_P D vwCl (wX1 ad cA lt ln q ql lf13 lfs13 rg13 rgs13 tb13 (bEn q (dc lt d) ql (ln d))) H := hP
      have hD : va_D A (wX1 ad cA lt ln q ql lf13 lfs13 rg13 rgs13 tb13 (bEn q (dc lt d) ql (ln d))) := hD
      exact nr_iret hx hb hr hlocks hK (lf13, lfs13, rg13, rgs13, tb13, bEn q (dc lt d) ql (ln d)) hP hD hS (show (nI (bDi q (dc lt d) ql (ln d))) = sD1 (gDi ln lt ql q) (nI d) from (sD1_in (gDi ln lt ql q) hd).symm) dX1_distance_16
    · skip
      exact absurd c4 (by decide)
  · skip
    refine lv_iload_n hx hb dX1_distance_0 rfl (lv_at hl 1 rfl) ?_
    refine nr_callSi (rest := []) ⟨hx, hb, hml, hown, hts⟩ hK hP hD hS hA 1 [.int p0] (mt1_bad l D cA _ p0 ) (lw_S q188 q189 q16 q190) (by decide +kernel) ⟨Nat.le_of_ble_eq_true rfl, Nat.le_of_ble_eq_true rfl⟩ rfl hl.1 rfl (Nat.le_of_ble_eq_true rfl) dX1_distance_1 ⟨Nat.zero_le _, Nat.zero_le _⟩ (fun r1 H locs hw1 hP hD hS => ?_)
    have hw1 : r1 = nI (if inD p0 then 0 else 1) := hw1
    have e1 : r1 = nI 1 := hw1.trans (congrArg nI (if_neg hin))
    subst e1
    refine nr_if_eq (tgt := 11) hx hb dX1_distance_4 (by decide) (by omega) (fun c4 => ?_) (fun c4 => ?_)
    · skip
      exact absurd c4 (by decide)
    · skip
      refine lv_iconst (v := (-1)) hx hb dX1_distance_7 (by decide) ?_
      refine lv_goto (tgt := 16) hx hb dX1_distance_8 (by decide) ?_
      exact nr_iret hx hb hr hlocks hK (lf, lfs, rg, rgs, tb, fe) hP hD hS (show (-1) = sD1 (gDi ln lt ql q) p0 from (sD1_out _ hin).symm) dX1_distance_16
set_option maxHeartbeats 4000000 in
set_option maxRecDepth 100000 in
/-- end(doc) -/
theorem mt1_end (l : Launch) (D : va_G) (ad : Nat → Nat) (cA : ClassId) (sz : Nat) (lt : Nat → Nat) (ln : Nat → Nat) (q : Nat → Nat) (ql : Nat) (lf : Nat → Nat) (lfs : Nat) (rg : Nat → Nat) (rgs : Nat) (tb : Nat → Nat) (fe : Nat) (p0 : Int32) (hJ : inv1 ln lt ql q) : nMi l yX1_end cX1_end 2 .int 3 [.ref (ad 0), .int p0] D vwCl cA (wX1 ad cA lt ln q ql lf lfs rg rgs tb fe) sz (fun (r : Int32) (u : (Nat → Nat) × Nat × (Nat → Nat) × Nat × (Nat → Nat) × Nat) => (fun (lf' : Nat → Nat) (lfs' : Nat) (rg' : Nat → Nat) (rgs' : Nat) (tb' : Nat → Nat) (fe' : Nat) => r = sD1 (gEn ln lt ql q) p0) u.1 u.2.1 u.2.2.1 u.2.2.2.1 u.2.2.2.2.1 u.2.2.2.2.2) (fun (u : (Nat → Nat) × Nat × (Nat → Nat) × Nat × (Nat → Nat) × Nat) => (fun (lf' : Nat → Nat) (lfs' : Nat) (rg' : Nat → Nat) (rgs' : Nat) (tb' : Nat → Nat) (fe' : Nat) => (wX1 ad cA lt ln q ql lf' lfs' rg' rgs' tb' fe')) u.1 u.2.1 u.2.2.1 u.2.2.2.1 u.2.2.2.2.1 u.2.2.2.2.2) := by
  refine nr_metI (by decide) (Nat.le_of_ble_eq_true rfl) ?_
  intro p e s m below meth c A ls hx hb hr hml hown hlocks hts hA hK hP hD hS hl
  have hown : s.vm.findClass RX1 = some m.cls := hown
  have hl : lv_has ls 2 [(0, .ref (ad 0)), (1, .int p0)] := hl
  have hP : va_P D vwCl (wX1 ad cA lt ln q ql lf lfs rg rgs tb fe) s.heap := hP
  by_cases hin : inD p0
  · skip
    obtain ⟨d, hd, ed⟩ := inD_of hin
    subst ed
    refine lv_iload_n hx hb dX1_end_0 rfl (lv_at hl 1 rfl) ?_
    refine nr_callSi (rest := []) ⟨hx, hb, hml, hown, hts⟩ hK hP hD hS hA 1 [.int (nI d)] (mt1_bad l D cA _ (nI d) ) (lw_S q188 q189 q16 q190) (by decide +kernel) ⟨Nat.le_of_ble_eq_true rfl, Nat.le_of_ble_eq_true rfl⟩ rfl hl.1 rfl (Nat.le_of_ble_eq_true rfl) dX1_end_1 ⟨Nat.zero_le _, Nat.zero_le _⟩ (fun r1 H locs hw1 hP hD hS => ?_)
    have hw1 : r1 = nI (if inD (nI d) then 0 else 1) := hw1
    have e1 : r1 = nI 0 := hw1.trans (congrArg nI (if_pos (inD_nI hd)))
    subst e1
    refine nr_if_eq (tgt := 9) hx hb dX1_end_4 (by decide) (by omega) (fun c4 => ?_) (fun c4 => ?_)
    · skip
      refine lv_aload_n hx hb dX1_end_9 rfl (lv_at hl 0 rfl) ?_
      refine lv_iload_n hx hb dX1_end_10 rfl (lv_at hl 1 rfl) ?_
      refine nr_callVi (C := RX1) (T := TX1) (N := 10) (ci := 1) (rest := []) (wr := []) ⟨hx, hb, hml, hown, hts⟩ hK hP hD hS hA [0, 1, 2, 3, 4, 5, 6] [] rfl rfl (by decide) (by decide) (by decide) 1 [.int (nI d)] (mt1_search l D ad cA _ lt ln q ql lf lfs rg rgs tb fe d hd hJ) (lw_V q207 q209 qs7 q16 q210) (by decide +kernel) ⟨Nat.le_of_ble_eq_true rfl, Nat.le_of_ble_eq_true rfl⟩ rfl 0 rfl rfl hl.1 rfl (Nat.le_of_ble_eq_true rfl) dX1_end_11 ⟨Nat.zero_le _, Nat.zero_le _⟩ (fun r11 u H locs hw11 hP hD hS => ?_)
      obtain ⟨lf11, lfs11, rg11, rgs11, tb11, fe11⟩ := u
      have hw11 : r11 = nI (bDi q (dc lt d) ql (ln d)) ∧ fe11 = bEn q (dc lt d) ql (ln d) := hw11
      have hP : va_P D vwCl (wX1 ad cA lt ln q ql lf11 lfs11 rg11 rgs11 tb11 fe11) H := hP
      have hD : va_D A (wX1 ad cA lt ln q ql lf11 lfs11 rg11 rgs11 tb11 fe11) := hD
      obtain ⟨z1, z2⟩ := hw11
      subst z1; subst z2
      have hP : va_P D vwCl (wX1 ad cA lt ln q ql lf11 lfs11 rg11 rgs11 tb11 (bEn q (dc lt d) ql (ln d))) H := hP
      have hD : va_D A (wX1 ad cA lt ln q ql lf11 lfs11 rg11 rgs11 tb11 (bEn q (dc lt d) ql (ln d))) := hD
      refine lv_pop hx hb dX1_end_14 rfl ?_
      refine lv_aload_n hx hb dX1_end_15 rfl (lv_at hl 0 rfl) ?_
      refine va_get (D := D) (ci := 1) (v := .int (nI (bEn q (dc lt d) ql (ln d)))) (C := RX1) (T := TX1) (N := 10) hx hb hts in_X1 hown hK hP 0 rfl rfl 9 (by decide) (hts _ q162) (fun _ h9 => h9) rfl dX1_end_16 ?_
      exact nr_iret hx hb hr hlocks hK (lf11, lfs11, rg11, rgs11, tb11, bEn q (dc lt d) ql (ln d)) hP hD hS (show (nI (bEn q (dc lt d) ql (ln d))) = sD1 (gEn ln lt ql q) (nI d) from (sD1_in (gEn ln lt ql q) hd).symm) dX1_end_19
    · skip
      exact absurd c4 (by decide)
  · skip
    refine lv_iload_n hx hb dX1_end_0 rfl (lv_at hl 1 rfl) ?_
    refine nr_callSi (rest := []) ⟨hx, hb, hml, hown, hts⟩ hK hP hD hS hA 1 [.int p0] (mt1_bad l D cA _ p0 ) (lw_S q188 q189 q16 q190) (by decide +kernel) ⟨Nat.le_of_ble_eq_true rfl, Nat.le_of_ble_eq_true rfl⟩ rfl hl.1 rfl (Nat.le_of_ble_eq_true rfl) dX1_end_1 ⟨Nat.zero_le _, Nat.zero_le _⟩ (fun r1 H locs hw1 hP hD hS => ?_)
    have hw1 : r1 = nI (if inD p0 then 0 else 1) := hw1
    have e1 : r1 = nI 1 := hw1.trans (congrArg nI (if_neg hin))
    subst e1
    refine nr_if_eq (tgt := 9) hx hb dX1_end_4 (by decide) (by omega) (fun c4 => ?_) (fun c4 => ?_)
    · skip
      exact absurd c4 (by decide)
    · skip
      refine lv_iconst (v := (-1)) hx hb dX1_end_7 (by decide) ?_
      exact nr_iret hx hb hr hlocks hK (lf, lfs, rg, rgs, tb, fe) hP hD hS (show (-1) = sD1 (gEn ln lt ql q) p0 from (sD1_out _ hin).symm) dX1_end_8
set_option maxHeartbeats 4000000 in
set_option maxRecDepth 100000 in
/-- whole(doc) -/
theorem mt1_whole (l : Launch) (D : va_G) (ad : Nat → Nat) (cA : ClassId) (sz : Nat) (lt : Nat → Nat) (ln : Nat → Nat) (q : Nat → Nat) (ql : Nat) (lf : Nat → Nat) (lfs : Nat) (rg : Nat → Nat) (rgs : Nat) (tb : Nat → Nat) (fe : Nat) (p0 : Int32) (hJ : inv1 ln lt ql q) : nMi l yX1_whole cX1_whole 2 .int 2 [.ref (ad 0), .int p0] D vwCl cA (wX1 ad cA lt ln q ql lf lfs rg rgs tb fe) sz (fun (r : Int32) (u : (Nat → Nat) × Nat × (Nat → Nat) × Nat × (Nat → Nat)) => (fun (lf' : Nat → Nat) (lfs' : Nat) (rg' : Nat → Nat) (rgs' : Nat) (tb' : Nat → Nat) => r = sD1 (gWh ln lt ql q) p0) u.1 u.2.1 u.2.2.1 u.2.2.2.1 u.2.2.2.2) (fun (u : (Nat → Nat) × Nat × (Nat → Nat) × Nat × (Nat → Nat)) => (fun (lf' : Nat → Nat) (lfs' : Nat) (rg' : Nat → Nat) (rgs' : Nat) (tb' : Nat → Nat) => (wX1 ad cA lt ln q ql lf' lfs' rg' rgs' tb' fe)) u.1 u.2.1 u.2.2.1 u.2.2.2.1 u.2.2.2.2) := by
  refine nr_metI (by decide) (Nat.le_of_ble_eq_true rfl) ?_
  intro p e s m below meth c A ls hx hb hr hml hown hlocks hts hA hK hP hD hS hl
  have hown : s.vm.findClass RX1 = some m.cls := hown
  have hl : lv_has ls 2 [(0, .ref (ad 0)), (1, .int p0)] := hl
  have hP : va_P D vwCl (wX1 ad cA lt ln q ql lf lfs rg rgs tb fe) s.heap := hP
  by_cases hin : inD p0
  · skip
    obtain ⟨d, hd, ed⟩ := inD_of hin
    subst ed
    have hln := hJ.1 d hd
    have hq8 := hJ.2.2.1
    refine lv_iload_n hx hb dX1_whole_0 rfl (lv_at hl 1 rfl) ?_
    refine nr_callSi (rest := []) ⟨hx, hb, hml, hown, hts⟩ hK hP hD hS hA 1 [.int (nI d)] (mt1_bad l D cA _ (nI d) ) (lw_S q188 q189 q16 q190) (by decide +kernel) ⟨Nat.le_of_ble_eq_true rfl, Nat.le_of_ble_eq_true rfl⟩ rfl hl.1 rfl (Nat.le_of_ble_eq_true rfl) dX1_whole_1 ⟨Nat.zero_le _, Nat.zero_le _⟩ (fun r1 H locs hw1 hP hD hS => ?_)
    have hw1 : r1 = nI (if inD (nI d) then 0 else 1) := hw1
    have e1 : r1 = nI 0 := hw1.trans (congrArg nI (if_pos (inD_nI hd)))
    subst e1
    refine nr_if_eq (tgt := 9) hx hb dX1_whole_4 (by decide) (by omega) (fun c4 => ?_) (fun c4 => ?_)
    · skip
      refine lv_aload_n hx hb dX1_whole_9 rfl (lv_at hl 0 rfl) ?_
      refine nr_callVv (C := RX1) (T := TX1) (N := 10) (ci := 1) (rest := []) (wr := []) ⟨hx, hb, hml, hown, hts⟩ hK hP hD hS hA [0, 1, 2, 3, 4, 5, 6] [] rfl rfl (by decide) (by decide) (by decide) 0 [] (mt1_layQuery l D ad cA _ lt ln q ql lf lfs rg rgs tb fe  hq8) (lw_V q211 q213 qs8 q16 q214) (by decide +kernel) ⟨Nat.le_of_ble_eq_true rfl, Nat.le_of_ble_eq_true rfl⟩ rfl 0 rfl rfl hl.1 rfl (Nat.le_of_ble_eq_true rfl) dX1_whole_10 ⟨Nat.zero_le _, Nat.zero_le _⟩ (fun u H locs hw10 hP hD hS => ?_)
      obtain ⟨lf10, lfs10⟩ := u
      have hw10 : lfs10 = ql ∧ ∀ t, t < ql → lf10 t = q t := hw10
      have hP : va_P D vwCl (wX1 ad cA lt ln q ql lf10 lfs10 rg rgs tb fe) H := hP
      have hD : va_D A (wX1 ad cA lt ln q ql lf10 lfs10 rg rgs tb fe) := hD
      obtain ⟨z1, hf10⟩ := hw10
      rw [z1] at hP hD
      have hP : va_P D vwCl (wX1 ad cA lt ln q ql lf10 ql rg rgs tb fe) H := hP
      have hD : va_D A (wX1 ad cA lt ln q ql lf10 ql rg rgs tb fe) := hD
      refine lv_aload_n hx hb dX1_whole_13 rfl (lv_at hl 0 rfl) ?_
      refine lv_iload_n hx hb dX1_whole_14 rfl (lv_at hl 1 rfl) ?_
      refine lv_iconst (v := nI 0) hx hb dX1_whole_15 (by decide) ?_
      refine lv_aload_n hx hb dX1_whole_16 rfl (lv_at hl 0 rfl) ?_
      refine va_get (D := D) (ci := 1) (v := .ref (ad 2)) (C := RX1) (T := TX1) (N := 10) hx hb hts in_X1 hown hK hP 0 rfl rfl 1 (by decide) (hts _ q154) (fun _ h9 => h9) rfl dX1_whole_17 ?_
      refine lv_iload_n hx hb dX1_whole_20 rfl (lv_at hl 1 rfl) ?_
      refine nr_iald (f := ln) (n := 8) (i := d) hx hb hK hP 2 rfl rfl (by omega) (by decide) dX1_whole_21 ?_
      refine nr_callVv (C := RX1) (T := TX1) (N := 10) (ci := 1) (rest := []) (wr := []) ⟨hx, hb, hml, hown, hts⟩ hK hP hD hS hA [0, 1, 2, 3, 4, 5, 6] [] rfl rfl (by decide) (by decide) (by decide) 3 [.int (nI d), .int (nI 0), .int (nI (ln d))] (mt1_layPart l D ad cA _ lt ln q ql lf10 ql rg rgs tb fe d 0 (ln d) hd (Nat.zero_le _) hln) (lw_V q215 q217 qs9 q16 q218) (by decide +kernel) ⟨Nat.le_of_ble_eq_true rfl, Nat.le_of_ble_eq_true rfl⟩ rfl 0 rfl rfl hl.1 rfl (Nat.le_of_ble_eq_true rfl) dX1_whole_22 ⟨Nat.zero_le _, Nat.zero_le _⟩ (fun u H locs hw22 hP hD hS => ?_)
      obtain ⟨rg22, rgs22⟩ := u
      have hw22 : rgs22 = (ln d) - 0 ∧ ∀ zz, zz < (ln d) - 0 → rg22 zz = lt (16 * d + 0 + zz) := hw22
      have hP : va_P D vwCl (wX1 ad cA lt ln q ql lf10 ql rg22 rgs22 tb fe) H := hP
      have hD : va_D A (wX1 ad cA lt ln q ql lf10 ql rg22 rgs22 tb fe) := hD
      obtain ⟨z1, hr22⟩ := hw22
      subst z1
      have hP : va_P D vwCl (wX1 ad cA lt ln q ql lf10 ql rg22 (ln d - 0) tb fe) H := hP
      have hD : va_D A (wX1 ad cA lt ln q ql lf10 ql rg22 (ln d - 0) tb fe) := hD
      refine lv_aload_n hx hb dX1_whole_25 rfl (lv_at hl 0 rfl) ?_
      refine nr_callVi (C := RX1) (T := TX1) (N := 10) (ci := 1) (rest := []) (wr := []) ⟨hx, hb, hml, hown, hts⟩ hK hP hD hS hA [0, 1, 2, 3, 4, 5, 6] [] rfl rfl (by decide) (by decide) (by decide) 0 [] (mt1_compared l D ad cA _ lt ln q ql lf10 ql rg22 (ln d - 0) tb fe  (by omega) (by omega) (fun z h => by rw [hf10 z h]; exact hJ.2.2.2 z) (fun z h => by rw [hr22 z h]; exact hJ.2.1 _)) (lw_V q219 q221 qs10 q16 q222) (by decide +kernel) ⟨Nat.le_of_ble_eq_true rfl, Nat.le_of_ble_eq_true rfl⟩ rfl 0 rfl rfl hl.1 rfl (Nat.le_of_ble_eq_true rfl) dX1_whole_26 ⟨Nat.zero_le _, Nat.zero_le _⟩ (fun r26 u H locs hw26 hP hD hS => ?_)
      obtain ⟨tb26, rfl⟩ : ∃ z, z = u := ⟨_, rfl⟩
      have hw26 : r26 = nI (eD lf10 rg22 ql (ln d - 0)) := hw26
      have hP : va_P D vwCl (wX1 ad cA lt ln q ql lf10 ql rg22 (ln d - 0) tb26 fe) H := hP
      have hD : va_D A (wX1 ad cA lt ln q ql lf10 ql rg22 (ln d - 0) tb26 fe) := hD
      have e26 : r26 = nI (eD q (dc lt d) ql (ln d)) := hw26.trans (congrArg nI (eD_congr ql (ln d) hf10 (fun z h => hr22 z h)))
      subst e26
      exact nr_iret hx hb hr hlocks hK (lf10, ql, rg22, ln d - 0, tb26) hP hD hS (show (nI (eD q (dc lt d) ql (ln d))) = sD1 (gWh ln lt ql q) (nI d) from (sD1_in (gWh ln lt ql q) hd).symm) dX1_whole_29
    · skip
      exact absurd c4 (by decide)
  · skip
    refine lv_iload_n hx hb dX1_whole_0 rfl (lv_at hl 1 rfl) ?_
    refine nr_callSi (rest := []) ⟨hx, hb, hml, hown, hts⟩ hK hP hD hS hA 1 [.int p0] (mt1_bad l D cA _ p0 ) (lw_S q188 q189 q16 q190) (by decide +kernel) ⟨Nat.le_of_ble_eq_true rfl, Nat.le_of_ble_eq_true rfl⟩ rfl hl.1 rfl (Nat.le_of_ble_eq_true rfl) dX1_whole_1 ⟨Nat.zero_le _, Nat.zero_le _⟩ (fun r1 H locs hw1 hP hD hS => ?_)
    have hw1 : r1 = nI (if inD p0 then 0 else 1) := hw1
    have e1 : r1 = nI 1 := hw1.trans (congrArg nI (if_neg hin))
    subst e1
    refine nr_if_eq (tgt := 9) hx hb dX1_whole_4 (by decide) (by omega) (fun c4 => ?_) (fun c4 => ?_)
    · skip
      exact absurd c4 (by decide)
    · skip
      refine lv_iconst (v := (-1)) hx hb dX1_whole_7 (by decide) ?_
      exact nr_iret hx hb hr hlocks hK (lf, lfs, rg, rgs, tb) hP hD hS (show (-1) = sD1 (gWh ln lt ql q) p0 from (sD1_out _ hin).symm) dX1_whole_8
set_option maxHeartbeats 4000000 in
set_option maxRecDepth 100000 in
/-- between(a, b) -/
theorem mt1_between (l : Launch) (D : va_G) (ad : Nat → Nat) (cA : ClassId) (sz : Nat) (lt : Nat → Nat) (ln : Nat → Nat) (q : Nat → Nat) (ql : Nat) (lf : Nat → Nat) (lfs : Nat) (rg : Nat → Nat) (rgs : Nat) (tb : Nat → Nat) (fe : Nat) (p0 : Int32) (p1 : Int32) (hJ : inv1 ln lt ql q) : nMi l yX1_between cX1_between 4 .int 2 [.ref (ad 0), .int p0, .int p1] D vwCl cA (wX1 ad cA lt ln q ql lf lfs rg rgs tb fe) sz (fun (r : Int32) (u : (Nat → Nat) × Nat × (Nat → Nat) × Nat × (Nat → Nat)) => (fun (lf' : Nat → Nat) (lfs' : Nat) (rg' : Nat → Nat) (rgs' : Nat) (tb' : Nat → Nat) => r = sD2 (gBe ln lt) p0 p1) u.1 u.2.1 u.2.2.1 u.2.2.2.1 u.2.2.2.2) (fun (u : (Nat → Nat) × Nat × (Nat → Nat) × Nat × (Nat → Nat)) => (fun (lf' : Nat → Nat) (lfs' : Nat) (rg' : Nat → Nat) (rgs' : Nat) (tb' : Nat → Nat) => (wX1 ad cA lt ln q ql lf' lfs' rg' rgs' tb' fe)) u.1 u.2.1 u.2.2.1 u.2.2.2.1 u.2.2.2.2) := by
  refine nr_metI (by decide) (Nat.le_of_ble_eq_true rfl) ?_
  intro p e s m below meth c A ls hx hb hr hml hown hlocks hts hA hK hP hD hS hl
  have hown : s.vm.findClass RX1 = some m.cls := hown
  have hl : lv_has ls 4 [(0, .ref (ad 0)), (1, .int p0), (2, .int p1)] := hl
  have hP : va_P D vwCl (wX1 ad cA lt ln q ql lf lfs rg rgs tb fe) s.heap := hP
  by_cases hin : inD p0 ∧ inD p1
  · skip
    obtain ⟨d, hd, ed⟩ := inD_of hin.1
    obtain ⟨b2, hb2, eb2⟩ := inD_of hin.2
    subst ed
    subst eb2
    have hln := hJ.1 d hd
    have hlb := hJ.1 b2 hb2
    refine lv_iload_n hx hb dX1_between_0 rfl (lv_at hl 1 rfl) ?_
    refine nr_callSi (rest := []) ⟨hx, hb, hml, hown, hts⟩ hK hP hD hS hA 1 [.int (nI d)] (mt1_bad l D cA _ (nI d) ) (lw_S q188 q189 q16 q190) (by decide +kernel) ⟨Nat.le_of_ble_eq_true rfl, Nat.le_of_ble_eq_true rfl⟩ rfl hl.1 rfl (Nat.le_of_ble_eq_true rfl) dX1_between_1 ⟨Nat.zero_le _, Nat.zero_le _⟩ (fun r1 H locs hw1 hP hD hS => ?_)
    have hw1 : r1 = nI (if inD (nI d) then 0 else 1) := hw1
    have e1 : r1 = nI 0 := hw1.trans (congrArg nI (if_pos (inD_nI hd)))
    subst e1
    refine nr_if_ne (tgt := 14) hx hb dX1_between_4 (by decide) (by omega) (fun c4 => ?_) (fun c4 => ?_)
    · skip
      exact absurd c4 (by decide)
    · skip
      refine lv_iload_n hx hb dX1_between_7 rfl (lv_at hl 2 rfl) ?_
      refine nr_callSi (rest := []) ⟨hx, hb, hml, hown, hts⟩ hK hP hD hS hA 1 [.int (nI b2)] (mt1_bad l D cA _ (nI b2) ) (lw_S q188 q189 q16 q190) (by decide +kernel) ⟨Nat.le_of_ble_eq_true rfl, Nat.le_of_ble_eq_true rfl⟩ rfl hl.1 rfl (Nat.le_of_ble_eq_true rfl) dX1_between_8 ⟨Nat.zero_le _, Nat.zero_le _⟩ (fun r8 H locs hw8 hP hD hS => ?_)
      have hw8 : r8 = nI (if inD (nI b2) then 0 else 1) := hw8
      have e8 : r8 = nI 0 := hw8.trans (congrArg nI (if_pos (inD_nI hb2)))
      subst e8
      refine nr_if_eq (tgt := 16) hx hb dX1_between_11 (by decide) (by omega) (fun c11 => ?_) (fun c11 => ?_)
      · skip
        refine lv_aload_n hx hb dX1_between_16 rfl (lv_at hl 0 rfl) ?_
        refine lv_aload_n hx hb dX1_between_17 rfl (lv_at hl 0 rfl) ?_
        refine va_get (D := D) (ci := 1) (v := .ref (ad 2)) (C := RX1) (T := TX1) (N := 10) hx hb hts in_X1 hown hK hP 0 rfl rfl 1 (by decide) (hts _ q154) (fun _ h9 => h9) rfl dX1_between_18 ?_
        refine lv_iload_n hx hb dX1_between_21 rfl (lv_at hl 1 rfl) ?_
        refine nr_iald (f := ln) (n := 8) (i := d) hx hb hK hP 2 rfl rfl (by omega) (by decide) dX1_between_22 ?_
        refine va_put (D := D) (ci := 1) (v := .int (nI (ln d))) (ty := .int) (C := RX1) (T := TX1) (N := 10) hx hb hts in_X1 tyX1 tyX1_ok nmX1 hown hK hP hD hS 0 rfl rfl 5 (by decide) (hts _ q158) (fun _ h9 => h9) rfl (by decide +kernel) rfl rfl (Nat.le_of_ble_eq_true rfl) dX1_between_23 (fun H locs hP hD hS => ?_)
        have hP : va_P D vwCl (wX1 ad cA lt ln q ql lf (ln d) rg rgs tb fe) H := hP
        have hD : va_D A (wX1 ad cA lt ln q ql lf (ln d) rg rgs tb fe) := hD
        refine lv_iconst (v := nI 0) hx hb dX1_between_26 (by decide) ?_
        refine lv_istore_n (lv' := [(3, .int (nI 0)), (0, .ref (ad 0)), (1, .int (nI d)), (2, .int (nI b2))]) hx hb dX1_between_27 rfl hl (by decide) rfl (fun ls hl => ?_)
        refine nr_loop (σ := Nat × (Nat → Nat)) (fun v H locs ls => (fun (i : Nat) (lf : Nat → Nat) => (i ≤ ln d) ∧ (∀ t, t < i → lf t = lt (16 * d + t)) ∧ va_P D vwCl (wX1 ad cA lt ln q ql lf (ln d) rg rgs tb fe) H ∧ va_D A (wX1 ad cA lt ln q ql lf (ln d) rg rgs tb fe) ∧ va_S A s.heap H locs ∧ lv_has ls 4 [(0, .ref (ad 0)), (1, .int (nI d)), (2, .int (nI b2)), (3, .int (nI i))]) v.1 v.2) (fun v => (fun (i : Nat) (lf : Nat → Nat) => ln d - i) v.1 v.2) ?_ (0, lf) ⟨(show 0 ≤ ln d from by omega), (show ∀ t, t < 0 → lf t = lt (16 * d + t) from fun t h => absurd h (Nat.not_lt_zero t)), hP, hD, hS, lv_sub hl [1, 2, 3, 0] rfl⟩
        intro v H locs ls hv ih28
        obtain ⟨i, lf⟩ := v
        obtain ⟨hi, hf, hP, hD, hS, hl⟩ := hv
        have hi : i ≤ ln d := hi
        have hf : ∀ t, t < i → lf t = lt (16 * d + t) := hf
        have hP : va_P D vwCl (wX1 ad cA lt ln q ql lf (ln d) rg rgs tb fe) H := hP
        have hD : va_D A (wX1 ad cA lt ln q ql lf (ln d) rg rgs tb fe) := hD
        have hl : lv_has ls 4 [(0, .ref (ad 0)), (1, .int (nI d)), (2, .int (nI b2)), (3, .int (nI i))] := hl
        refine lv_iload_n hx hb dX1_between_28 rfl (lv_at hl 3 rfl) ?_
        refine lv_aload_n hx hb dX1_between_29 rfl (lv_at hl 0 rfl) ?_
        refine va_get (D := D) (ci := 1) (v := .int (nI (ln d))) (C := RX1) (T := TX1) (N := 10) hx hb hts in_X1 hown hK hP 0 rfl rfl 5 (by decide) (hts _ q158) (fun _ h9 => h9) rfl dX1_between_30 ?_
        refine nr_icmp_ge (tgt := 59) hx hb dX1_between_33 (by decide) (by omega) (by omega) (fun c33 => ?_) (fun c33 => ?_)
        · skip
          refine lv_aload_n hx hb dX1_between_59 rfl (lv_at hl 0 rfl) ?_
          refine lv_iload_n hx hb dX1_between_60 rfl (lv_at hl 2 rfl) ?_
          refine lv_iconst (v := nI 0) hx hb dX1_between_61 (by decide) ?_
          refine lv_aload_n hx hb dX1_between_62 rfl (lv_at hl 0 rfl) ?_
          refine va_get (D := D) (ci := 1) (v := .ref (ad 2)) (C := RX1) (T := TX1) (N := 10) hx hb hts in_X1 hown hK hP 0 rfl rfl 1 (by decide) (hts _ q154) (fun _ h9 => h9) rfl dX1_between_63 ?_
          refine lv_iload_n hx hb dX1_between_66 rfl (lv_at hl 2 rfl) ?_
          refine nr_iald (f := ln) (n := 8) (i := b2) hx hb hK hP 2 rfl rfl (by omega) (by decide) dX1_between_67 ?_
          refine nr_callVv (C := RX1) (T := TX1) (N := 10) (ci := 1) (rest := []) (wr := []) ⟨hx, hb, hml, hown, hts⟩ hK hP hD hS hA [0, 1, 2, 3, 4, 5, 6] [] rfl rfl (by decide) (by decide) (by decide) 3 [.int (nI b2), .int (nI 0), .int (nI (ln b2))] (mt1_layPart l D ad cA _ lt ln q ql lf (ln d) rg rgs tb fe b2 0 (ln b2) hb2 (Nat.zero_le _) hlb) (lw_V q215 q217 qs9 q16 q218) (by decide +kernel) ⟨Nat.le_of_ble_eq_true rfl, Nat.le_of_ble_eq_true rfl⟩ rfl 0 rfl rfl hl.1 rfl (Nat.le_of_ble_eq_true rfl) dX1_between_68 ⟨Nat.zero_le _, Nat.zero_le _⟩ (fun u H locs hw68 hP hD hS => ?_)
          obtain ⟨rg68, rgs68⟩ := u
          have hw68 : rgs68 = (ln b2) - 0 ∧ ∀ zz, zz < (ln b2) - 0 → rg68 zz = lt (16 * b2 + 0 + zz) := hw68
          have hP : va_P D vwCl (wX1 ad cA lt ln q ql lf (ln d) rg68 rgs68 tb fe) H := hP
          have hD : va_D A (wX1 ad cA lt ln q ql lf (ln d) rg68 rgs68 tb fe) := hD
          obtain ⟨z1, hr68⟩ := hw68
          subst z1
          have hP : va_P D vwCl (wX1 ad cA lt ln q ql lf (ln d) rg68 (ln b2 - 0) tb fe) H := hP
          have hD : va_D A (wX1 ad cA lt ln q ql lf (ln d) rg68 (ln b2 - 0) tb fe) := hD
          refine lv_aload_n hx hb dX1_between_71 rfl (lv_at hl 0 rfl) ?_
          refine nr_callVi (C := RX1) (T := TX1) (N := 10) (ci := 1) (rest := []) (wr := []) ⟨hx, hb, hml, hown, hts⟩ hK hP hD hS hA [0, 1, 2, 3, 4, 5, 6] [] rfl rfl (by decide) (by decide) (by decide) 0 [] (mt1_compared l D ad cA _ lt ln q ql lf (ln d) rg68 (ln b2 - 0) tb fe  hln (by omega) (fun z h => by rw [hf z (by omega)]; exact hJ.2.1 _) (fun z h => by rw [hr68 z h]; exact hJ.2.1 _)) (lw_V q219 q221 qs10 q16 q222) (by decide +kernel) ⟨Nat.le_of_ble_eq_true rfl, Nat.le_of_ble_eq_true rfl⟩ rfl 0 rfl rfl hl.1 rfl (Nat.le_of_ble_eq_true rfl) dX1_between_72 ⟨Nat.zero_le _, Nat.zero_le _⟩ (fun r72 u H locs hw72 hP hD hS => ?_)
          obtain ⟨tb72, rfl⟩ : ∃ z, z = u := ⟨_, rfl⟩
          have hw72 : r72 = nI (eD lf rg68 (ln d) (ln b2 - 0)) := hw72
          have hP : va_P D vwCl (wX1 ad cA lt ln q ql lf (ln d) rg68 (ln b2 - 0) tb72 fe) H := hP
          have hD : va_D A (wX1 ad cA lt ln q ql lf (ln d) rg68 (ln b2 - 0) tb72 fe) := hD
          have e72 : r72 = nI (eD (dc lt d) (dc lt b2) (ln d) (ln b2)) := hw72.trans (congrArg nI (eD_congr (ln d) (ln b2) (fun z h => hf z (by omega)) (fun z h => hr68 z h)))
          subst e72
          exact nr_iret hx hb hr hlocks hK (lf, ln d, rg68, ln b2 - 0, tb72) hP hD hS (show (nI (eD (dc lt d) (dc lt b2) (ln d) (ln b2))) = sD2 (gBe ln lt) (nI d) (nI b2) from (sD2_in (gBe ln lt) hd hb2).symm) dX1_between_75
        · skip
          refine lv_aload_n hx hb dX1_between_36 rfl (lv_at hl 0 rfl) ?_
          refine va_get (D := D) (ci := 1) (v := .ref (ad 4)) (C := RX1) (T := TX1) (N := 10) hx hb hts in_X1 hown hK hP 0 rfl rfl 4 (by decide) (hts _ q157) (fun _ h9 => h9) rfl dX1_between_37 ?_
          refine lv_iload_n hx hb dX1_between_40 rfl (lv_at hl 3 rfl) ?_
          refine lv_aload_n hx hb dX1_between_41 rfl (lv_at hl 0 rfl) ?_
          refine va_get (D := D) (ci := 1) (v := .ref (ad 1)) (C := RX1) (T := TX1) (N := 10) hx hb hts in_X1 hown hK hP 0 rfl rfl 0 (by decide) (hts _ q153) (fun _ h9 => h9) rfl dX1_between_42 ?_
          refine lv_bipush (v := nI 16) hx hb dX1_between_45 (by decide) ?_
          refine lv_iload_n hx hb dX1_between_47 rfl (lv_at hl 1 rfl) ?_
          refine nr_mul hx hb dX1_between_48 ?_
          refine lv_iload_n hx hb dX1_between_49 rfl (lv_at hl 3 rfl) ?_
          refine nr_add hx hb dX1_between_50 ?_
          refine nr_iald (f := lt) (n := 128) (i := (16 * d) + i) hx hb hK hP 1 rfl rfl (by omega) (by decide) dX1_between_51 ?_
          refine nr_iast (f := lf) (n := 16) (i := i) (v := lt ((16 * d) + i)) hx hb hK hP hD hS 4 rfl rfl (by omega) (by decide) dX1_between_52 (fun H locs hP hD hS => ?_)
          have hP : va_P D vwCl (wX1 ad cA lt ln q ql (va_up lf i (lt ((16 * d) + i))) (ln d) rg rgs tb fe) H := hP
          have hD : va_D A (wX1 ad cA lt ln q ql (va_up lf i (lt ((16 * d) + i))) (ln d) rg rgs tb fe) := hD
          refine lv_iinc (v := nI (i + 1)) (lv' := [(3, .int (nI (i + 1))), (0, .ref (ad 0)), (1, .int (nI d)), (2, .int (nI b2))]) hx hb dX1_between_53 hl (k := 3) rfl (nI_add i 1) (by decide) rfl (fun ls hl => ?_)
          refine lv_goto (tgt := 28) hx hb dX1_between_56 (by decide) ?_
          exact ih28 (i + 1, va_up lf i (lt ((16 * d) + i))) _ _ _ ⟨(show (i + 1) ≤ ln d from by omega), (show ∀ t, t < (i + 1) → (va_up lf i (lt ((16 * d) + i))) t = lt (16 * d + t) from up_fill (g := fun t => lt (16 * d + t)) hf), hP, hD, hS, lv_sub hl [1, 2, 3, 0] rfl⟩ (show ln d - (i + 1) < ln d - i from by omega)
      · skip
        exact absurd c11 (by decide)
  · skip
    by_cases hin0 : inD p0
    · skip
      have hz1 : True := trivial
      refine lv_iload_n hx hb dX1_between_0 rfl (lv_at hl 1 rfl) ?_
      refine nr_callSi (rest := []) ⟨hx, hb, hml, hown, hts⟩ hK hP hD hS hA 1 [.int p0] (mt1_bad l D cA _ p0 ) (lw_S q188 q189 q16 q190) (by decide +kernel) ⟨Nat.le_of_ble_eq_true rfl, Nat.le_of_ble_eq_true rfl⟩ rfl hl.1 rfl (Nat.le_of_ble_eq_true rfl) dX1_between_1 ⟨Nat.zero_le _, Nat.zero_le _⟩ (fun r1 H locs hw1 hP hD hS => ?_)
      have hw1 : r1 = nI (if inD p0 then 0 else 1) := hw1
      have e1 : r1 = nI 0 := hw1.trans (congrArg nI (if_pos hin0))
      subst e1
      refine nr_if_ne (tgt := 14) hx hb dX1_between_4 (by decide) (by omega) (fun c4 => ?_) (fun c4 => ?_)
      · skip
        exact absurd c4 (by decide)
      · skip
        refine lv_iload_n hx hb dX1_between_7 rfl (lv_at hl 2 rfl) ?_
        refine nr_callSi (rest := []) ⟨hx, hb, hml, hown, hts⟩ hK hP hD hS hA 1 [.int p1] (mt1_bad l D cA _ p1 ) (lw_S q188 q189 q16 q190) (by decide +kernel) ⟨Nat.le_of_ble_eq_true rfl, Nat.le_of_ble_eq_true rfl⟩ rfl hl.1 rfl (Nat.le_of_ble_eq_true rfl) dX1_between_8 ⟨Nat.zero_le _, Nat.zero_le _⟩ (fun r8 H locs hw8 hP hD hS => ?_)
        have hw8 : r8 = nI (if inD p1 then 0 else 1) := hw8
        have e8 : r8 = nI 1 := hw8.trans (congrArg nI (if_neg (fun z => hin ⟨hin0, z⟩)))
        subst e8
        refine nr_if_eq (tgt := 16) hx hb dX1_between_11 (by decide) (by omega) (fun c11 => ?_) (fun c11 => ?_)
        · skip
          exact absurd c11 (by decide)
        · skip
          refine lv_iconst (v := (-1)) hx hb dX1_between_14 (by decide) ?_
          exact nr_iret hx hb hr hlocks hK (lf, lfs, rg, rgs, tb) hP hD hS (show (-1) = sD2 (gBe ln lt) p0 p1 from (sD2_out _ hin).symm) dX1_between_15
    · skip
      have hz0 : True := trivial
      refine lv_iload_n hx hb dX1_between_0 rfl (lv_at hl 1 rfl) ?_
      refine nr_callSi (rest := []) ⟨hx, hb, hml, hown, hts⟩ hK hP hD hS hA 1 [.int p0] (mt1_bad l D cA _ p0 ) (lw_S q188 q189 q16 q190) (by decide +kernel) ⟨Nat.le_of_ble_eq_true rfl, Nat.le_of_ble_eq_true rfl⟩ rfl hl.1 rfl (Nat.le_of_ble_eq_true rfl) dX1_between_1 ⟨Nat.zero_le _, Nat.zero_le _⟩ (fun r1 H locs hw1 hP hD hS => ?_)
      have hw1 : r1 = nI (if inD p0 then 0 else 1) := hw1
      have e1 : r1 = nI 1 := hw1.trans (congrArg nI (if_neg hin0))
      subst e1
      refine nr_if_ne (tgt := 14) hx hb dX1_between_4 (by decide) (by omega) (fun c4 => ?_) (fun c4 => ?_)
      · skip
        refine lv_iconst (v := (-1)) hx hb dX1_between_14 (by decide) ?_
        exact nr_iret hx hb hr hlocks hK (lf, lfs, rg, rgs, tb) hP hD hS (show (-1) = sD2 (gBe ln lt) p0 p1 from (sD2_out _ hin).symm) dX1_between_15
      · skip
        exact absurd c4 (by decide)
end
section
set_option maxHeartbeats 4000000 in
set_option maxRecDepth 100000 in
/-- inDoc(d, x, y) -/
theorem mt1_inDoc (l : Launch) (D : va_G) (ad : Nat → Nat) (cA : ClassId) (sz : Nat) (lt : Nat → Nat) (ln : Nat → Nat) (q : Nat → Nat) (ql : Nat) (lf : Nat → Nat) (lfs : Nat) (rg : Nat → Nat) (rgs : Nat) (tb : Nat → Nat) (fe : Nat) (d : Nat) (x0 : Nat) (y0 : Nat) (hd : d < 8) (hx0 : x0 < 4) (hy0 : y0 < 4) (hJ : inv1 ln lt ql q) : nMi l yX1_inDoc cX1_inDoc 6 .int 0 [.ref (ad 0), .int (nI d), .int (nI x0), .int (nI y0)] D vwCl cA (wX1 ad cA lt ln q ql lf lfs rg rgs tb fe) sz (fun (r : Int32) (u : Unit) => r = nI (cQ (dc lt d) (4 * x0 + y0) (ln d - 1))) (fun (u : Unit) => (wX1 ad cA lt ln q ql lf lfs rg rgs tb fe)) := by
  refine nr_metI (by decide) (Nat.le_of_ble_eq_true rfl) ?_
  intro p e s m below meth c A ls hx hb hr hml hown hlocks hts hA hK hP hD hS hl
  have hown : s.vm.findClass RX1 = some m.cls := hown
  have hl : lv_has ls 6 [(0, .ref (ad 0)), (1, .int (nI d)), (2, .int (nI x0)), (3, .int (nI y0))] := hl
  have hP : va_P D vwCl (wX1 ad cA lt ln q ql lf lfs rg rgs tb fe) s.heap := hP
  have hln := hJ.1 d hd
  refine lv_iconst (v := nI 0) hx hb dX1_inDoc_0 (by decide) ?_
  refine lv_istore (lv' := [(4, .int (nI 0)), (0, .ref (ad 0)), (1, .int (nI d)), (2, .int (nI x0)), (3, .int (nI y0))]) hx hb dX1_inDoc_1 hl (by decide) rfl (fun ls hl => ?_)
  refine lv_iconst (v := nI 0) hx hb dX1_inDoc_3 (by decide) ?_
  refine lv_istore (lv' := [(5, .int (nI 0)), (4, .int (nI 0)), (0, .ref (ad 0)), (1, .int (nI d)), (2, .int (nI x0)), (3, .int (nI y0))]) hx hb dX1_inDoc_4 hl (by decide) rfl (fun ls hl => ?_)
  refine nr_loop (σ := Nat × Nat) (fun v H locs ls => (fun (n : Nat) (i : Nat) => (i ≤ ln d - 1) ∧ (n = cQ (dc lt d) (4 * x0 + y0) i) ∧ va_P D vwCl (wX1 ad cA lt ln q ql lf lfs rg rgs tb fe) H ∧ va_D A (wX1 ad cA lt ln q ql lf lfs rg rgs tb fe) ∧ va_S A s.heap H locs ∧ lv_has ls 6 [(0, .ref (ad 0)), (1, .int (nI d)), (2, .int (nI x0)), (3, .int (nI y0)), (4, .int (nI n)), (5, .int (nI i))]) v.1 v.2) (fun v => (fun (n : Nat) (i : Nat) => ln d - 1 - i) v.1 v.2) ?_ (0, 0) ⟨(show 0 ≤ ln d - 1 from by omega), (show 0 = cQ (dc lt d) (4 * x0 + y0) 0 from rfl), hP, hD, hS, lv_sub hl [2, 3, 4, 5, 1, 0] rfl⟩
  intro v H locs ls hv ih6
  obtain ⟨n, i⟩ := v
  obtain ⟨hi, hn, hP, hD, hS, hl⟩ := hv
  have hi : i ≤ ln d - 1 := hi
  have hn : n = cQ (dc lt d) (4 * x0 + y0) i := hn
  have hP : va_P D vwCl (wX1 ad cA lt ln q ql lf lfs rg rgs tb fe) H := hP
  have hD : va_D A (wX1 ad cA lt ln q ql lf lfs rg rgs tb fe) := hD
  have hl : lv_has ls 6 [(0, .ref (ad 0)), (1, .int (nI d)), (2, .int (nI x0)), (3, .int (nI y0)), (4, .int (nI n)), (5, .int (nI i))] := hl
  refine lv_iload hx hb dX1_inDoc_6 (lv_at hl 5 rfl) ?_
  refine lv_iconst (v := nI 1) hx hb dX1_inDoc_8 (by decide) ?_
  refine nr_add hx hb dX1_inDoc_9 ?_
  refine lv_aload_n hx hb dX1_inDoc_10 rfl (lv_at hl 0 rfl) ?_
  refine va_get (D := D) (ci := 1) (v := .ref (ad 2)) (C := RX1) (T := TX1) (N := 10) hx hb hts in_X1 hown hK hP 0 rfl rfl 1 (by decide) (hts _ q154) (fun _ h9 => h9) rfl dX1_inDoc_11 ?_
  refine lv_iload_n hx hb dX1_inDoc_14 rfl (lv_at hl 1 rfl) ?_
  refine nr_iald (f := ln) (n := 8) (i := d) hx hb hK hP 2 rfl rfl (by omega) (by decide) dX1_inDoc_15 ?_
  refine nr_icmp_ge (tgt := 62) hx hb dX1_inDoc_16 (by decide) (by omega) (by omega) (fun c16 => ?_) (fun c16 => ?_)
  · skip
    refine lv_iload hx hb dX1_inDoc_62 (lv_at hl 4 rfl) ?_
    exact nr_iret hx hb hr hlocks hK () hP hD hS (show (nI n) = nI (cQ (dc lt d) (4 * x0 + y0) (ln d - 1)) from congrArg nI (by rw [hn, show i = ln d - 1 by omega])) dX1_inDoc_64
  · skip
    have l1 := hJ.2.1 (16 * d + i)
    have l2 := hJ.2.1 (16 * d + i + 1)
    refine lv_aload_n hx hb dX1_inDoc_19 rfl (lv_at hl 0 rfl) ?_
    refine va_get (D := D) (ci := 1) (v := .ref (ad 1)) (C := RX1) (T := TX1) (N := 10) hx hb hts in_X1 hown hK hP 0 rfl rfl 0 (by decide) (hts _ q153) (fun _ h9 => h9) rfl dX1_inDoc_20 ?_
    refine lv_bipush (v := nI 16) hx hb dX1_inDoc_23 (by decide) ?_
    refine lv_iload_n hx hb dX1_inDoc_25 rfl (lv_at hl 1 rfl) ?_
    refine nr_mul hx hb dX1_inDoc_26 ?_
    refine lv_iload hx hb dX1_inDoc_27 (lv_at hl 5 rfl) ?_
    refine nr_add hx hb dX1_inDoc_29 ?_
    refine nr_iald (f := lt) (n := 128) (i := (16 * d) + i) hx hb hK hP 1 rfl rfl (by omega) (by decide) dX1_inDoc_30 ?_
    refine lv_iload_n hx hb dX1_inDoc_31 rfl (lv_at hl 2 rfl) ?_
    refine nr_icmp_ne (tgt := 56) hx hb dX1_inDoc_32 (by decide) (by omega) (by omega) (fun c32 => ?_) (fun c32 => ?_)
    · skip
      refine lv_iinc (v := nI (i + 1)) (lv' := [(5, .int (nI (i + 1))), (0, .ref (ad 0)), (1, .int (nI d)), (2, .int (nI x0)), (3, .int (nI y0)), (4, .int (nI n))]) hx hb dX1_inDoc_56 hl (k := 5) rfl (nI_add i 1) (by decide) rfl (fun ls hl => ?_)
      refine lv_goto (tgt := 6) hx hb dX1_inDoc_59 (by decide) ?_
      exact ih6 (n, i + 1) _ _ _ ⟨(show (i + 1) ≤ ln d - 1 from by omega), (show n = cQ (dc lt d) (4 * x0 + y0) (i + 1) from by show _ = cQ (dc lt d) (4 * x0 + y0) i + if 4 * lt (16 * d + i) + lt (16 * d + i + 1) = 4 * x0 + y0 then 1 else 0; split <;> omega), hP, hD, hS, lv_sub hl [1, 2, 3, 4, 5, 0] rfl⟩ (show ln d - 1 - (i + 1) < ln d - 1 - i from by omega)
    · skip
      refine lv_aload_n hx hb dX1_inDoc_35 rfl (lv_at hl 0 rfl) ?_
      refine va_get (D := D) (ci := 1) (v := .ref (ad 1)) (C := RX1) (T := TX1) (N := 10) hx hb hts in_X1 hown hK hP 0 rfl rfl 0 (by decide) (hts _ q153) (fun _ h9 => h9) rfl dX1_inDoc_36 ?_
      refine lv_bipush (v := nI 16) hx hb dX1_inDoc_39 (by decide) ?_
      refine lv_iload_n hx hb dX1_inDoc_41 rfl (lv_at hl 1 rfl) ?_
      refine nr_mul hx hb dX1_inDoc_42 ?_
      refine lv_iload hx hb dX1_inDoc_43 (lv_at hl 5 rfl) ?_
      refine nr_add hx hb dX1_inDoc_45 ?_
      refine lv_iconst (v := nI 1) hx hb dX1_inDoc_46 (by decide) ?_
      refine nr_add hx hb dX1_inDoc_47 ?_
      refine nr_iald (f := lt) (n := 128) (i := ((16 * d) + i) + 1) hx hb hK hP 1 rfl rfl (by omega) (by decide) dX1_inDoc_48 ?_
      refine lv_iload_n hx hb dX1_inDoc_49 rfl (lv_at hl 3 rfl) ?_
      refine nr_icmp_ne (tgt := 56) hx hb dX1_inDoc_50 (by decide) (by omega) (by omega) (fun c50 => ?_) (fun c50 => ?_)
      · skip
        refine lv_iinc (v := nI (i + 1)) (lv' := [(5, .int (nI (i + 1))), (0, .ref (ad 0)), (1, .int (nI d)), (2, .int (nI x0)), (3, .int (nI y0)), (4, .int (nI n))]) hx hb dX1_inDoc_56 hl (k := 5) rfl (nI_add i 1) (by decide) rfl (fun ls hl => ?_)
        refine lv_goto (tgt := 6) hx hb dX1_inDoc_59 (by decide) ?_
        exact ih6 (n, i + 1) _ _ _ ⟨(show (i + 1) ≤ ln d - 1 from by omega), (show n = cQ (dc lt d) (4 * x0 + y0) (i + 1) from by show _ = cQ (dc lt d) (4 * x0 + y0) i + if 4 * lt (16 * d + i) + lt (16 * d + i + 1) = 4 * x0 + y0 then 1 else 0; split <;> omega), hP, hD, hS, lv_sub hl [1, 2, 3, 4, 5, 0] rfl⟩ (show ln d - 1 - (i + 1) < ln d - 1 - i from by omega)
      · skip
        refine lv_iinc (v := nI (n + 1)) (lv' := [(4, .int (nI (n + 1))), (0, .ref (ad 0)), (1, .int (nI d)), (2, .int (nI x0)), (3, .int (nI y0)), (5, .int (nI i))]) hx hb dX1_inDoc_53 hl (k := 4) rfl (nI_add n 1) (by decide) rfl (fun ls hl => ?_)
        refine lv_iinc (v := nI (i + 1)) (lv' := [(5, .int (nI (i + 1))), (4, .int (nI (n + 1))), (0, .ref (ad 0)), (1, .int (nI d)), (2, .int (nI x0)), (3, .int (nI y0))]) hx hb dX1_inDoc_56 hl (k := 5) rfl (nI_add i 1) (by decide) rfl (fun ls hl => ?_)
        refine lv_goto (tgt := 6) hx hb dX1_inDoc_59 (by decide) ?_
        exact ih6 (n + 1, i + 1) _ _ _ ⟨(show (i + 1) ≤ ln d - 1 from by omega), (show (n + 1) = cQ (dc lt d) (4 * x0 + y0) (i + 1) from by show _ = cQ (dc lt d) (4 * x0 + y0) i + if 4 * lt (16 * d + i) + lt (16 * d + i + 1) = 4 * x0 + y0 then 1 else 0; split <;> omega), hP, hD, hS, lv_sub hl [2, 3, 4, 5, 1, 0] rfl⟩ (show ln d - 1 - (i + 1) < ln d - 1 - i from by omega)
set_option maxHeartbeats 4000000 in
set_option maxRecDepth 100000 in
/-- inQuery(x, y) -/
theorem mt1_inQuery (l : Launch) (D : va_G) (ad : Nat → Nat) (cA : ClassId) (sz : Nat) (lt : Nat → Nat) (ln : Nat → Nat) (q : Nat → Nat) (ql : Nat) (lf : Nat → Nat) (lfs : Nat) (rg : Nat → Nat) (rgs : Nat) (tb : Nat → Nat) (fe : Nat) (x0 : Nat) (y0 : Nat) (hx0 : x0 < 4) (hy0 : y0 < 4) (hJ : inv1 ln lt ql q) : nMi l yX1_inQuery cX1_inQuery 5 .int 0 [.ref (ad 0), .int (nI x0), .int (nI y0)] D vwCl cA (wX1 ad cA lt ln q ql lf lfs rg rgs tb fe) sz (fun (r : Int32) (u : Unit) => r = nI (cQ q (4 * x0 + y0) (ql - 1))) (fun (u : Unit) => (wX1 ad cA lt ln q ql lf lfs rg rgs tb fe)) := by
  refine nr_metI (by decide) (Nat.le_of_ble_eq_true rfl) ?_
  intro p e s m below meth c A ls hx hb hr hml hown hlocks hts hA hK hP hD hS hl
  have hown : s.vm.findClass RX1 = some m.cls := hown
  have hl : lv_has ls 5 [(0, .ref (ad 0)), (1, .int (nI x0)), (2, .int (nI y0))] := hl
  have hP : va_P D vwCl (wX1 ad cA lt ln q ql lf lfs rg rgs tb fe) s.heap := hP
  have hq8 := hJ.2.2.1
  refine lv_iconst (v := nI 0) hx hb dX1_inQuery_0 (by decide) ?_
  refine lv_istore_n (lv' := [(3, .int (nI 0)), (0, .ref (ad 0)), (1, .int (nI x0)), (2, .int (nI y0))]) hx hb dX1_inQuery_1 rfl hl (by decide) rfl (fun ls hl => ?_)
  refine lv_iconst (v := nI 0) hx hb dX1_inQuery_2 (by decide) ?_
  refine lv_istore (lv' := [(4, .int (nI 0)), (3, .int (nI 0)), (0, .ref (ad 0)), (1, .int (nI x0)), (2, .int (nI y0))]) hx hb dX1_inQuery_3 hl (by decide) rfl (fun ls hl => ?_)
  refine nr_loop (σ := Nat × Nat) (fun v H locs ls => (fun (n : Nat) (i : Nat) => (i ≤ ql - 1) ∧ (n = cQ q (4 * x0 + y0) i) ∧ va_P D vwCl (wX1 ad cA lt ln q ql lf lfs rg rgs tb fe) H ∧ va_D A (wX1 ad cA lt ln q ql lf lfs rg rgs tb fe) ∧ va_S A s.heap H locs ∧ lv_has ls 5 [(0, .ref (ad 0)), (1, .int (nI x0)), (2, .int (nI y0)), (3, .int (nI n)), (4, .int (nI i))]) v.1 v.2) (fun v => (fun (n : Nat) (i : Nat) => ql - 1 - i) v.1 v.2) ?_ (0, 0) ⟨(show 0 ≤ ql - 1 from by omega), (show 0 = cQ q (4 * x0 + y0) 0 from rfl), hP, hD, hS, lv_sub hl [2, 3, 4, 1, 0] rfl⟩
  intro v H locs ls hv ih5
  obtain ⟨n, i⟩ := v
  obtain ⟨hi, hn, hP, hD, hS, hl⟩ := hv
  have hi : i ≤ ql - 1 := hi
  have hn : n = cQ q (4 * x0 + y0) i := hn
  have hP : va_P D vwCl (wX1 ad cA lt ln q ql lf lfs rg rgs tb fe) H := hP
  have hD : va_D A (wX1 ad cA lt ln q ql lf lfs rg rgs tb fe) := hD
  have hl : lv_has ls 5 [(0, .ref (ad 0)), (1, .int (nI x0)), (2, .int (nI y0)), (3, .int (nI n)), (4, .int (nI i))] := hl
  refine lv_iload hx hb dX1_inQuery_5 (lv_at hl 4 rfl) ?_
  refine lv_iconst (v := nI 1) hx hb dX1_inQuery_7 (by decide) ?_
  refine nr_add hx hb dX1_inQuery_8 ?_
  refine lv_aload_n hx hb dX1_inQuery_9 rfl (lv_at hl 0 rfl) ?_
  refine va_get (D := D) (ci := 1) (v := .int (nI ql)) (C := RX1) (T := TX1) (N := 10) hx hb hts in_X1 hown hK hP 0 rfl rfl 3 (by decide) (hts _ q156) (fun _ h9 => h9) rfl dX1_inQuery_10 ?_
  refine nr_icmp_ge (tgt := 49) hx hb dX1_inQuery_13 (by decide) (by omega) (by omega) (fun c13 => ?_) (fun c13 => ?_)
  · skip
    refine lv_iload_n hx hb dX1_inQuery_49 rfl (lv_at hl 3 rfl) ?_
    exact nr_iret hx hb hr hlocks hK () hP hD hS (show (nI n) = nI (cQ q (4 * x0 + y0) (ql - 1)) from congrArg nI (by rw [hn, show i = ql - 1 by omega])) dX1_inQuery_50
  · skip
    have l1 := hJ.2.2.2 i
    have l2 := hJ.2.2.2 (i + 1)
    refine lv_aload_n hx hb dX1_inQuery_16 rfl (lv_at hl 0 rfl) ?_
    refine va_get (D := D) (ci := 1) (v := .ref (ad 3)) (C := RX1) (T := TX1) (N := 10) hx hb hts in_X1 hown hK hP 0 rfl rfl 2 (by decide) (hts _ q155) (fun _ h9 => h9) rfl dX1_inQuery_17 ?_
    refine lv_iload hx hb dX1_inQuery_20 (lv_at hl 4 rfl) ?_
    refine nr_iald (f := q) (n := 8) (i := i) hx hb hK hP 3 rfl rfl (by omega) (by decide) dX1_inQuery_22 ?_
    refine lv_iload_n hx hb dX1_inQuery_23 rfl (lv_at hl 1 rfl) ?_
    refine nr_icmp_ne (tgt := 43) hx hb dX1_inQuery_24 (by decide) (by omega) (by omega) (fun c24 => ?_) (fun c24 => ?_)
    · skip
      refine lv_iinc (v := nI (i + 1)) (lv' := [(4, .int (nI (i + 1))), (0, .ref (ad 0)), (1, .int (nI x0)), (2, .int (nI y0)), (3, .int (nI n))]) hx hb dX1_inQuery_43 hl (k := 4) rfl (nI_add i 1) (by decide) rfl (fun ls hl => ?_)
      refine lv_goto (tgt := 5) hx hb dX1_inQuery_46 (by decide) ?_
      exact ih5 (n, i + 1) _ _ _ ⟨(show (i + 1) ≤ ql - 1 from by omega), (show n = cQ q (4 * x0 + y0) (i + 1) from by show _ = cQ q (4 * x0 + y0) i + if 4 * q i + q (i + 1) = 4 * x0 + y0 then 1 else 0; split <;> omega), hP, hD, hS, lv_sub hl [1, 2, 3, 4, 0] rfl⟩ (show ql - 1 - (i + 1) < ql - 1 - i from by omega)
    · skip
      refine lv_aload_n hx hb dX1_inQuery_27 rfl (lv_at hl 0 rfl) ?_
      refine va_get (D := D) (ci := 1) (v := .ref (ad 3)) (C := RX1) (T := TX1) (N := 10) hx hb hts in_X1 hown hK hP 0 rfl rfl 2 (by decide) (hts _ q155) (fun _ h9 => h9) rfl dX1_inQuery_28 ?_
      refine lv_iload hx hb dX1_inQuery_31 (lv_at hl 4 rfl) ?_
      refine lv_iconst (v := nI 1) hx hb dX1_inQuery_33 (by decide) ?_
      refine nr_add hx hb dX1_inQuery_34 ?_
      refine nr_iald (f := q) (n := 8) (i := i + 1) hx hb hK hP 3 rfl rfl (by omega) (by decide) dX1_inQuery_35 ?_
      refine lv_iload_n hx hb dX1_inQuery_36 rfl (lv_at hl 2 rfl) ?_
      refine nr_icmp_ne (tgt := 43) hx hb dX1_inQuery_37 (by decide) (by omega) (by omega) (fun c37 => ?_) (fun c37 => ?_)
      · skip
        refine lv_iinc (v := nI (i + 1)) (lv' := [(4, .int (nI (i + 1))), (0, .ref (ad 0)), (1, .int (nI x0)), (2, .int (nI y0)), (3, .int (nI n))]) hx hb dX1_inQuery_43 hl (k := 4) rfl (nI_add i 1) (by decide) rfl (fun ls hl => ?_)
        refine lv_goto (tgt := 5) hx hb dX1_inQuery_46 (by decide) ?_
        exact ih5 (n, i + 1) _ _ _ ⟨(show (i + 1) ≤ ql - 1 from by omega), (show n = cQ q (4 * x0 + y0) (i + 1) from by show _ = cQ q (4 * x0 + y0) i + if 4 * q i + q (i + 1) = 4 * x0 + y0 then 1 else 0; split <;> omega), hP, hD, hS, lv_sub hl [1, 2, 3, 4, 0] rfl⟩ (show ql - 1 - (i + 1) < ql - 1 - i from by omega)
      · skip
        refine lv_iinc (v := nI (n + 1)) (lv' := [(3, .int (nI (n + 1))), (0, .ref (ad 0)), (1, .int (nI x0)), (2, .int (nI y0)), (4, .int (nI i))]) hx hb dX1_inQuery_40 hl (k := 3) rfl (nI_add n 1) (by decide) rfl (fun ls hl => ?_)
        refine lv_iinc (v := nI (i + 1)) (lv' := [(4, .int (nI (i + 1))), (3, .int (nI (n + 1))), (0, .ref (ad 0)), (1, .int (nI x0)), (2, .int (nI y0))]) hx hb dX1_inQuery_43 hl (k := 4) rfl (nI_add i 1) (by decide) rfl (fun ls hl => ?_)
        refine lv_goto (tgt := 5) hx hb dX1_inQuery_46 (by decide) ?_
        exact ih5 (n + 1, i + 1) _ _ _ ⟨(show (i + 1) ≤ ql - 1 from by omega), (show (n + 1) = cQ q (4 * x0 + y0) (i + 1) from by show _ = cQ q (4 * x0 + y0) i + if 4 * q i + q (i + 1) = 4 * x0 + y0 then 1 else 0; split <;> omega), hP, hD, hS, lv_sub hl [2, 3, 4, 1, 0] rfl⟩ (show ql - 1 - (i + 1) < ql - 1 - i from by omega)
set_option maxHeartbeats 4000000 in
set_option maxRecDepth 100000 in
/-- pairs(doc) -/
theorem mt1_pairs (l : Launch) (D : va_G) (ad : Nat → Nat) (cA : ClassId) (sz : Nat) (lt : Nat → Nat) (ln : Nat → Nat) (q : Nat → Nat) (ql : Nat) (lf : Nat → Nat) (lfs : Nat) (rg : Nat → Nat) (rgs : Nat) (tb : Nat → Nat) (fe : Nat) (p0 : Int32) (hJ : inv1 ln lt ql q) : nMi l yX1_pairs cX1_pairs 6 .int 1 [.ref (ad 0), .int p0] D vwCl cA (wX1 ad cA lt ln q ql lf lfs rg rgs tb fe) sz (fun (r : Int32) (u : Unit) => r = sD1 (gPa ln lt ql q) p0) (fun (u : Unit) => (wX1 ad cA lt ln q ql lf lfs rg rgs tb fe)) := by
  refine nr_metI (by decide) (Nat.le_of_ble_eq_true rfl) ?_
  intro p e s m below meth c A ls hx hb hr hml hown hlocks hts hA hK hP hD hS hl
  have hown : s.vm.findClass RX1 = some m.cls := hown
  have hl : lv_has ls 6 [(0, .ref (ad 0)), (1, .int p0)] := hl
  have hP : va_P D vwCl (wX1 ad cA lt ln q ql lf lfs rg rgs tb fe) s.heap := hP
  by_cases hin : inD p0
  · skip
    obtain ⟨d, hd, ed⟩ := inD_of hin
    subst ed
    have hln := hJ.1 d hd
    have hq8 := hJ.2.2.1
    refine lv_iload_n hx hb dX1_pairs_0 rfl (lv_at hl 1 rfl) ?_
    refine nr_callSi (rest := []) ⟨hx, hb, hml, hown, hts⟩ hK hP hD hS hA 1 [.int (nI d)] (mt1_bad l D cA _ (nI d) ) (lw_S q188 q189 q16 q190) (by decide +kernel) ⟨Nat.le_of_ble_eq_true rfl, Nat.le_of_ble_eq_true rfl⟩ rfl hl.1 rfl (Nat.le_of_ble_eq_true rfl) dX1_pairs_1 ⟨Nat.zero_le _, Nat.zero_le _⟩ (fun r1 H locs hw1 hP hD hS => ?_)
    have hw1 : r1 = nI (if inD (nI d) then 0 else 1) := hw1
    have e1 : r1 = nI 0 := hw1.trans (congrArg nI (if_pos (inD_nI hd)))
    subst e1
    refine nr_if_eq (tgt := 9) hx hb dX1_pairs_4 (by decide) (by omega) (fun c4 => ?_) (fun c4 => ?_)
    · skip
      refine lv_iconst (v := nI 0) hx hb dX1_pairs_9 (by decide) ?_
      refine lv_istore_n (lv' := [(2, .int (nI 0)), (0, .ref (ad 0)), (1, .int (nI d))]) hx hb dX1_pairs_10 rfl hl (by decide) rfl (fun ls hl => ?_)
      refine lv_iconst (v := nI 0) hx hb dX1_pairs_11 (by decide) ?_
      refine lv_istore_n (lv' := [(3, .int (nI 0)), (2, .int (nI 0)), (0, .ref (ad 0)), (1, .int (nI d))]) hx hb dX1_pairs_12 rfl hl (by decide) rfl (fun ls hl => ?_)
      refine nr_loop (σ := Nat × Nat) (fun v H locs ls => (fun (n : Nat) (k : Nat) => (k ≤ 16) ∧ (n = shP q ql (dc lt d) (ln d) k) ∧ va_P D vwCl (wX1 ad cA lt ln q ql lf lfs rg rgs tb fe) H ∧ va_D A (wX1 ad cA lt ln q ql lf lfs rg rgs tb fe) ∧ va_S A s.heap H locs ∧ lv_has ls 6 [(0, .ref (ad 0)), (1, .int (nI d)), (2, .int (nI n)), (3, .int (nI k))]) v.1 v.2) (fun v => (fun (n : Nat) (k : Nat) => 16 - k) v.1 v.2) ?_ (0, 0) ⟨(show 0 ≤ 16 from by omega), (show 0 = shP q ql (dc lt d) (ln d) 0 from rfl), hP, hD, hS, lv_sub hl [2, 3, 1, 0] rfl⟩
      intro v H locs ls hv ih13
      obtain ⟨n, k⟩ := v
      obtain ⟨hk, hn, hP, hD, hS, hl⟩ := hv
      have hk : k ≤ 16 := hk
      have hn : n = shP q ql (dc lt d) (ln d) k := hn
      have hP : va_P D vwCl (wX1 ad cA lt ln q ql lf lfs rg rgs tb fe) H := hP
      have hD : va_D A (wX1 ad cA lt ln q ql lf lfs rg rgs tb fe) := hD
      have hl : lv_has ls 6 [(0, .ref (ad 0)), (1, .int (nI d)), (2, .int (nI n)), (3, .int (nI k))] := hl
      refine lv_iload_n hx hb dX1_pairs_13 rfl (lv_at hl 3 rfl) ?_
      refine lv_bipush (v := nI 16) hx hb dX1_pairs_14 (by decide) ?_
      refine nr_icmp_ge (tgt := 67) hx hb dX1_pairs_16 (by decide) (by omega) (by omega) (fun c16 => ?_) (fun c16 => ?_)
      · skip
        refine lv_iload_n hx hb dX1_pairs_67 rfl (lv_at hl 2 rfl) ?_
        exact nr_iret hx hb hr hlocks hK () hP hD hS (show (nI n) = sD1 (gPa ln lt ql q) (nI d) from by rw [sD1_in (gPa ln lt ql q) hd, hn, show k = 16 by omega]) dX1_pairs_68
      · skip
        refine lv_aload_n hx hb dX1_pairs_19 rfl (lv_at hl 0 rfl) ?_
        refine lv_iload_n hx hb dX1_pairs_20 rfl (lv_at hl 3 rfl) ?_
        refine lv_iconst (v := nI 4) hx hb dX1_pairs_21 (by decide) ?_
        refine nr_div hx hb dX1_pairs_22 (by omega) (by decide) (by decide) ?_
        refine lv_iload_n hx hb dX1_pairs_23 rfl (lv_at hl 3 rfl) ?_
        refine lv_iconst (v := nI 4) hx hb dX1_pairs_24 (by decide) ?_
        refine nr_rem hx hb dX1_pairs_25 (by omega) (by decide) (by decide) ?_
        refine nr_callVi (C := RX1) (T := TX1) (N := 10) (ci := 1) (rest := []) (wr := []) ⟨hx, hb, hml, hown, hts⟩ hK hP hD hS hA [0, 1, 2, 3, 4, 5, 6] [] rfl rfl (by decide) (by decide) (by decide) 2 [.int (nI (k / 4)), .int (nI (k % 4))] (mt1_inQuery l D ad cA _ lt ln q ql lf lfs rg rgs tb fe (k / 4) (k % 4) (by omega) (by omega) hJ) (lw_V q251 q253 qs12 q16 q254) (by decide +kernel) ⟨Nat.le_of_ble_eq_true rfl, Nat.le_of_ble_eq_true rfl⟩ rfl 0 rfl rfl hl.1 rfl (Nat.le_of_ble_eq_true rfl) dX1_pairs_26 ⟨Nat.zero_le _, Nat.zero_le _⟩ (fun r26 u H locs hw26 hP hD hS => ?_)
        have hw26 : r26 = nI (cQ q (4 * (k / 4) + (k % 4)) (ql - 1)) := hw26
        have hP : va_P D vwCl (wX1 ad cA lt ln q ql lf lfs rg rgs tb fe) H := hP
        have hD : va_D A (wX1 ad cA lt ln q ql lf lfs rg rgs tb fe) := hD
        have e26 : r26 = nI (cQ q k (ql - 1)) := hw26.trans (congrArg nI (by rw [show 4 * (k / 4) + k % 4 = k by omega]))
        subst e26
        have b1 := cQ_le q k (ql - 1)
        refine lv_istore (lv' := [(4, .int (nI (cQ q k (ql - 1)))), (0, .ref (ad 0)), (1, .int (nI d)), (2, .int (nI n)), (3, .int (nI k))]) hx hb dX1_pairs_29 hl (by decide) rfl (fun ls hl => ?_)
        refine lv_aload_n hx hb dX1_pairs_31 rfl (lv_at hl 1 rfl) ?_
        refine lv_iload_n hx hb dX1_pairs_32 rfl (lv_at hl 2 rfl) ?_
        refine lv_iload_n hx hb dX1_pairs_33 rfl (lv_at hl 4 rfl) ?_
        refine lv_iconst (v := nI 4) hx hb dX1_pairs_34 (by decide) ?_
        refine nr_div hx hb dX1_pairs_35 (by omega) (by decide) (by decide) ?_
        refine lv_iload_n hx hb dX1_pairs_36 rfl (lv_at hl 4 rfl) ?_
        refine lv_iconst (v := nI 4) hx hb dX1_pairs_37 (by decide) ?_
        refine nr_rem hx hb dX1_pairs_38 (by omega) (by decide) (by decide) ?_
        refine nr_callVi (C := RX1) (T := TX1) (N := 10) (ci := 1) (rest := []) (wr := []) ⟨hx, hb, hml, hown, hts⟩ hK hP hD hS hA [0, 1, 2, 3, 4, 5, 6] [] rfl rfl (by decide) (by decide) (by decide) 3 [.int (nI d), .int (nI (k / 4)), .int (nI (k % 4))] (mt1_inDoc l D ad cA _ lt ln q ql lf lfs rg rgs tb fe d (k / 4) (k % 4) hd (by omega) (by omega) hJ) (lw_V q255 q257 qs13 q16 q258) (by decide +kernel) ⟨Nat.le_of_ble_eq_true rfl, Nat.le_of_ble_eq_true rfl⟩ rfl 0 rfl rfl hl.1 rfl (Nat.le_of_ble_eq_true rfl) dX1_pairs_39 ⟨Nat.zero_le _, Nat.zero_le _⟩ (fun r39 u H locs hw39 hP hD hS => ?_)
        have hw39 : r39 = nI (cQ (dc lt d) (4 * (k / 4) + (k % 4)) (ln d - 1)) := hw39
        have hP : va_P D vwCl (wX1 ad cA lt ln q ql lf lfs rg rgs tb fe) H := hP
        have hD : va_D A (wX1 ad cA lt ln q ql lf lfs rg rgs tb fe) := hD
        have e39 : r39 = nI (cQ (dc lt d) k (ln d - 1)) := hw39.trans (congrArg nI (by rw [show 4 * (k / 4) + k % 4 = k by omega]))
        subst e39
        have b2 := cQ_le (dc lt d) k (ln d - 1)
        refine lv_istore (lv' := [(5, .int (nI (cQ (dc lt d) k (ln d - 1)))), (4, .int (nI (cQ q k (ql - 1)))), (0, .ref (ad 0)), (1, .int (nI d)), (2, .int (nI n)), (3, .int (nI k))]) hx hb dX1_pairs_42 hl (by decide) rfl (fun ls hl => ?_)
        refine lv_iload_n hx hb dX1_pairs_44 rfl (lv_at hl 4 rfl) ?_
        refine lv_iload hx hb dX1_pairs_45 (lv_at hl 1 rfl) ?_
        refine lv_iload hx hb dX1_pairs_47 (lv_at hl 0 rfl) ?_
        refine nr_cut (F0 m 59 ls [.int (nI (min (cQ q k (ql - 1)) (cQ (dc lt d) k (ln d - 1)))), .int (nI n)]) ?_ (fun J59 => ?_)
        · skip
          refine nr_add hx hb dX1_pairs_59 ?_
          refine lv_istore_n (lv' := [(2, .int (nI (n + (min (cQ q k (ql - 1)) (cQ (dc lt d) k (ln d - 1)))))), (5, .int (nI (cQ (dc lt d) k (ln d - 1)))), (4, .int (nI (cQ q k (ql - 1)))), (0, .ref (ad 0)), (1, .int (nI d)), (3, .int (nI k))]) hx hb dX1_pairs_60 rfl hl (by decide) rfl (fun ls hl => ?_)
          refine lv_iinc (v := nI (k + 1)) (lv' := [(3, .int (nI (k + 1))), (2, .int (nI (n + (min (cQ q k (ql - 1)) (cQ (dc lt d) k (ln d - 1)))))), (5, .int (nI (cQ (dc lt d) k (ln d - 1)))), (4, .int (nI (cQ q k (ql - 1)))), (0, .ref (ad 0)), (1, .int (nI d))]) hx hb dX1_pairs_61 hl (k := 5) rfl (nI_add k 1) (by decide) rfl (fun ls hl => ?_)
          refine lv_goto (tgt := 13) hx hb dX1_pairs_64 (by decide) ?_
          exact ih13 (n + (min (cQ q k (ql - 1)) (cQ (dc lt d) k (ln d - 1))), k + 1) _ _ _ ⟨(show (k + 1) ≤ 16 from by omega), (show (n + (min (cQ q k (ql - 1)) (cQ (dc lt d) k (ln d - 1)))) = shP q ql (dc lt d) (ln d) (k + 1) from by rw [hn]; rfl), hP, hD, hS, lv_sub hl [4, 5, 1, 0] rfl⟩ (show 16 - (k + 1) < 16 - k from by omega)
        refine nr_icmp_ge (tgt := 57) hx hb dX1_pairs_49 (by decide) (by omega) (by omega) (fun c49 => ?_) (fun c49 => ?_)
        · skip
          refine lv_iload hx hb dX1_pairs_57 (lv_at hl 0 rfl) ?_
          exact nr_as (show nI (cQ (dc lt d) k (ln d - 1)) = nI (min (cQ q k (ql - 1)) (cQ (dc lt d) k (ln d - 1))) from congrArg nI (by omega)) J59
        · skip
          refine lv_iload hx hb dX1_pairs_52 (lv_at hl 1 rfl) ?_
          refine lv_goto (tgt := 59) hx hb dX1_pairs_54 (by decide) ?_
          exact nr_as (show nI (cQ q k (ql - 1)) = nI (min (cQ q k (ql - 1)) (cQ (dc lt d) k (ln d - 1))) from congrArg nI (by omega)) J59
    · skip
      exact absurd c4 (by decide)
  · skip
    refine lv_iload_n hx hb dX1_pairs_0 rfl (lv_at hl 1 rfl) ?_
    refine nr_callSi (rest := []) ⟨hx, hb, hml, hown, hts⟩ hK hP hD hS hA 1 [.int p0] (mt1_bad l D cA _ p0 ) (lw_S q188 q189 q16 q190) (by decide +kernel) ⟨Nat.le_of_ble_eq_true rfl, Nat.le_of_ble_eq_true rfl⟩ rfl hl.1 rfl (Nat.le_of_ble_eq_true rfl) dX1_pairs_1 ⟨Nat.zero_le _, Nat.zero_le _⟩ (fun r1 H locs hw1 hP hD hS => ?_)
    have hw1 : r1 = nI (if inD p0 then 0 else 1) := hw1
    have e1 : r1 = nI 1 := hw1.trans (congrArg nI (if_neg hin))
    subst e1
    refine nr_if_eq (tgt := 9) hx hb dX1_pairs_4 (by decide) (by omega) (fun c4 => ?_) (fun c4 => ?_)
    · skip
      exact absurd c4 (by decide)
    · skip
      refine lv_iconst (v := (-1)) hx hb dX1_pairs_7 (by decide) ?_
      exact nr_iret hx hb hr hlocks hK () hP hD hS (show (-1) = sD1 (gPa ln lt ql q) p0 from (sD1_out _ hin).symm) dX1_pairs_8
set_option maxHeartbeats 4000000 in
set_option maxRecDepth 100000 in
/-- within(errors) -/
theorem mt1_within (l : Launch) (D : va_G) (ad : Nat → Nat) (cA : ClassId) (sz : Nat) (lt : Nat → Nat) (ln : Nat → Nat) (q : Nat → Nat) (ql : Nat) (lf : Nat → Nat) (lfs : Nat) (rg : Nat → Nat) (rgs : Nat) (tb : Nat → Nat) (fe : Nat) (er : Int32) (hJ : inv1 ln lt ql q) : nMi l yX1_within cX1_within 4 .int 3 [.ref (ad 0), .int er] D vwCl cA (wX1 ad cA lt ln q ql lf lfs rg rgs tb fe) sz (fun (r : Int32) (u : (Nat → Nat) × Nat × (Nat → Nat) × Nat × (Nat → Nat) × Nat) => (fun (lf' : Nat → Nat) (lfs' : Nat) (rg' : Nat → Nat) (rgs' : Nat) (tb' : Nat → Nat) (fe' : Nat) => r = nI (cW (gDi ln lt ql q) er 8)) u.1 u.2.1 u.2.2.1 u.2.2.2.1 u.2.2.2.2.1 u.2.2.2.2.2) (fun (u : (Nat → Nat) × Nat × (Nat → Nat) × Nat × (Nat → Nat) × Nat) => (fun (lf' : Nat → Nat) (lfs' : Nat) (rg' : Nat → Nat) (rgs' : Nat) (tb' : Nat → Nat) (fe' : Nat) => (wX1 ad cA lt ln q ql lf' lfs' rg' rgs' tb' fe')) u.1 u.2.1 u.2.2.1 u.2.2.2.1 u.2.2.2.2.1 u.2.2.2.2.2) := by
  refine nr_metI (by decide) (Nat.le_of_ble_eq_true rfl) ?_
  intro p e s m below meth c A ls hx hb hr hml hown hlocks hts hA hK hP hD hS hl
  have hown : s.vm.findClass RX1 = some m.cls := hown
  have hl : lv_has ls 4 [(0, .ref (ad 0)), (1, .int er)] := hl
  have hP : va_P D vwCl (wX1 ad cA lt ln q ql lf lfs rg rgs tb fe) s.heap := hP
  have hq8 := hJ.2.2.1
  refine lv_iconst (v := nI 0) hx hb dX1_within_0 (by decide) ?_
  refine lv_istore_n (lv' := [(2, .int (nI 0)), (0, .ref (ad 0)), (1, .int er)]) hx hb dX1_within_1 rfl hl (by decide) rfl (fun ls hl => ?_)
  refine lv_iconst (v := nI 0) hx hb dX1_within_2 (by decide) ?_
  refine lv_istore_n (lv' := [(3, .int (nI 0)), (2, .int (nI 0)), (0, .ref (ad 0)), (1, .int er)]) hx hb dX1_within_3 rfl hl (by decide) rfl (fun ls hl => ?_)
  refine nr_loop (σ := Nat × Nat × (Nat → Nat) × Nat × (Nat → Nat) × Nat × (Nat → Nat) × Nat) (fun v H locs ls => (fun (n : Nat) (d : Nat) (lf : Nat → Nat) (lfs : Nat) (rg : Nat → Nat) (rgs : Nat) (tb : Nat → Nat) (fe : Nat) => (d ≤ 8) ∧ (n = cW (gDi ln lt ql q) er d) ∧ va_P D vwCl (wX1 ad cA lt ln q ql lf lfs rg rgs tb fe) H ∧ va_D A (wX1 ad cA lt ln q ql lf lfs rg rgs tb fe) ∧ va_S A s.heap H locs ∧ lv_has ls 4 [(0, .ref (ad 0)), (1, .int er), (2, .int (nI n)), (3, .int (nI d))]) v.1 v.2.1 v.2.2.1 v.2.2.2.1 v.2.2.2.2.1 v.2.2.2.2.2.1 v.2.2.2.2.2.2.1 v.2.2.2.2.2.2.2) (fun v => (fun (n : Nat) (d : Nat) (lf : Nat → Nat) (lfs : Nat) (rg : Nat → Nat) (rgs : Nat) (tb : Nat → Nat) (fe : Nat) => 8 - d) v.1 v.2.1 v.2.2.1 v.2.2.2.1 v.2.2.2.2.1 v.2.2.2.2.2.1 v.2.2.2.2.2.2.1 v.2.2.2.2.2.2.2) ?_ (0, 0, lf, lfs, rg, rgs, tb, fe) ⟨(show 0 ≤ 8 from by omega), (show 0 = cW (gDi ln lt ql q) er 0 from rfl), hP, hD, hS, lv_sub hl [2, 3, 1, 0] rfl⟩
  intro v H locs ls hv ih4
  obtain ⟨n, d, lf, lfs, rg, rgs, tb, fe⟩ := v
  obtain ⟨hd8, hn, hP, hD, hS, hl⟩ := hv
  have hd8 : d ≤ 8 := hd8
  have hn : n = cW (gDi ln lt ql q) er d := hn
  have hP : va_P D vwCl (wX1 ad cA lt ln q ql lf lfs rg rgs tb fe) H := hP
  have hD : va_D A (wX1 ad cA lt ln q ql lf lfs rg rgs tb fe) := hD
  have hl : lv_has ls 4 [(0, .ref (ad 0)), (1, .int er), (2, .int (nI n)), (3, .int (nI d))] := hl
  refine lv_iload_n hx hb dX1_within_4 rfl (lv_at hl 3 rfl) ?_
  refine lv_bipush (v := nI 8) hx hb dX1_within_5 (by decide) ?_
  refine nr_icmp_ge (tgt := 28) hx hb dX1_within_7 (by decide) (by omega) (by omega) (fun c7 => ?_) (fun c7 => ?_)
  · skip
    refine lv_iload_n hx hb dX1_within_28 rfl (lv_at hl 2 rfl) ?_
    exact nr_iret hx hb hr hlocks hK (lf, lfs, rg, rgs, tb, fe) hP hD hS (show (nI n) = nI (cW (gDi ln lt ql q) er 8) from by rw [hn, show d = 8 by omega]) dX1_within_29
  · skip
    refine lv_aload_n hx hb dX1_within_10 rfl (lv_at hl 0 rfl) ?_
    refine lv_iload_n hx hb dX1_within_11 rfl (lv_at hl 3 rfl) ?_
    refine nr_callVi (C := RX1) (T := TX1) (N := 10) (ci := 1) (rest := []) (wr := []) ⟨hx, hb, hml, hown, hts⟩ hK hP hD hS hA [0, 1, 2, 3, 4, 5, 6] [] rfl rfl (by decide) (by decide) (by decide) 1 [.int (nI d)] (mt1_search l D ad cA _ lt ln q ql lf lfs rg rgs tb fe d (by omega) hJ) (lw_V q207 q209 qs7 q16 q210) (by decide +kernel) ⟨Nat.le_of_ble_eq_true rfl, Nat.le_of_ble_eq_true rfl⟩ rfl 0 rfl rfl hl.1 rfl (Nat.le_of_ble_eq_true rfl) dX1_within_12 ⟨Nat.zero_le _, Nat.zero_le _⟩ (fun r12 u H locs hw12 hP hD hS => ?_)
    obtain ⟨lf12, lfs12, rg12, rgs12, tb12, fe12⟩ := u
    have hw12 : r12 = nI (bDi q (dc lt d) ql (ln d)) ∧ fe12 = bEn q (dc lt d) ql (ln d) := hw12
    have hP : va_P D vwCl (wX1 ad cA lt ln q ql lf12 lfs12 rg12 rgs12 tb12 fe12) H := hP
    have hD : va_D A (wX1 ad cA lt ln q ql lf12 lfs12 rg12 rgs12 tb12 fe12) := hD
    obtain ⟨z1, z2⟩ := hw12
    subst z1; subst z2
    have hP : va_P D vwCl (wX1 ad cA lt ln q ql lf12 lfs12 rg12 rgs12 tb12 (bEn q (dc lt d) ql (ln d))) H := hP
    have hD : va_D A (wX1 ad cA lt ln q ql lf12 lfs12 rg12 rgs12 tb12 (bEn q (dc lt d) ql (ln d))) := hD
    refine lv_iload_n hx hb dX1_within_15 rfl (lv_at hl 1 rfl) ?_
    refine lv_icmp_gt (tgt := 22) hx hb dX1_within_16 (by decide) (fun c16 => ?_) (fun c16 => ?_)
    · skip
      refine lv_iinc (v := nI (d + 1)) (lv' := [(3, .int (nI (d + 1))), (0, .ref (ad 0)), (1, .int er), (2, .int (nI n))]) hx hb dX1_within_22 hl (k := 3) rfl (nI_add d 1) (by decide) rfl (fun ls hl => ?_)
      refine lv_goto (tgt := 4) hx hb dX1_within_25 (by decide) ?_
      exact ih4 (n, d + 1, lf12, lfs12, rg12, rgs12, tb12, bEn q (dc lt d) ql (ln d)) _ _ _ ⟨(show (d + 1) ≤ 8 from by omega), (show n = cW (gDi ln lt ql q) er (d + 1) from by show _ = cW (gDi ln lt ql q) er d + (if nI (bDi q (dc lt d) ql (ln d)) ≤ er then 1 else 0); first | (rw [if_neg (Int32.not_le.mpr c16)]; omega) | (rw [if_pos (Int32.not_lt.mp c16)]; omega)), hP, hD, hS, lv_sub hl [1, 2, 3, 0] rfl⟩ (show 8 - (d + 1) < 8 - d from by omega)
    · skip
      refine lv_iinc (v := nI (n + 1)) (lv' := [(2, .int (nI (n + 1))), (0, .ref (ad 0)), (1, .int er), (3, .int (nI d))]) hx hb dX1_within_19 hl (k := 2) rfl (nI_add n 1) (by decide) rfl (fun ls hl => ?_)
      refine lv_iinc (v := nI (d + 1)) (lv' := [(3, .int (nI (d + 1))), (2, .int (nI (n + 1))), (0, .ref (ad 0)), (1, .int er)]) hx hb dX1_within_22 hl (k := 3) rfl (nI_add d 1) (by decide) rfl (fun ls hl => ?_)
      refine lv_goto (tgt := 4) hx hb dX1_within_25 (by decide) ?_
      exact ih4 (n + 1, d + 1, lf12, lfs12, rg12, rgs12, tb12, bEn q (dc lt d) ql (ln d)) _ _ _ ⟨(show (d + 1) ≤ 8 from by omega), (show (n + 1) = cW (gDi ln lt ql q) er (d + 1) from by show _ = cW (gDi ln lt ql q) er d + (if nI (bDi q (dc lt d) ql (ln d)) ≤ er then 1 else 0); first | (rw [if_neg (Int32.not_le.mpr c16)]; omega) | (rw [if_pos (Int32.not_lt.mp c16)]; omega)), hP, hD, hS, lv_sub hl [2, 3, 1, 0] rfl⟩ (show 8 - (d + 1) < 8 - d from by omega)
set_option maxHeartbeats 4000000 in
set_option maxRecDepth 100000 in
/-- nearest() -/
theorem mt1_nearest (l : Launch) (D : va_G) (ad : Nat → Nat) (cA : ClassId) (sz : Nat) (lt : Nat → Nat) (ln : Nat → Nat) (q : Nat → Nat) (ql : Nat) (lf : Nat → Nat) (lfs : Nat) (rg : Nat → Nat) (rgs : Nat) (tb : Nat → Nat) (fe : Nat) (hJ : inv1 ln lt ql q) : nMi l yX1_nearest cX1_nearest 5 .int 3 [.ref (ad 0)] D vwCl cA (wX1 ad cA lt ln q ql lf lfs rg rgs tb fe) sz (fun (r : Int32) (u : (Nat → Nat) × Nat × (Nat → Nat) × Nat × (Nat → Nat) × Nat) => (fun (lf' : Nat → Nat) (lfs' : Nat) (rg' : Nat → Nat) (rgs' : Nat) (tb' : Nat → Nat) (fe' : Nat) => r = nI (nB0 (gDi ln lt ql q) 8)) u.1 u.2.1 u.2.2.1 u.2.2.2.1 u.2.2.2.2.1 u.2.2.2.2.2) (fun (u : (Nat → Nat) × Nat × (Nat → Nat) × Nat × (Nat → Nat) × Nat) => (fun (lf' : Nat → Nat) (lfs' : Nat) (rg' : Nat → Nat) (rgs' : Nat) (tb' : Nat → Nat) (fe' : Nat) => (wX1 ad cA lt ln q ql lf' lfs' rg' rgs' tb' fe')) u.1 u.2.1 u.2.2.1 u.2.2.2.1 u.2.2.2.2.1 u.2.2.2.2.2) := by
  refine nr_metI (by decide) (Nat.le_of_ble_eq_true rfl) ?_
  intro p e s m below meth c A ls hx hb hr hml hown hlocks hts hA hK hP hD hS hl
  have hown : s.vm.findClass RX1 = some m.cls := hown
  have hl : lv_has ls 5 [(0, .ref (ad 0))] := hl
  have hP : va_P D vwCl (wX1 ad cA lt ln q ql lf lfs rg rgs tb fe) s.heap := hP
  have hq8 := hJ.2.2.1
  refine lv_iconst (v := nI 0) hx hb dX1_nearest_0 (by decide) ?_
  refine lv_istore_n (lv' := [(1, .int (nI 0)), (0, .ref (ad 0))]) hx hb dX1_nearest_1 rfl hl (by decide) rfl (fun ls hl => ?_)
  refine lv_bipush (v := nI 100) hx hb dX1_nearest_2 (by decide) ?_
  refine lv_istore_n (lv' := [(2, .int (nI 100)), (1, .int (nI 0)), (0, .ref (ad 0))]) hx hb dX1_nearest_4 rfl hl (by decide) rfl (fun ls hl => ?_)
  refine lv_iconst (v := nI 0) hx hb dX1_nearest_5 (by decide) ?_
  refine lv_istore_n (lv' := [(3, .int (nI 0)), (2, .int (nI 100)), (1, .int (nI 0)), (0, .ref (ad 0))]) hx hb dX1_nearest_6 rfl hl (by decide) rfl (fun ls hl => ?_)
  refine nr_loop (σ := Nat × Nat × Nat × (Nat → Nat) × Nat × (Nat → Nat) × Nat × (Nat → Nat) × Nat) (fun v H locs ls => (fun (b : Nat) (le : Nat) (d : Nat) (lf : Nat → Nat) (lfs : Nat) (rg : Nat → Nat) (rgs : Nat) (tb : Nat → Nat) (fe : Nat) => (d ≤ 8) ∧ (le ≤ 100) ∧ (le = nL (gDi ln lt ql q) d) ∧ (b = nB0 (gDi ln lt ql q) d) ∧ va_P D vwCl (wX1 ad cA lt ln q ql lf lfs rg rgs tb fe) H ∧ va_D A (wX1 ad cA lt ln q ql lf lfs rg rgs tb fe) ∧ va_S A s.heap H locs ∧ lv_has ls 5 [(0, .ref (ad 0)), (1, .int (nI b)), (2, .int (nI le)), (3, .int (nI d))]) v.1 v.2.1 v.2.2.1 v.2.2.2.1 v.2.2.2.2.1 v.2.2.2.2.2.1 v.2.2.2.2.2.2.1 v.2.2.2.2.2.2.2.1 v.2.2.2.2.2.2.2.2) (fun v => (fun (b : Nat) (le : Nat) (d : Nat) (lf : Nat → Nat) (lfs : Nat) (rg : Nat → Nat) (rgs : Nat) (tb : Nat → Nat) (fe : Nat) => 8 - d) v.1 v.2.1 v.2.2.1 v.2.2.2.1 v.2.2.2.2.1 v.2.2.2.2.2.1 v.2.2.2.2.2.2.1 v.2.2.2.2.2.2.2.1 v.2.2.2.2.2.2.2.2) ?_ (0, 100, 0, lf, lfs, rg, rgs, tb, fe) ⟨(show 0 ≤ 8 from by omega), (show 100 ≤ 100 from by omega), (show 100 = nL (gDi ln lt ql q) 0 from rfl), (show 0 = nB0 (gDi ln lt ql q) 0 from rfl), hP, hD, hS, lv_sub hl [3, 2, 1, 0] rfl⟩
  intro v H locs ls hv ih7
  obtain ⟨b, le, d, lf, lfs, rg, rgs, tb, fe⟩ := v
  obtain ⟨hd8, hl8, hle, hbb, hP, hD, hS, hl⟩ := hv
  have hd8 : d ≤ 8 := hd8
  have hl8 : le ≤ 100 := hl8
  have hle : le = nL (gDi ln lt ql q) d := hle
  have hbb : b = nB0 (gDi ln lt ql q) d := hbb
  have hP : va_P D vwCl (wX1 ad cA lt ln q ql lf lfs rg rgs tb fe) H := hP
  have hD : va_D A (wX1 ad cA lt ln q ql lf lfs rg rgs tb fe) := hD
  have hl : lv_has ls 5 [(0, .ref (ad 0)), (1, .int (nI b)), (2, .int (nI le)), (3, .int (nI d))] := hl
  refine lv_iload_n hx hb dX1_nearest_7 rfl (lv_at hl 3 rfl) ?_
  refine lv_bipush (v := nI 8) hx hb dX1_nearest_8 (by decide) ?_
  refine nr_icmp_ge (tgt := 37) hx hb dX1_nearest_10 (by decide) (by omega) (by omega) (fun c10 => ?_) (fun c10 => ?_)
  · skip
    refine lv_iload_n hx hb dX1_nearest_37 rfl (lv_at hl 1 rfl) ?_
    exact nr_iret hx hb hr hlocks hK (lf, lfs, rg, rgs, tb, fe) hP hD hS (show (nI b) = nI (nB0 (gDi ln lt ql q) 8) from by rw [hbb, show d = 8 by omega]) dX1_nearest_38
  · skip
    have hled := bDi_le q (dc lt d) ql (ln d)
    refine lv_aload_n hx hb dX1_nearest_13 rfl (lv_at hl 0 rfl) ?_
    refine lv_iload_n hx hb dX1_nearest_14 rfl (lv_at hl 3 rfl) ?_
    refine nr_callVi (C := RX1) (T := TX1) (N := 10) (ci := 1) (rest := []) (wr := []) ⟨hx, hb, hml, hown, hts⟩ hK hP hD hS hA [0, 1, 2, 3, 4, 5, 6] [] rfl rfl (by decide) (by decide) (by decide) 1 [.int (nI d)] (mt1_search l D ad cA _ lt ln q ql lf lfs rg rgs tb fe d (by omega) hJ) (lw_V q207 q209 qs7 q16 q210) (by decide +kernel) ⟨Nat.le_of_ble_eq_true rfl, Nat.le_of_ble_eq_true rfl⟩ rfl 0 rfl rfl hl.1 rfl (Nat.le_of_ble_eq_true rfl) dX1_nearest_15 ⟨Nat.zero_le _, Nat.zero_le _⟩ (fun r15 u H locs hw15 hP hD hS => ?_)
    obtain ⟨lf15, lfs15, rg15, rgs15, tb15, fe15⟩ := u
    have hw15 : r15 = nI (bDi q (dc lt d) ql (ln d)) ∧ fe15 = bEn q (dc lt d) ql (ln d) := hw15
    have hP : va_P D vwCl (wX1 ad cA lt ln q ql lf15 lfs15 rg15 rgs15 tb15 fe15) H := hP
    have hD : va_D A (wX1 ad cA lt ln q ql lf15 lfs15 rg15 rgs15 tb15 fe15) := hD
    obtain ⟨z1, z2⟩ := hw15
    subst z1; subst z2
    have hP : va_P D vwCl (wX1 ad cA lt ln q ql lf15 lfs15 rg15 rgs15 tb15 (bEn q (dc lt d) ql (ln d))) H := hP
    have hD : va_D A (wX1 ad cA lt ln q ql lf15 lfs15 rg15 rgs15 tb15 (bEn q (dc lt d) ql (ln d))) := hD
    refine lv_istore (lv' := [(4, .int (nI (bDi q (dc lt d) ql (ln d)))), (0, .ref (ad 0)), (1, .int (nI b)), (2, .int (nI le)), (3, .int (nI d))]) hx hb dX1_nearest_18 hl (by decide) rfl (fun ls hl => ?_)
    refine lv_iload hx hb dX1_nearest_20 (lv_at hl 0 rfl) ?_
    refine lv_iload_n hx hb dX1_nearest_22 rfl (lv_at hl 3 rfl) ?_
    refine nr_icmp_ge (tgt := 31) hx hb dX1_nearest_23 (by decide) (by omega) (by omega) (fun c23 => ?_) (fun c23 => ?_)
    · skip
      refine lv_iinc (v := nI (d + 1)) (lv' := [(3, .int (nI (d + 1))), (4, .int (nI (bDi q (dc lt d) ql (ln d)))), (0, .ref (ad 0)), (1, .int (nI b)), (2, .int (nI le))]) hx hb dX1_nearest_31 hl (k := 4) rfl (nI_add d 1) (by decide) rfl (fun ls hl => ?_)
      refine lv_goto (tgt := 7) hx hb dX1_nearest_34 (by decide) ?_
      exact ih7 (b, le, d + 1, lf15, lfs15, rg15, rgs15, tb15, bEn q (dc lt d) ql (ln d)) _ _ _ ⟨(show (d + 1) ≤ 8 from by omega), (show le ≤ 100 from by omega), (show le = nL (gDi ln lt ql q) (d + 1) from by show _ = min (nL (gDi ln lt ql q) d) (bDi q (dc lt d) ql (ln d)); omega), (show b = nB0 (gDi ln lt ql q) (d + 1) from by show _ = if bDi q (dc lt d) ql (ln d) < nL (gDi ln lt ql q) d then d else nB0 (gDi ln lt ql q) d; split <;> omega), hP, hD, hS, lv_sub hl [2, 3, 4, 0] rfl⟩ (show 8 - (d + 1) < 8 - d from by omega)
    · skip
      refine lv_iload hx hb dX1_nearest_26 (lv_at hl 0 rfl) ?_
      refine lv_istore_n (lv' := [(2, .int (nI (bDi q (dc lt d) ql (ln d)))), (4, .int (nI (bDi q (dc lt d) ql (ln d)))), (0, .ref (ad 0)), (1, .int (nI b)), (3, .int (nI d))]) hx hb dX1_nearest_28 rfl hl (by decide) rfl (fun ls hl => ?_)
      refine lv_iload_n hx hb dX1_nearest_29 rfl (lv_at hl 4 rfl) ?_
      refine lv_istore_n (lv' := [(1, .int (nI d)), (2, .int (nI (bDi q (dc lt d) ql (ln d)))), (4, .int (nI (bDi q (dc lt d) ql (ln d)))), (0, .ref (ad 0)), (3, .int (nI d))]) hx hb dX1_nearest_30 rfl hl (by decide) rfl (fun ls hl => ?_)
      refine lv_iinc (v := nI (d + 1)) (lv' := [(3, .int (nI (d + 1))), (1, .int (nI d)), (2, .int (nI (bDi q (dc lt d) ql (ln d)))), (4, .int (nI (bDi q (dc lt d) ql (ln d)))), (0, .ref (ad 0))]) hx hb dX1_nearest_31 hl (k := 4) rfl (nI_add d 1) (by decide) rfl (fun ls hl => ?_)
      refine lv_goto (tgt := 7) hx hb dX1_nearest_34 (by decide) ?_
      exact ih7 (d, bDi q (dc lt d) ql (ln d), d + 1, lf15, lfs15, rg15, rgs15, tb15, bEn q (dc lt d) ql (ln d)) _ _ _ ⟨(show (d + 1) ≤ 8 from by omega), (show (bDi q (dc lt d) ql (ln d)) ≤ 100 from by omega), (show (bDi q (dc lt d) ql (ln d)) = nL (gDi ln lt ql q) (d + 1) from by show _ = min (nL (gDi ln lt ql q) d) (bDi q (dc lt d) ql (ln d)); omega), (show d = nB0 (gDi ln lt ql q) (d + 1) from by show _ = if bDi q (dc lt d) ql (ln d) < nL (gDi ln lt ql q) d then d else nB0 (gDi ln lt ql q) d; split <;> omega), hP, hD, hS, lv_sub hl [4, 1, 2, 0] rfl⟩ (show 8 - (d + 1) < 8 - d from by omega)
end
section
/-! the constructors -/
set_option maxRecDepth 100000
section CT
variable {p : Program} {l : Launch} {e : Env} {R : Room} {s : State} {m : MethodId} {args : Array Value} {below : List Frame} {meth : Method} {c : Code} {H : Heap} {locs : List Loc} {cells slots : Nat} {Q : State → Prop}
variable {cc : ByteArray} {pc : Nat} {ls : Array Slot} {rest : List Value} {D : va_G} {cl : List vw_C} {A : Nat → Prop} {ws : va_W}
theorem nF_0 : nF (fun _ => 0) = fun _ => (0 : Int32) := funext (fun _ => nI_0)
theorem nr_newa {cA : ClassId} {N : Nat} (hx : p.tables.exec = Jvm.exec) (hb : c.code = cc) (harr : (Cond.arrayClass .int).before args s = true) (hK : va_K D cl [(cA, .int)] s) (hP : va_P D cl ws H) (hD : va_D A ws) (hS : va_S A s.heap H locs) (hA : ∀ q : Nat, s.heap.size ≤ q → A q) (hN : N < 1000) (hcells : cells + 1 ≤ R.cells) (hslots : slots + N ≤ R.slots) (hdg : decode cc pc = .ok (.newarray .int, 2))
    (kk : ∀ (q : Nat) (H1 : Heap), va_P D cl (ws ++ [(q, .inl (cA, N, .inl (nF (fun _ => 0))))]) H1 → va_D A (ws ++ [(q, .inl (cA, N, .inl (nF (fun _ => 0))))]) → va_S A s.heap H1 locs → W p l e R s m args below meth c H1 locs (cells + 1) (slots + N) Q (F0 m (pc + 2) ls (.ref q :: rest))) : W p l e R s m args below meth c H locs cells slots Q (F0 m pc ls (.int (nI N) :: rest)) := by
  refine va_newa (atype := .int) (ty := .int) (a0 := (N, .inl (nF (fun _ => 0)))) hx hb harr rfl hK hP hD hS hA (fun _ => by rw [nF_0]; rfl) (nI_pos (by omega)) (nI_clamp (by omega)) (show N * 4 ≤ 536870912 by omega) hcells hslots hdg (fun q cA' H1 k1 k2 k3 k4 => ?_)
  have h1 : s.vm.findClass ("[" ++ FieldType.int.toString) = some cA := (hK.2 0 (cA, .int) rfl).2
  have h2 : s.vm.findClass ("[" ++ FieldType.int.toString) = some cA' := (k1.2 1 (cA', .int) rfl).2
  have h3 : cA' = cA := Option.some.inj (h2.symm.trans h1)
  subst h3
  exact kk q H1 k2 k3 k4
end CT
abbrev rmC (k c n : Nat) : Room := { frames := k, cells := c, slots := n, locals := 40 * k }
set_option maxHeartbeats 4000000 in
set_option maxRecDepth 100000 in
theorem mt0_init (l : Launch) (D : va_G) (cA : ClassId) (h0 sz : Nat) : Met l yX0_init (ws_ yX0_init cX0_init 1 none) (rmC 1 10 358) (va_Pc [.ref h0] (nW D vwCl cA [(h0, .inr (0, [.null, .null, .null, .int (nI 0), .null, .null, .null, .int (nI 0), .int (nI 0), .int (nI 0), .int (nI 0), .null, .null, .null, .null]))] sz)) (va_Qv (fun ad : Nat → Nat => ad 0 = h0) (nB D vwCl cA (va_A [(h0, .inr (0, [.null, .null, .null, .int (nI 0), .null, .null, .null, .int (nI 0), .int (nI 0), .int (nI 0), .int (nI 0), .null, .null, .null, .null]))] sz) (fun ad : Nat → Nat => wX0 ad cA (fun _ => 0) (fun _ => 0) (fun _ => 0) 0 (fun _ => 0) (fun _ => 0) (nF (fun _ => 0)) 0 0 0 0 (fun _ => 0) (fun _ => 0) (fun _ => 0) (fun _ => 0))) (va_A [(h0, .inr (0, [.null, .null, .null, .int (nI 0), .null, .null, .null, .int (nI 0), .int (nI 0), .int (nI 0), .int (nI 0), .null, .null, .null, .null]))] sz)) 10 358 (va_A [(h0, .inr (0, [.null, .null, .null, .int (nI 0), .null, .null, .null, .int (nI 0), .int (nI 0), .int (nI 0), .int (nI 0), .null, .null, .null, .null]))] sz) := by
  refine Met.ofW (cc := cX0_init) (maxL := 1) (ret := none) (by decide) rfl ?_
  intro p e s m args below meth c s₁ B hml hv
  obtain ⟨rfl, hsz, hP, hK, hD0⟩ := hv
  have hx := B.exec
  have hb := B.bytes
  have hr := B.returns
  have hts := atoms_spec (ws := ws_ yX0_init cX0_init 1 none) B.pre
  have hts : ∀ w ∈ lw_all, w.before _ s = true := fun w h => hts w (List.mem_cons_of_mem _ h)
  have hown : s.vm.findClass RX0 = some m.cls := findClass_of_methodNamed B.named
  have hlocks := B.notSynchronized
  have hin : meth.name = "<init>" := (name_of_methodNamed B.named B.method).1
  subst hsz
  have hD := hD0.self (sz := s.heap.size)
  generalize hAe : va_A [(h0, .inr (0, [.null, .null, .null, .int (nI 0), .null, .null, .null, .int (nI 0), .int (nI 0), .int (nI 0), .int (nI 0), .null, .null, .null, .null]))] s.heap.size = A at hD ⊢
  have hA : ∀ q : Nat, s.heap.size ≤ q → A q := fun q h => by rw [← hAe]; exact Or.inr h
  have hS : va_S A s.heap s.heap [] := va_S.rf
  have hP : va_P D vwCl [(h0, .inr (0, [.null, .null, .null, .int (nI 0), .null, .null, .null, .int (nI 0), .int (nI 0), .int (nI 0), .int (nI 0), .null, .null, .null, .null]))] s.heap := hP
  have hl := lv_entry ([.ref h0]) (n := 1) (Nat.le_of_ble_eq_true rfl)
  rw [lg_entry_eq]
  generalize (lg_sl ([.ref h0]) ++ List.replicate (1 - (lg_sl ([.ref h0])).length) Slot.unset).toArray = ls at hl ⊢
  have hl : lv_has ls 1 [(0, .ref h0)] := hl
  refine lv_aload_n hx hb dX0_init_0 rfl (lv_at hl 0 rfl) ?_
  refine W.objInit hx hb hown (hts _ q22) (hts _ q23) (hts _ q24) rfl (by rw [hml]; exact hl.1) rfl dX0_init_1 (Nat.le_of_ble_eq_true rfl) (Nat.le_of_ble_eq_true rfl) ?_
  refine W.eq (g2 := F0 m 4 ls []) rfl ?_
  refine lv_aload_n hx hb dX0_init_4 rfl (lv_at hl 0 rfl) ?_
  refine lv_bipush (v := nI 8) hx hb dX0_init_5 (by decide) ?_
  refine nr_newa hx hb (hts _ q71) hK hP hD hS hA (by decide) (Nat.le_of_ble_eq_true rfl) (Nat.le_of_ble_eq_true rfl) dX0_init_7 (fun q1_ H hP hD hS => ?_)
  have hP : va_P D vwCl [(h0, .inr (0, [.null, .null, .null, .int (nI 0), .null, .null, .null, .int (nI 0), .int (nI 0), .int (nI 0), .int (nI 0), .null, .null, .null, .null])), (q1_, .inl (cA, 8, .inl (nF (fun _ => 0))))] H := hP
  have hD : va_D A [(h0, .inr (0, [.null, .null, .null, .int (nI 0), .null, .null, .null, .int (nI 0), .int (nI 0), .int (nI 0), .int (nI 0), .null, .null, .null, .null])), (q1_, .inl (cA, 8, .inl (nF (fun _ => 0))))] := hD
  refine va_putF (D := D) (ci := 0) (v := .ref q1_) (ty := .array .int) (C := RX0) (T := TX0) (N := 15) hx hb hts in_X0 tyX0 tyX0_ok nmX0 hown hK hP hD hS 0 rfl rfl 0 (by decide) (hts _ q25) (fun _ h9 => h9) rfl hin rfl (by decide +kernel) rfl rfl (Nat.le_of_ble_eq_true rfl) dX0_init_9 (fun H locs hP hD hS => ?_)
  have hP : va_P D vwCl [(h0, .inr (0, [.ref q1_, .null, .null, .int (nI 0), .null, .null, .null, .int (nI 0), .int (nI 0), .int (nI 0), .int (nI 0), .null, .null, .null, .null])), (q1_, .inl (cA, 8, .inl (nF (fun _ => 0))))] H := hP
  have hD : va_D A [(h0, .inr (0, [.ref q1_, .null, .null, .int (nI 0), .null, .null, .null, .int (nI 0), .int (nI 0), .int (nI 0), .int (nI 0), .null, .null, .null, .null])), (q1_, .inl (cA, 8, .inl (nF (fun _ => 0))))] := hD
  refine lv_aload_n hx hb dX0_init_12 rfl (lv_at hl 0 rfl) ?_
  refine lv_sipush (v := nI 128) hx hb dX0_init_13 (by decide) ?_
  refine nr_newa hx hb (hts _ q71) hK hP hD hS hA (by decide) (Nat.le_of_ble_eq_true rfl) (Nat.le_of_ble_eq_true rfl) dX0_init_16 (fun q2_ H hP hD hS => ?_)
  have hP : va_P D vwCl [(h0, .inr (0, [.ref q1_, .null, .null, .int (nI 0), .null, .null, .null, .int (nI 0), .int (nI 0), .int (nI 0), .int (nI 0), .null, .null, .null, .null])), (q1_, .inl (cA, 8, .inl (nF (fun _ => 0)))), (q2_, .inl (cA, 128, .inl (nF (fun _ => 0))))] H := hP
  have hD : va_D A [(h0, .inr (0, [.ref q1_, .null, .null, .int (nI 0), .null, .null, .null, .int (nI 0), .int (nI 0), .int (nI 0), .int (nI 0), .null, .null, .null, .null])), (q1_, .inl (cA, 8, .inl (nF (fun _ => 0)))), (q2_, .inl (cA, 128, .inl (nF (fun _ => 0))))] := hD
  refine va_putF (D := D) (ci := 0) (v := .ref q2_) (ty := .array .int) (C := RX0) (T := TX0) (N := 15) hx hb hts in_X0 tyX0 tyX0_ok nmX0 hown hK hP hD hS 0 rfl rfl 1 (by decide) (hts _ q26) (fun _ h9 => h9) rfl hin rfl (by decide +kernel) rfl rfl (Nat.le_of_ble_eq_true rfl) dX0_init_18 (fun H locs hP hD hS => ?_)
  have hP : va_P D vwCl [(h0, .inr (0, [.ref q1_, .ref q2_, .null, .int (nI 0), .null, .null, .null, .int (nI 0), .int (nI 0), .int (nI 0), .int (nI 0), .null, .null, .null, .null])), (q1_, .inl (cA, 8, .inl (nF (fun _ => 0)))), (q2_, .inl (cA, 128, .inl (nF (fun _ => 0))))] H := hP
  have hD : va_D A [(h0, .inr (0, [.ref q1_, .ref q2_, .null, .int (nI 0), .null, .null, .null, .int (nI 0), .int (nI 0), .int (nI 0), .int (nI 0), .null, .null, .null, .null])), (q1_, .inl (cA, 8, .inl (nF (fun _ => 0)))), (q2_, .inl (cA, 128, .inl (nF (fun _ => 0))))] := hD
  refine lv_aload_n hx hb dX0_init_21 rfl (lv_at hl 0 rfl) ?_
  refine lv_sipush (v := nI 128) hx hb dX0_init_22 (by decide) ?_
  refine nr_newa hx hb (hts _ q71) hK hP hD hS hA (by decide) (Nat.le_of_ble_eq_true rfl) (Nat.le_of_ble_eq_true rfl) dX0_init_25 (fun q3_ H hP hD hS => ?_)
  have hP : va_P D vwCl [(h0, .inr (0, [.ref q1_, .ref q2_, .null, .int (nI 0), .null, .null, .null, .int (nI 0), .int (nI 0), .int (nI 0), .int (nI 0), .null, .null, .null, .null])), (q1_, .inl (cA, 8, .inl (nF (fun _ => 0)))), (q2_, .inl (cA, 128, .inl (nF (fun _ => 0)))), (q3_, .inl (cA, 128, .inl (nF (fun _ => 0))))] H := hP
  have hD : va_D A [(h0, .inr (0, [.ref q1_, .ref q2_, .null, .int (nI 0), .null, .null, .null, .int (nI 0), .int (nI 0), .int (nI 0), .int (nI 0), .null, .null, .null, .null])), (q1_, .inl (cA, 8, .inl (nF (fun _ => 0)))), (q2_, .inl (cA, 128, .inl (nF (fun _ => 0)))), (q3_, .inl (cA, 128, .inl (nF (fun _ => 0))))] := hD
  refine va_putF (D := D) (ci := 0) (v := .ref q3_) (ty := .array .int) (C := RX0) (T := TX0) (N := 15) hx hb hts in_X0 tyX0 tyX0_ok nmX0 hown hK hP hD hS 0 rfl rfl 2 (by decide) (hts _ q27) (fun _ h9 => h9) rfl hin rfl (by decide +kernel) rfl rfl (Nat.le_of_ble_eq_true rfl) dX0_init_27 (fun H locs hP hD hS => ?_)
  have hP : va_P D vwCl [(h0, .inr (0, [.ref q1_, .ref q2_, .ref q3_, .int (nI 0), .null, .null, .null, .int (nI 0), .int (nI 0), .int (nI 0), .int (nI 0), .null, .null, .null, .null])), (q1_, .inl (cA, 8, .inl (nF (fun _ => 0)))), (q2_, .inl (cA, 128, .inl (nF (fun _ => 0)))), (q3_, .inl (cA, 128, .inl (nF (fun _ => 0))))] H := hP
  have hD : va_D A [(h0, .inr (0, [.ref q1_, .ref q2_, .ref q3_, .int (nI 0), .null, .null, .null, .int (nI 0), .int (nI 0), .int (nI 0), .int (nI 0), .null, .null, .null, .null])), (q1_, .inl (cA, 8, .inl (nF (fun _ => 0)))), (q2_, .inl (cA, 128, .inl (nF (fun _ => 0)))), (q3_, .inl (cA, 128, .inl (nF (fun _ => 0))))] := hD
  refine lv_aload_n hx hb dX0_init_30 rfl (lv_at hl 0 rfl) ?_
  refine lv_bipush (v := nI 8) hx hb dX0_init_31 (by decide) ?_
  refine nr_newa hx hb (hts _ q71) hK hP hD hS hA (by decide) (Nat.le_of_ble_eq_true rfl) (Nat.le_of_ble_eq_true rfl) dX0_init_33 (fun q4_ H hP hD hS => ?_)
  have hP : va_P D vwCl [(h0, .inr (0, [.ref q1_, .ref q2_, .ref q3_, .int (nI 0), .null, .null, .null, .int (nI 0), .int (nI 0), .int (nI 0), .int (nI 0), .null, .null, .null, .null])), (q1_, .inl (cA, 8, .inl (nF (fun _ => 0)))), (q2_, .inl (cA, 128, .inl (nF (fun _ => 0)))), (q3_, .inl (cA, 128, .inl (nF (fun _ => 0)))), (q4_, .inl (cA, 8, .inl (nF (fun _ => 0))))] H := hP
  have hD : va_D A [(h0, .inr (0, [.ref q1_, .ref q2_, .ref q3_, .int (nI 0), .null, .null, .null, .int (nI 0), .int (nI 0), .int (nI 0), .int (nI 0), .null, .null, .null, .null])), (q1_, .inl (cA, 8, .inl (nF (fun _ => 0)))), (q2_, .inl (cA, 128, .inl (nF (fun _ => 0)))), (q3_, .inl (cA, 128, .inl (nF (fun _ => 0)))), (q4_, .inl (cA, 8, .inl (nF (fun _ => 0))))] := hD
  refine va_putF (D := D) (ci := 0) (v := .ref q4_) (ty := .array .int) (C := RX0) (T := TX0) (N := 15) hx hb hts in_X0 tyX0 tyX0_ok nmX0 hown hK hP hD hS 0 rfl rfl 4 (by decide) (hts _ q29) (fun _ h9 => h9) rfl hin rfl (by decide +kernel) rfl rfl (Nat.le_of_ble_eq_true rfl) dX0_init_35 (fun H locs hP hD hS => ?_)
  have hP : va_P D vwCl [(h0, .inr (0, [.ref q1_, .ref q2_, .ref q3_, .int (nI 0), .ref q4_, .null, .null, .int (nI 0), .int (nI 0), .int (nI 0), .int (nI 0), .null, .null, .null, .null])), (q1_, .inl (cA, 8, .inl (nF (fun _ => 0)))), (q2_, .inl (cA, 128, .inl (nF (fun _ => 0)))), (q3_, .inl (cA, 128, .inl (nF (fun _ => 0)))), (q4_, .inl (cA, 8, .inl (nF (fun _ => 0))))] H := hP
  have hD : va_D A [(h0, .inr (0, [.ref q1_, .ref q2_, .ref q3_, .int (nI 0), .ref q4_, .null, .null, .int (nI 0), .int (nI 0), .int (nI 0), .int (nI 0), .null, .null, .null, .null])), (q1_, .inl (cA, 8, .inl (nF (fun _ => 0)))), (q2_, .inl (cA, 128, .inl (nF (fun _ => 0)))), (q3_, .inl (cA, 128, .inl (nF (fun _ => 0)))), (q4_, .inl (cA, 8, .inl (nF (fun _ => 0))))] := hD
  refine lv_aload_n hx hb dX0_init_38 rfl (lv_at hl 0 rfl) ?_
  refine lv_bipush (v := nI 16) hx hb dX0_init_39 (by decide) ?_
  refine nr_newa hx hb (hts _ q71) hK hP hD hS hA (by decide) (Nat.le_of_ble_eq_true rfl) (Nat.le_of_ble_eq_true rfl) dX0_init_41 (fun q5_ H hP hD hS => ?_)
  have hP : va_P D vwCl [(h0, .inr (0, [.ref q1_, .ref q2_, .ref q3_, .int (nI 0), .ref q4_, .null, .null, .int (nI 0), .int (nI 0), .int (nI 0), .int (nI 0), .null, .null, .null, .null])), (q1_, .inl (cA, 8, .inl (nF (fun _ => 0)))), (q2_, .inl (cA, 128, .inl (nF (fun _ => 0)))), (q3_, .inl (cA, 128, .inl (nF (fun _ => 0)))), (q4_, .inl (cA, 8, .inl (nF (fun _ => 0)))), (q5_, .inl (cA, 16, .inl (nF (fun _ => 0))))] H := hP
  have hD : va_D A [(h0, .inr (0, [.ref q1_, .ref q2_, .ref q3_, .int (nI 0), .ref q4_, .null, .null, .int (nI 0), .int (nI 0), .int (nI 0), .int (nI 0), .null, .null, .null, .null])), (q1_, .inl (cA, 8, .inl (nF (fun _ => 0)))), (q2_, .inl (cA, 128, .inl (nF (fun _ => 0)))), (q3_, .inl (cA, 128, .inl (nF (fun _ => 0)))), (q4_, .inl (cA, 8, .inl (nF (fun _ => 0)))), (q5_, .inl (cA, 16, .inl (nF (fun _ => 0))))] := hD
  refine va_putF (D := D) (ci := 0) (v := .ref q5_) (ty := .array .int) (C := RX0) (T := TX0) (N := 15) hx hb hts in_X0 tyX0 tyX0_ok nmX0 hown hK hP hD hS 0 rfl rfl 5 (by decide) (hts _ q30) (fun _ h9 => h9) rfl hin rfl (by decide +kernel) rfl rfl (Nat.le_of_ble_eq_true rfl) dX0_init_43 (fun H locs hP hD hS => ?_)
  have hP : va_P D vwCl [(h0, .inr (0, [.ref q1_, .ref q2_, .ref q3_, .int (nI 0), .ref q4_, .ref q5_, .null, .int (nI 0), .int (nI 0), .int (nI 0), .int (nI 0), .null, .null, .null, .null])), (q1_, .inl (cA, 8, .inl (nF (fun _ => 0)))), (q2_, .inl (cA, 128, .inl (nF (fun _ => 0)))), (q3_, .inl (cA, 128, .inl (nF (fun _ => 0)))), (q4_, .inl (cA, 8, .inl (nF (fun _ => 0)))), (q5_, .inl (cA, 16, .inl (nF (fun _ => 0))))] H := hP
  have hD : va_D A [(h0, .inr (0, [.ref q1_, .ref q2_, .ref q3_, .int (nI 0), .ref q4_, .ref q5_, .null, .int (nI 0), .int (nI 0), .int (nI 0), .int (nI 0), .null, .null, .null, .null])), (q1_, .inl (cA, 8, .inl (nF (fun _ => 0)))), (q2_, .inl (cA, 128, .inl (nF (fun _ => 0)))), (q3_, .inl (cA, 128, .inl (nF (fun _ => 0)))), (q4_, .inl (cA, 8, .inl (nF (fun _ => 0)))), (q5_, .inl (cA, 16, .inl (nF (fun _ => 0))))] := hD
  refine lv_aload_n hx hb dX0_init_46 rfl (lv_at hl 0 rfl) ?_
  refine lv_iconst (v := nI 4) hx hb dX0_init_47 (by decide) ?_
  refine nr_newa hx hb (hts _ q71) hK hP hD hS hA (by decide) (Nat.le_of_ble_eq_true rfl) (Nat.le_of_ble_eq_true rfl) dX0_init_48 (fun q6_ H hP hD hS => ?_)
  have hP : va_P D vwCl [(h0, .inr (0, [.ref q1_, .ref q2_, .ref q3_, .int (nI 0), .ref q4_, .ref q5_, .null, .int (nI 0), .int (nI 0), .int (nI 0), .int (nI 0), .null, .null, .null, .null])), (q1_, .inl (cA, 8, .inl (nF (fun _ => 0)))), (q2_, .inl (cA, 128, .inl (nF (fun _ => 0)))), (q3_, .inl (cA, 128, .inl (nF (fun _ => 0)))), (q4_, .inl (cA, 8, .inl (nF (fun _ => 0)))), (q5_, .inl (cA, 16, .inl (nF (fun _ => 0)))), (q6_, .inl (cA, 4, .inl (nF (fun _ => 0))))] H := hP
  have hD : va_D A [(h0, .inr (0, [.ref q1_, .ref q2_, .ref q3_, .int (nI 0), .ref q4_, .ref q5_, .null, .int (nI 0), .int (nI 0), .int (nI 0), .int (nI 0), .null, .null, .null, .null])), (q1_, .inl (cA, 8, .inl (nF (fun _ => 0)))), (q2_, .inl (cA, 128, .inl (nF (fun _ => 0)))), (q3_, .inl (cA, 128, .inl (nF (fun _ => 0)))), (q4_, .inl (cA, 8, .inl (nF (fun _ => 0)))), (q5_, .inl (cA, 16, .inl (nF (fun _ => 0)))), (q6_, .inl (cA, 4, .inl (nF (fun _ => 0))))] := hD
  refine va_putF (D := D) (ci := 0) (v := .ref q6_) (ty := .array .int) (C := RX0) (T := TX0) (N := 15) hx hb hts in_X0 tyX0 tyX0_ok nmX0 hown hK hP hD hS 0 rfl rfl 6 (by decide) (hts _ q31) (fun _ h9 => h9) rfl hin rfl (by decide +kernel) rfl rfl (Nat.le_of_ble_eq_true rfl) dX0_init_50 (fun H locs hP hD hS => ?_)
  have hP : va_P D vwCl [(h0, .inr (0, [.ref q1_, .ref q2_, .ref q3_, .int (nI 0), .ref q4_, .ref q5_, .ref q6_, .int (nI 0), .int (nI 0), .int (nI 0), .int (nI 0), .null, .null, .null, .null])), (q1_, .inl (cA, 8, .inl (nF (fun _ => 0)))), (q2_, .inl (cA, 128, .inl (nF (fun _ => 0)))), (q3_, .inl (cA, 128, .inl (nF (fun _ => 0)))), (q4_, .inl (cA, 8, .inl (nF (fun _ => 0)))), (q5_, .inl (cA, 16, .inl (nF (fun _ => 0)))), (q6_, .inl (cA, 4, .inl (nF (fun _ => 0))))] H := hP
  have hD : va_D A [(h0, .inr (0, [.ref q1_, .ref q2_, .ref q3_, .int (nI 0), .ref q4_, .ref q5_, .ref q6_, .int (nI 0), .int (nI 0), .int (nI 0), .int (nI 0), .null, .null, .null, .null])), (q1_, .inl (cA, 8, .inl (nF (fun _ => 0)))), (q2_, .inl (cA, 128, .inl (nF (fun _ => 0)))), (q3_, .inl (cA, 128, .inl (nF (fun _ => 0)))), (q4_, .inl (cA, 8, .inl (nF (fun _ => 0)))), (q5_, .inl (cA, 16, .inl (nF (fun _ => 0)))), (q6_, .inl (cA, 4, .inl (nF (fun _ => 0))))] := hD
  refine lv_aload_n hx hb dX0_init_53 rfl (lv_at hl 0 rfl) ?_
  refine lv_bipush (v := nI 16) hx hb dX0_init_54 (by decide) ?_
  refine nr_newa hx hb (hts _ q71) hK hP hD hS hA (by decide) (Nat.le_of_ble_eq_true rfl) (Nat.le_of_ble_eq_true rfl) dX0_init_56 (fun q7_ H hP hD hS => ?_)
  have hP : va_P D vwCl [(h0, .inr (0, [.ref q1_, .ref q2_, .ref q3_, .int (nI 0), .ref q4_, .ref q5_, .ref q6_, .int (nI 0), .int (nI 0), .int (nI 0), .int (nI 0), .null, .null, .null, .null])), (q1_, .inl (cA, 8, .inl (nF (fun _ => 0)))), (q2_, .inl (cA, 128, .inl (nF (fun _ => 0)))), (q3_, .inl (cA, 128, .inl (nF (fun _ => 0)))), (q4_, .inl (cA, 8, .inl (nF (fun _ => 0)))), (q5_, .inl (cA, 16, .inl (nF (fun _ => 0)))), (q6_, .inl (cA, 4, .inl (nF (fun _ => 0)))), (q7_, .inl (cA, 16, .inl (nF (fun _ => 0))))] H := hP
  have hD : va_D A [(h0, .inr (0, [.ref q1_, .ref q2_, .ref q3_, .int (nI 0), .ref q4_, .ref q5_, .ref q6_, .int (nI 0), .int (nI 0), .int (nI 0), .int (nI 0), .null, .null, .null, .null])), (q1_, .inl (cA, 8, .inl (nF (fun _ => 0)))), (q2_, .inl (cA, 128, .inl (nF (fun _ => 0)))), (q3_, .inl (cA, 128, .inl (nF (fun _ => 0)))), (q4_, .inl (cA, 8, .inl (nF (fun _ => 0)))), (q5_, .inl (cA, 16, .inl (nF (fun _ => 0)))), (q6_, .inl (cA, 4, .inl (nF (fun _ => 0)))), (q7_, .inl (cA, 16, .inl (nF (fun _ => 0))))] := hD
  refine va_putF (D := D) (ci := 0) (v := .ref q7_) (ty := .array .int) (C := RX0) (T := TX0) (N := 15) hx hb hts in_X0 tyX0 tyX0_ok nmX0 hown hK hP hD hS 0 rfl rfl 11 (by decide) (hts _ q36) (fun _ h9 => h9) rfl hin rfl (by decide +kernel) rfl rfl (Nat.le_of_ble_eq_true rfl) dX0_init_58 (fun H locs hP hD hS => ?_)
  have hP : va_P D vwCl [(h0, .inr (0, [.ref q1_, .ref q2_, .ref q3_, .int (nI 0), .ref q4_, .ref q5_, .ref q6_, .int (nI 0), .int (nI 0), .int (nI 0), .int (nI 0), .ref q7_, .null, .null, .null])), (q1_, .inl (cA, 8, .inl (nF (fun _ => 0)))), (q2_, .inl (cA, 128, .inl (nF (fun _ => 0)))), (q3_, .inl (cA, 128, .inl (nF (fun _ => 0)))), (q4_, .inl (cA, 8, .inl (nF (fun _ => 0)))), (q5_, .inl (cA, 16, .inl (nF (fun _ => 0)))), (q6_, .inl (cA, 4, .inl (nF (fun _ => 0)))), (q7_, .inl (cA, 16, .inl (nF (fun _ => 0))))] H := hP
  have hD : va_D A [(h0, .inr (0, [.ref q1_, .ref q2_, .ref q3_, .int (nI 0), .ref q4_, .ref q5_, .ref q6_, .int (nI 0), .int (nI 0), .int (nI 0), .int (nI 0), .ref q7_, .null, .null, .null])), (q1_, .inl (cA, 8, .inl (nF (fun _ => 0)))), (q2_, .inl (cA, 128, .inl (nF (fun _ => 0)))), (q3_, .inl (cA, 128, .inl (nF (fun _ => 0)))), (q4_, .inl (cA, 8, .inl (nF (fun _ => 0)))), (q5_, .inl (cA, 16, .inl (nF (fun _ => 0)))), (q6_, .inl (cA, 4, .inl (nF (fun _ => 0)))), (q7_, .inl (cA, 16, .inl (nF (fun _ => 0))))] := hD
  refine lv_aload_n hx hb dX0_init_61 rfl (lv_at hl 0 rfl) ?_
  refine lv_bipush (v := nI 16) hx hb dX0_init_62 (by decide) ?_
  refine nr_newa hx hb (hts _ q71) hK hP hD hS hA (by decide) (Nat.le_of_ble_eq_true rfl) (Nat.le_of_ble_eq_true rfl) dX0_init_64 (fun q8_ H hP hD hS => ?_)
  have hP : va_P D vwCl [(h0, .inr (0, [.ref q1_, .ref q2_, .ref q3_, .int (nI 0), .ref q4_, .ref q5_, .ref q6_, .int (nI 0), .int (nI 0), .int (nI 0), .int (nI 0), .ref q7_, .null, .null, .null])), (q1_, .inl (cA, 8, .inl (nF (fun _ => 0)))), (q2_, .inl (cA, 128, .inl (nF (fun _ => 0)))), (q3_, .inl (cA, 128, .inl (nF (fun _ => 0)))), (q4_, .inl (cA, 8, .inl (nF (fun _ => 0)))), (q5_, .inl (cA, 16, .inl (nF (fun _ => 0)))), (q6_, .inl (cA, 4, .inl (nF (fun _ => 0)))), (q7_, .inl (cA, 16, .inl (nF (fun _ => 0)))), (q8_, .inl (cA, 16, .inl (nF (fun _ => 0))))] H := hP
  have hD : va_D A [(h0, .inr (0, [.ref q1_, .ref q2_, .ref q3_, .int (nI 0), .ref q4_, .ref q5_, .ref q6_, .int (nI 0), .int (nI 0), .int (nI 0), .int (nI 0), .ref q7_, .null, .null, .null])), (q1_, .inl (cA, 8, .inl (nF (fun _ => 0)))), (q2_, .inl (cA, 128, .inl (nF (fun _ => 0)))), (q3_, .inl (cA, 128, .inl (nF (fun _ => 0)))), (q4_, .inl (cA, 8, .inl (nF (fun _ => 0)))), (q5_, .inl (cA, 16, .inl (nF (fun _ => 0)))), (q6_, .inl (cA, 4, .inl (nF (fun _ => 0)))), (q7_, .inl (cA, 16, .inl (nF (fun _ => 0)))), (q8_, .inl (cA, 16, .inl (nF (fun _ => 0))))] := hD
  refine va_putF (D := D) (ci := 0) (v := .ref q8_) (ty := .array .int) (C := RX0) (T := TX0) (N := 15) hx hb hts in_X0 tyX0 tyX0_ok nmX0 hown hK hP hD hS 0 rfl rfl 12 (by decide) (hts _ q37) (fun _ h9 => h9) rfl hin rfl (by decide +kernel) rfl rfl (Nat.le_of_ble_eq_true rfl) dX0_init_66 (fun H locs hP hD hS => ?_)
  have hP : va_P D vwCl [(h0, .inr (0, [.ref q1_, .ref q2_, .ref q3_, .int (nI 0), .ref q4_, .ref q5_, .ref q6_, .int (nI 0), .int (nI 0), .int (nI 0), .int (nI 0), .ref q7_, .ref q8_, .null, .null])), (q1_, .inl (cA, 8, .inl (nF (fun _ => 0)))), (q2_, .inl (cA, 128, .inl (nF (fun _ => 0)))), (q3_, .inl (cA, 128, .inl (nF (fun _ => 0)))), (q4_, .inl (cA, 8, .inl (nF (fun _ => 0)))), (q5_, .inl (cA, 16, .inl (nF (fun _ => 0)))), (q6_, .inl (cA, 4, .inl (nF (fun _ => 0)))), (q7_, .inl (cA, 16, .inl (nF (fun _ => 0)))), (q8_, .inl (cA, 16, .inl (nF (fun _ => 0))))] H := hP
  have hD : va_D A [(h0, .inr (0, [.ref q1_, .ref q2_, .ref q3_, .int (nI 0), .ref q4_, .ref q5_, .ref q6_, .int (nI 0), .int (nI 0), .int (nI 0), .int (nI 0), .ref q7_, .ref q8_, .null, .null])), (q1_, .inl (cA, 8, .inl (nF (fun _ => 0)))), (q2_, .inl (cA, 128, .inl (nF (fun _ => 0)))), (q3_, .inl (cA, 128, .inl (nF (fun _ => 0)))), (q4_, .inl (cA, 8, .inl (nF (fun _ => 0)))), (q5_, .inl (cA, 16, .inl (nF (fun _ => 0)))), (q6_, .inl (cA, 4, .inl (nF (fun _ => 0)))), (q7_, .inl (cA, 16, .inl (nF (fun _ => 0)))), (q8_, .inl (cA, 16, .inl (nF (fun _ => 0))))] := hD
  refine lv_aload_n hx hb dX0_init_69 rfl (lv_at hl 0 rfl) ?_
  refine lv_bipush (v := nI 17) hx hb dX0_init_70 (by decide) ?_
  refine nr_newa hx hb (hts _ q71) hK hP hD hS hA (by decide) (Nat.le_of_ble_eq_true rfl) (Nat.le_of_ble_eq_true rfl) dX0_init_72 (fun q9_ H hP hD hS => ?_)
  have hP : va_P D vwCl [(h0, .inr (0, [.ref q1_, .ref q2_, .ref q3_, .int (nI 0), .ref q4_, .ref q5_, .ref q6_, .int (nI 0), .int (nI 0), .int (nI 0), .int (nI 0), .ref q7_, .ref q8_, .null, .null])), (q1_, .inl (cA, 8, .inl (nF (fun _ => 0)))), (q2_, .inl (cA, 128, .inl (nF (fun _ => 0)))), (q3_, .inl (cA, 128, .inl (nF (fun _ => 0)))), (q4_, .inl (cA, 8, .inl (nF (fun _ => 0)))), (q5_, .inl (cA, 16, .inl (nF (fun _ => 0)))), (q6_, .inl (cA, 4, .inl (nF (fun _ => 0)))), (q7_, .inl (cA, 16, .inl (nF (fun _ => 0)))), (q8_, .inl (cA, 16, .inl (nF (fun _ => 0)))), (q9_, .inl (cA, 17, .inl (nF (fun _ => 0))))] H := hP
  have hD : va_D A [(h0, .inr (0, [.ref q1_, .ref q2_, .ref q3_, .int (nI 0), .ref q4_, .ref q5_, .ref q6_, .int (nI 0), .int (nI 0), .int (nI 0), .int (nI 0), .ref q7_, .ref q8_, .null, .null])), (q1_, .inl (cA, 8, .inl (nF (fun _ => 0)))), (q2_, .inl (cA, 128, .inl (nF (fun _ => 0)))), (q3_, .inl (cA, 128, .inl (nF (fun _ => 0)))), (q4_, .inl (cA, 8, .inl (nF (fun _ => 0)))), (q5_, .inl (cA, 16, .inl (nF (fun _ => 0)))), (q6_, .inl (cA, 4, .inl (nF (fun _ => 0)))), (q7_, .inl (cA, 16, .inl (nF (fun _ => 0)))), (q8_, .inl (cA, 16, .inl (nF (fun _ => 0)))), (q9_, .inl (cA, 17, .inl (nF (fun _ => 0))))] := hD
  refine va_putF (D := D) (ci := 0) (v := .ref q9_) (ty := .array .int) (C := RX0) (T := TX0) (N := 15) hx hb hts in_X0 tyX0 tyX0_ok nmX0 hown hK hP hD hS 0 rfl rfl 13 (by decide) (hts _ q38) (fun _ h9 => h9) rfl hin rfl (by decide +kernel) rfl rfl (Nat.le_of_ble_eq_true rfl) dX0_init_74 (fun H locs hP hD hS => ?_)
  have hP : va_P D vwCl [(h0, .inr (0, [.ref q1_, .ref q2_, .ref q3_, .int (nI 0), .ref q4_, .ref q5_, .ref q6_, .int (nI 0), .int (nI 0), .int (nI 0), .int (nI 0), .ref q7_, .ref q8_, .ref q9_, .null])), (q1_, .inl (cA, 8, .inl (nF (fun _ => 0)))), (q2_, .inl (cA, 128, .inl (nF (fun _ => 0)))), (q3_, .inl (cA, 128, .inl (nF (fun _ => 0)))), (q4_, .inl (cA, 8, .inl (nF (fun _ => 0)))), (q5_, .inl (cA, 16, .inl (nF (fun _ => 0)))), (q6_, .inl (cA, 4, .inl (nF (fun _ => 0)))), (q7_, .inl (cA, 16, .inl (nF (fun _ => 0)))), (q8_, .inl (cA, 16, .inl (nF (fun _ => 0)))), (q9_, .inl (cA, 17, .inl (nF (fun _ => 0))))] H := hP
  have hD : va_D A [(h0, .inr (0, [.ref q1_, .ref q2_, .ref q3_, .int (nI 0), .ref q4_, .ref q5_, .ref q6_, .int (nI 0), .int (nI 0), .int (nI 0), .int (nI 0), .ref q7_, .ref q8_, .ref q9_, .null])), (q1_, .inl (cA, 8, .inl (nF (fun _ => 0)))), (q2_, .inl (cA, 128, .inl (nF (fun _ => 0)))), (q3_, .inl (cA, 128, .inl (nF (fun _ => 0)))), (q4_, .inl (cA, 8, .inl (nF (fun _ => 0)))), (q5_, .inl (cA, 16, .inl (nF (fun _ => 0)))), (q6_, .inl (cA, 4, .inl (nF (fun _ => 0)))), (q7_, .inl (cA, 16, .inl (nF (fun _ => 0)))), (q8_, .inl (cA, 16, .inl (nF (fun _ => 0)))), (q9_, .inl (cA, 17, .inl (nF (fun _ => 0))))] := hD
  refine lv_aload_n hx hb dX0_init_77 rfl (lv_at hl 0 rfl) ?_
  refine lv_bipush (v := nI 17) hx hb dX0_init_78 (by decide) ?_
  refine nr_newa hx hb (hts _ q71) hK hP hD hS hA (by decide) (Nat.le_of_ble_eq_true rfl) (Nat.le_of_ble_eq_true rfl) dX0_init_80 (fun q10_ H hP hD hS => ?_)
  have hP : va_P D vwCl [(h0, .inr (0, [.ref q1_, .ref q2_, .ref q3_, .int (nI 0), .ref q4_, .ref q5_, .ref q6_, .int (nI 0), .int (nI 0), .int (nI 0), .int (nI 0), .ref q7_, .ref q8_, .ref q9_, .null])), (q1_, .inl (cA, 8, .inl (nF (fun _ => 0)))), (q2_, .inl (cA, 128, .inl (nF (fun _ => 0)))), (q3_, .inl (cA, 128, .inl (nF (fun _ => 0)))), (q4_, .inl (cA, 8, .inl (nF (fun _ => 0)))), (q5_, .inl (cA, 16, .inl (nF (fun _ => 0)))), (q6_, .inl (cA, 4, .inl (nF (fun _ => 0)))), (q7_, .inl (cA, 16, .inl (nF (fun _ => 0)))), (q8_, .inl (cA, 16, .inl (nF (fun _ => 0)))), (q9_, .inl (cA, 17, .inl (nF (fun _ => 0)))), (q10_, .inl (cA, 17, .inl (nF (fun _ => 0))))] H := hP
  have hD : va_D A [(h0, .inr (0, [.ref q1_, .ref q2_, .ref q3_, .int (nI 0), .ref q4_, .ref q5_, .ref q6_, .int (nI 0), .int (nI 0), .int (nI 0), .int (nI 0), .ref q7_, .ref q8_, .ref q9_, .null])), (q1_, .inl (cA, 8, .inl (nF (fun _ => 0)))), (q2_, .inl (cA, 128, .inl (nF (fun _ => 0)))), (q3_, .inl (cA, 128, .inl (nF (fun _ => 0)))), (q4_, .inl (cA, 8, .inl (nF (fun _ => 0)))), (q5_, .inl (cA, 16, .inl (nF (fun _ => 0)))), (q6_, .inl (cA, 4, .inl (nF (fun _ => 0)))), (q7_, .inl (cA, 16, .inl (nF (fun _ => 0)))), (q8_, .inl (cA, 16, .inl (nF (fun _ => 0)))), (q9_, .inl (cA, 17, .inl (nF (fun _ => 0)))), (q10_, .inl (cA, 17, .inl (nF (fun _ => 0))))] := hD
  refine va_putF (D := D) (ci := 0) (v := .ref q10_) (ty := .array .int) (C := RX0) (T := TX0) (N := 15) hx hb hts in_X0 tyX0 tyX0_ok nmX0 hown hK hP hD hS 0 rfl rfl 14 (by decide) (hts _ q39) (fun _ h9 => h9) rfl hin rfl (by decide +kernel) rfl rfl (Nat.le_of_ble_eq_true rfl) dX0_init_82 (fun H locs hP hD hS => ?_)
  have hP : va_P D vwCl [(h0, .inr (0, [.ref q1_, .ref q2_, .ref q3_, .int (nI 0), .ref q4_, .ref q5_, .ref q6_, .int (nI 0), .int (nI 0), .int (nI 0), .int (nI 0), .ref q7_, .ref q8_, .ref q9_, .ref q10_])), (q1_, .inl (cA, 8, .inl (nF (fun _ => 0)))), (q2_, .inl (cA, 128, .inl (nF (fun _ => 0)))), (q3_, .inl (cA, 128, .inl (nF (fun _ => 0)))), (q4_, .inl (cA, 8, .inl (nF (fun _ => 0)))), (q5_, .inl (cA, 16, .inl (nF (fun _ => 0)))), (q6_, .inl (cA, 4, .inl (nF (fun _ => 0)))), (q7_, .inl (cA, 16, .inl (nF (fun _ => 0)))), (q8_, .inl (cA, 16, .inl (nF (fun _ => 0)))), (q9_, .inl (cA, 17, .inl (nF (fun _ => 0)))), (q10_, .inl (cA, 17, .inl (nF (fun _ => 0))))] H := hP
  have hD : va_D A [(h0, .inr (0, [.ref q1_, .ref q2_, .ref q3_, .int (nI 0), .ref q4_, .ref q5_, .ref q6_, .int (nI 0), .int (nI 0), .int (nI 0), .int (nI 0), .ref q7_, .ref q8_, .ref q9_, .ref q10_])), (q1_, .inl (cA, 8, .inl (nF (fun _ => 0)))), (q2_, .inl (cA, 128, .inl (nF (fun _ => 0)))), (q3_, .inl (cA, 128, .inl (nF (fun _ => 0)))), (q4_, .inl (cA, 8, .inl (nF (fun _ => 0)))), (q5_, .inl (cA, 16, .inl (nF (fun _ => 0)))), (q6_, .inl (cA, 4, .inl (nF (fun _ => 0)))), (q7_, .inl (cA, 16, .inl (nF (fun _ => 0)))), (q8_, .inl (cA, 16, .inl (nF (fun _ => 0)))), (q9_, .inl (cA, 17, .inl (nF (fun _ => 0)))), (q10_, .inl (cA, 17, .inl (nF (fun _ => 0))))] := hD
  obtain ⟨ad, had⟩ : ∃ ad : Nat → Nat, ad = (fun k => match k with | 0 => h0 | 1 => q1_ | 2 => q2_ | 3 => q3_ | 4 => q4_ | 5 => q5_ | 6 => q6_ | 7 => q7_ | 8 => q8_ | 9 => q9_ | _ => q10_) := ⟨_, rfl⟩
  have hP : va_P D vwCl (wX0 ad cA (fun _ => 0) (fun _ => 0) (fun _ => 0) 0 (fun _ => 0) (fun _ => 0) (nF (fun _ => 0)) 0 0 0 0 (fun _ => 0) (fun _ => 0) (fun _ => 0) (fun _ => 0)) H := by rw [had]; exact hP
  have hD : va_D A (wX0 ad cA (fun _ => 0) (fun _ => 0) (fun _ => 0) 0 (fun _ => 0) (fun _ => 0) (nF (fun _ => 0)) 0 0 0 0 (fun _ => 0) (fun _ => 0) (fun _ => 0) (fun _ => 0)) := by rw [had]; exact hD
  refine W.widen (k := 10) (n := 358) (Nat.le_of_ble_eq_true rfl) (Nat.le_of_ble_eq_true rfl) ?_
  exact W.vret hx hb hr (fun t ht hW => ⟨⟨ad, rfl, show ad 0 = h0 from congrFun had 0, by rw [ht]; exact hP, va_K.moved hW.alike hK, hD⟩, hS.F ht⟩) hS.2.2 dX0_init_85
set_option maxHeartbeats 4000000 in
set_option maxRecDepth 100000 in
theorem mt1_init (l : Launch) (D : va_G) (cA : ClassId) (h0 sz : Nat) : Met l yX1_init (ws_ yX1_init cX1_init 1 none) (rmC 1 6 465) (va_Pc [.ref h0] (nW D vwCl cA [(h0, .inr (1, [.null, .null, .null, .int (nI 0), .null, .int (nI 0), .null, .int (nI 0), .null, .int (nI 0)]))] sz)) (va_Qv (fun ad : Nat → Nat => ad 0 = h0) (nB D vwCl cA (va_A [(h0, .inr (1, [.null, .null, .null, .int (nI 0), .null, .int (nI 0), .null, .int (nI 0), .null, .int (nI 0)]))] sz) (fun ad : Nat → Nat => wX1 ad cA (fun _ => 0) (fun _ => 0) (fun _ => 0) 0 (fun _ => 0) 0 (fun _ => 0) 0 (fun _ => 0) 0)) (va_A [(h0, .inr (1, [.null, .null, .null, .int (nI 0), .null, .int (nI 0), .null, .int (nI 0), .null, .int (nI 0)]))] sz)) 6 465 (va_A [(h0, .inr (1, [.null, .null, .null, .int (nI 0), .null, .int (nI 0), .null, .int (nI 0), .null, .int (nI 0)]))] sz) := by
  refine Met.ofW (cc := cX1_init) (maxL := 1) (ret := none) (by decide) rfl ?_
  intro p e s m args below meth c s₁ B hml hv
  obtain ⟨rfl, hsz, hP, hK, hD0⟩ := hv
  have hx := B.exec
  have hb := B.bytes
  have hr := B.returns
  have hts := atoms_spec (ws := ws_ yX1_init cX1_init 1 none) B.pre
  have hts : ∀ w ∈ lw_all, w.before _ s = true := fun w h => hts w (List.mem_cons_of_mem _ h)
  have hown : s.vm.findClass RX1 = some m.cls := findClass_of_methodNamed B.named
  have hlocks := B.notSynchronized
  have hin : meth.name = "<init>" := (name_of_methodNamed B.named B.method).1
  subst hsz
  have hD := hD0.self (sz := s.heap.size)
  generalize hAe : va_A [(h0, .inr (1, [.null, .null, .null, .int (nI 0), .null, .int (nI 0), .null, .int (nI 0), .null, .int (nI 0)]))] s.heap.size = A at hD ⊢
  have hA : ∀ q : Nat, s.heap.size ≤ q → A q := fun q h => by rw [← hAe]; exact Or.inr h
  have hS : va_S A s.heap s.heap [] := va_S.rf
  have hP : va_P D vwCl [(h0, .inr (1, [.null, .null, .null, .int (nI 0), .null, .int (nI 0), .null, .int (nI 0), .null, .int (nI 0)]))] s.heap := hP
  have hl := lv_entry ([.ref h0]) (n := 1) (Nat.le_of_ble_eq_true rfl)
  rw [lg_entry_eq]
  generalize (lg_sl ([.ref h0]) ++ List.replicate (1 - (lg_sl ([.ref h0])).length) Slot.unset).toArray = ls at hl ⊢
  have hl : lv_has ls 1 [(0, .ref h0)] := hl
  refine lv_aload_n hx hb dX1_init_0 rfl (lv_at hl 0 rfl) ?_
  refine W.objInit hx hb hown (hts _ q152) (hts _ q23) (hts _ q24) rfl (by rw [hml]; exact hl.1) rfl dX1_init_1 (Nat.le_of_ble_eq_true rfl) (Nat.le_of_ble_eq_true rfl) ?_
  refine W.eq (g2 := F0 m 4 ls []) rfl ?_
  refine lv_aload_n hx hb dX1_init_4 rfl (lv_at hl 0 rfl) ?_
  refine lv_sipush (v := nI 128) hx hb dX1_init_5 (by decide) ?_
  refine nr_newa hx hb (hts _ q71) hK hP hD hS hA (by decide) (Nat.le_of_ble_eq_true rfl) (Nat.le_of_ble_eq_true rfl) dX1_init_8 (fun q1_ H hP hD hS => ?_)
  have hP : va_P D vwCl [(h0, .inr (1, [.null, .null, .null, .int (nI 0), .null, .int (nI 0), .null, .int (nI 0), .null, .int (nI 0)])), (q1_, .inl (cA, 128, .inl (nF (fun _ => 0))))] H := hP
  have hD : va_D A [(h0, .inr (1, [.null, .null, .null, .int (nI 0), .null, .int (nI 0), .null, .int (nI 0), .null, .int (nI 0)])), (q1_, .inl (cA, 128, .inl (nF (fun _ => 0))))] := hD
  refine va_putF (D := D) (ci := 1) (v := .ref q1_) (ty := .array .int) (C := RX1) (T := TX1) (N := 10) hx hb hts in_X1 tyX1 tyX1_ok nmX1 hown hK hP hD hS 0 rfl rfl 0 (by decide) (hts _ q153) (fun _ h9 => h9) rfl hin rfl (by decide +kernel) rfl rfl (Nat.le_of_ble_eq_true rfl) dX1_init_10 (fun H locs hP hD hS => ?_)
  have hP : va_P D vwCl [(h0, .inr (1, [.ref q1_, .null, .null, .int (nI 0), .null, .int (nI 0), .null, .int (nI 0), .null, .int (nI 0)])), (q1_, .inl (cA, 128, .inl (nF (fun _ => 0))))] H := hP
  have hD : va_D A [(h0, .inr (1, [.ref q1_, .null, .null, .int (nI 0), .null, .int (nI 0), .null, .int (nI 0), .null, .int (nI 0)])), (q1_, .inl (cA, 128, .inl (nF (fun _ => 0))))] := hD
  refine lv_aload_n hx hb dX1_init_13 rfl (lv_at hl 0 rfl) ?_
  refine lv_bipush (v := nI 8) hx hb dX1_init_14 (by decide) ?_
  refine nr_newa hx hb (hts _ q71) hK hP hD hS hA (by decide) (Nat.le_of_ble_eq_true rfl) (Nat.le_of_ble_eq_true rfl) dX1_init_16 (fun q2_ H hP hD hS => ?_)
  have hP : va_P D vwCl [(h0, .inr (1, [.ref q1_, .null, .null, .int (nI 0), .null, .int (nI 0), .null, .int (nI 0), .null, .int (nI 0)])), (q1_, .inl (cA, 128, .inl (nF (fun _ => 0)))), (q2_, .inl (cA, 8, .inl (nF (fun _ => 0))))] H := hP
  have hD : va_D A [(h0, .inr (1, [.ref q1_, .null, .null, .int (nI 0), .null, .int (nI 0), .null, .int (nI 0), .null, .int (nI 0)])), (q1_, .inl (cA, 128, .inl (nF (fun _ => 0)))), (q2_, .inl (cA, 8, .inl (nF (fun _ => 0))))] := hD
  refine va_putF (D := D) (ci := 1) (v := .ref q2_) (ty := .array .int) (C := RX1) (T := TX1) (N := 10) hx hb hts in_X1 tyX1 tyX1_ok nmX1 hown hK hP hD hS 0 rfl rfl 1 (by decide) (hts _ q154) (fun _ h9 => h9) rfl hin rfl (by decide +kernel) rfl rfl (Nat.le_of_ble_eq_true rfl) dX1_init_18 (fun H locs hP hD hS => ?_)
  have hP : va_P D vwCl [(h0, .inr (1, [.ref q1_, .ref q2_, .null, .int (nI 0), .null, .int (nI 0), .null, .int (nI 0), .null, .int (nI 0)])), (q1_, .inl (cA, 128, .inl (nF (fun _ => 0)))), (q2_, .inl (cA, 8, .inl (nF (fun _ => 0))))] H := hP
  have hD : va_D A [(h0, .inr (1, [.ref q1_, .ref q2_, .null, .int (nI 0), .null, .int (nI 0), .null, .int (nI 0), .null, .int (nI 0)])), (q1_, .inl (cA, 128, .inl (nF (fun _ => 0)))), (q2_, .inl (cA, 8, .inl (nF (fun _ => 0))))] := hD
  refine lv_aload_n hx hb dX1_init_21 rfl (lv_at hl 0 rfl) ?_
  refine lv_bipush (v := nI 8) hx hb dX1_init_22 (by decide) ?_
  refine nr_newa hx hb (hts _ q71) hK hP hD hS hA (by decide) (Nat.le_of_ble_eq_true rfl) (Nat.le_of_ble_eq_true rfl) dX1_init_24 (fun q3_ H hP hD hS => ?_)
  have hP : va_P D vwCl [(h0, .inr (1, [.ref q1_, .ref q2_, .null, .int (nI 0), .null, .int (nI 0), .null, .int (nI 0), .null, .int (nI 0)])), (q1_, .inl (cA, 128, .inl (nF (fun _ => 0)))), (q2_, .inl (cA, 8, .inl (nF (fun _ => 0)))), (q3_, .inl (cA, 8, .inl (nF (fun _ => 0))))] H := hP
  have hD : va_D A [(h0, .inr (1, [.ref q1_, .ref q2_, .null, .int (nI 0), .null, .int (nI 0), .null, .int (nI 0), .null, .int (nI 0)])), (q1_, .inl (cA, 128, .inl (nF (fun _ => 0)))), (q2_, .inl (cA, 8, .inl (nF (fun _ => 0)))), (q3_, .inl (cA, 8, .inl (nF (fun _ => 0))))] := hD
  refine va_putF (D := D) (ci := 1) (v := .ref q3_) (ty := .array .int) (C := RX1) (T := TX1) (N := 10) hx hb hts in_X1 tyX1 tyX1_ok nmX1 hown hK hP hD hS 0 rfl rfl 2 (by decide) (hts _ q155) (fun _ h9 => h9) rfl hin rfl (by decide +kernel) rfl rfl (Nat.le_of_ble_eq_true rfl) dX1_init_26 (fun H locs hP hD hS => ?_)
  have hP : va_P D vwCl [(h0, .inr (1, [.ref q1_, .ref q2_, .ref q3_, .int (nI 0), .null, .int (nI 0), .null, .int (nI 0), .null, .int (nI 0)])), (q1_, .inl (cA, 128, .inl (nF (fun _ => 0)))), (q2_, .inl (cA, 8, .inl (nF (fun _ => 0)))), (q3_, .inl (cA, 8, .inl (nF (fun _ => 0))))] H := hP
  have hD : va_D A [(h0, .inr (1, [.ref q1_, .ref q2_, .ref q3_, .int (nI 0), .null, .int (nI 0), .null, .int (nI 0), .null, .int (nI 0)])), (q1_, .inl (cA, 128, .inl (nF (fun _ => 0)))), (q2_, .inl (cA, 8, .inl (nF (fun _ => 0)))), (q3_, .inl (cA, 8, .inl (nF (fun _ => 0))))] := hD
  refine lv_aload_n hx hb dX1_init_29 rfl (lv_at hl 0 rfl) ?_
  refine lv_bipush (v := nI 16) hx hb dX1_init_30 (by decide) ?_
  refine nr_newa hx hb (hts _ q71) hK hP hD hS hA (by decide) (Nat.le_of_ble_eq_true rfl) (Nat.le_of_ble_eq_true rfl) dX1_init_32 (fun q4_ H hP hD hS => ?_)
  have hP : va_P D vwCl [(h0, .inr (1, [.ref q1_, .ref q2_, .ref q3_, .int (nI 0), .null, .int (nI 0), .null, .int (nI 0), .null, .int (nI 0)])), (q1_, .inl (cA, 128, .inl (nF (fun _ => 0)))), (q2_, .inl (cA, 8, .inl (nF (fun _ => 0)))), (q3_, .inl (cA, 8, .inl (nF (fun _ => 0)))), (q4_, .inl (cA, 16, .inl (nF (fun _ => 0))))] H := hP
  have hD : va_D A [(h0, .inr (1, [.ref q1_, .ref q2_, .ref q3_, .int (nI 0), .null, .int (nI 0), .null, .int (nI 0), .null, .int (nI 0)])), (q1_, .inl (cA, 128, .inl (nF (fun _ => 0)))), (q2_, .inl (cA, 8, .inl (nF (fun _ => 0)))), (q3_, .inl (cA, 8, .inl (nF (fun _ => 0)))), (q4_, .inl (cA, 16, .inl (nF (fun _ => 0))))] := hD
  refine va_putF (D := D) (ci := 1) (v := .ref q4_) (ty := .array .int) (C := RX1) (T := TX1) (N := 10) hx hb hts in_X1 tyX1 tyX1_ok nmX1 hown hK hP hD hS 0 rfl rfl 4 (by decide) (hts _ q157) (fun _ h9 => h9) rfl hin rfl (by decide +kernel) rfl rfl (Nat.le_of_ble_eq_true rfl) dX1_init_34 (fun H locs hP hD hS => ?_)
  have hP : va_P D vwCl [(h0, .inr (1, [.ref q1_, .ref q2_, .ref q3_, .int (nI 0), .ref q4_, .int (nI 0), .null, .int (nI 0), .null, .int (nI 0)])), (q1_, .inl (cA, 128, .inl (nF (fun _ => 0)))), (q2_, .inl (cA, 8, .inl (nF (fun _ => 0)))), (q3_, .inl (cA, 8, .inl (nF (fun _ => 0)))), (q4_, .inl (cA, 16, .inl (nF (fun _ => 0))))] H := hP
  have hD : va_D A [(h0, .inr (1, [.ref q1_, .ref q2_, .ref q3_, .int (nI 0), .ref q4_, .int (nI 0), .null, .int (nI 0), .null, .int (nI 0)])), (q1_, .inl (cA, 128, .inl (nF (fun _ => 0)))), (q2_, .inl (cA, 8, .inl (nF (fun _ => 0)))), (q3_, .inl (cA, 8, .inl (nF (fun _ => 0)))), (q4_, .inl (cA, 16, .inl (nF (fun _ => 0))))] := hD
  refine lv_aload_n hx hb dX1_init_37 rfl (lv_at hl 0 rfl) ?_
  refine lv_bipush (v := nI 16) hx hb dX1_init_38 (by decide) ?_
  refine nr_newa hx hb (hts _ q71) hK hP hD hS hA (by decide) (Nat.le_of_ble_eq_true rfl) (Nat.le_of_ble_eq_true rfl) dX1_init_40 (fun q5_ H hP hD hS => ?_)
  have hP : va_P D vwCl [(h0, .inr (1, [.ref q1_, .ref q2_, .ref q3_, .int (nI 0), .ref q4_, .int (nI 0), .null, .int (nI 0), .null, .int (nI 0)])), (q1_, .inl (cA, 128, .inl (nF (fun _ => 0)))), (q2_, .inl (cA, 8, .inl (nF (fun _ => 0)))), (q3_, .inl (cA, 8, .inl (nF (fun _ => 0)))), (q4_, .inl (cA, 16, .inl (nF (fun _ => 0)))), (q5_, .inl (cA, 16, .inl (nF (fun _ => 0))))] H := hP
  have hD : va_D A [(h0, .inr (1, [.ref q1_, .ref q2_, .ref q3_, .int (nI 0), .ref q4_, .int (nI 0), .null, .int (nI 0), .null, .int (nI 0)])), (q1_, .inl (cA, 128, .inl (nF (fun _ => 0)))), (q2_, .inl (cA, 8, .inl (nF (fun _ => 0)))), (q3_, .inl (cA, 8, .inl (nF (fun _ => 0)))), (q4_, .inl (cA, 16, .inl (nF (fun _ => 0)))), (q5_, .inl (cA, 16, .inl (nF (fun _ => 0))))] := hD
  refine va_putF (D := D) (ci := 1) (v := .ref q5_) (ty := .array .int) (C := RX1) (T := TX1) (N := 10) hx hb hts in_X1 tyX1 tyX1_ok nmX1 hown hK hP hD hS 0 rfl rfl 6 (by decide) (hts _ q159) (fun _ h9 => h9) rfl hin rfl (by decide +kernel) rfl rfl (Nat.le_of_ble_eq_true rfl) dX1_init_42 (fun H locs hP hD hS => ?_)
  have hP : va_P D vwCl [(h0, .inr (1, [.ref q1_, .ref q2_, .ref q3_, .int (nI 0), .ref q4_, .int (nI 0), .ref q5_, .int (nI 0), .null, .int (nI 0)])), (q1_, .inl (cA, 128, .inl (nF (fun _ => 0)))), (q2_, .inl (cA, 8, .inl (nF (fun _ => 0)))), (q3_, .inl (cA, 8, .inl (nF (fun _ => 0)))), (q4_, .inl (cA, 16, .inl (nF (fun _ => 0)))), (q5_, .inl (cA, 16, .inl (nF (fun _ => 0))))] H := hP
  have hD : va_D A [(h0, .inr (1, [.ref q1_, .ref q2_, .ref q3_, .int (nI 0), .ref q4_, .int (nI 0), .ref q5_, .int (nI 0), .null, .int (nI 0)])), (q1_, .inl (cA, 128, .inl (nF (fun _ => 0)))), (q2_, .inl (cA, 8, .inl (nF (fun _ => 0)))), (q3_, .inl (cA, 8, .inl (nF (fun _ => 0)))), (q4_, .inl (cA, 16, .inl (nF (fun _ => 0)))), (q5_, .inl (cA, 16, .inl (nF (fun _ => 0))))] := hD
  refine lv_aload_n hx hb dX1_init_45 rfl (lv_at hl 0 rfl) ?_
  refine lv_sipush (v := nI 289) hx hb dX1_init_46 (by decide) ?_
  refine nr_newa hx hb (hts _ q71) hK hP hD hS hA (by decide) (Nat.le_of_ble_eq_true rfl) (Nat.le_of_ble_eq_true rfl) dX1_init_49 (fun q6_ H hP hD hS => ?_)
  have hP : va_P D vwCl [(h0, .inr (1, [.ref q1_, .ref q2_, .ref q3_, .int (nI 0), .ref q4_, .int (nI 0), .ref q5_, .int (nI 0), .null, .int (nI 0)])), (q1_, .inl (cA, 128, .inl (nF (fun _ => 0)))), (q2_, .inl (cA, 8, .inl (nF (fun _ => 0)))), (q3_, .inl (cA, 8, .inl (nF (fun _ => 0)))), (q4_, .inl (cA, 16, .inl (nF (fun _ => 0)))), (q5_, .inl (cA, 16, .inl (nF (fun _ => 0)))), (q6_, .inl (cA, 289, .inl (nF (fun _ => 0))))] H := hP
  have hD : va_D A [(h0, .inr (1, [.ref q1_, .ref q2_, .ref q3_, .int (nI 0), .ref q4_, .int (nI 0), .ref q5_, .int (nI 0), .null, .int (nI 0)])), (q1_, .inl (cA, 128, .inl (nF (fun _ => 0)))), (q2_, .inl (cA, 8, .inl (nF (fun _ => 0)))), (q3_, .inl (cA, 8, .inl (nF (fun _ => 0)))), (q4_, .inl (cA, 16, .inl (nF (fun _ => 0)))), (q5_, .inl (cA, 16, .inl (nF (fun _ => 0)))), (q6_, .inl (cA, 289, .inl (nF (fun _ => 0))))] := hD
  refine va_putF (D := D) (ci := 1) (v := .ref q6_) (ty := .array .int) (C := RX1) (T := TX1) (N := 10) hx hb hts in_X1 tyX1 tyX1_ok nmX1 hown hK hP hD hS 0 rfl rfl 8 (by decide) (hts _ q161) (fun _ h9 => h9) rfl hin rfl (by decide +kernel) rfl rfl (Nat.le_of_ble_eq_true rfl) dX1_init_51 (fun H locs hP hD hS => ?_)
  have hP : va_P D vwCl [(h0, .inr (1, [.ref q1_, .ref q2_, .ref q3_, .int (nI 0), .ref q4_, .int (nI 0), .ref q5_, .int (nI 0), .ref q6_, .int (nI 0)])), (q1_, .inl (cA, 128, .inl (nF (fun _ => 0)))), (q2_, .inl (cA, 8, .inl (nF (fun _ => 0)))), (q3_, .inl (cA, 8, .inl (nF (fun _ => 0)))), (q4_, .inl (cA, 16, .inl (nF (fun _ => 0)))), (q5_, .inl (cA, 16, .inl (nF (fun _ => 0)))), (q6_, .inl (cA, 289, .inl (nF (fun _ => 0))))] H := hP
  have hD : va_D A [(h0, .inr (1, [.ref q1_, .ref q2_, .ref q3_, .int (nI 0), .ref q4_, .int (nI 0), .ref q5_, .int (nI 0), .ref q6_, .int (nI 0)])), (q1_, .inl (cA, 128, .inl (nF (fun _ => 0)))), (q2_, .inl (cA, 8, .inl (nF (fun _ => 0)))), (q3_, .inl (cA, 8, .inl (nF (fun _ => 0)))), (q4_, .inl (cA, 16, .inl (nF (fun _ => 0)))), (q5_, .inl (cA, 16, .inl (nF (fun _ => 0)))), (q6_, .inl (cA, 289, .inl (nF (fun _ => 0))))] := hD
  obtain ⟨ad, had⟩ : ∃ ad : Nat → Nat, ad = (fun k => match k with | 0 => h0 | 1 => q1_ | 2 => q2_ | 3 => q3_ | 4 => q4_ | 5 => q5_ | _ => q6_) := ⟨_, rfl⟩
  have hP : va_P D vwCl (wX1 ad cA (fun _ => 0) (fun _ => 0) (fun _ => 0) 0 (fun _ => 0) 0 (fun _ => 0) 0 (fun _ => 0) 0) H := by rw [had]; exact hP
  have hD : va_D A (wX1 ad cA (fun _ => 0) (fun _ => 0) (fun _ => 0) 0 (fun _ => 0) 0 (fun _ => 0) 0 (fun _ => 0) 0) := by rw [had]; exact hD
  refine W.widen (k := 6) (n := 465) (Nat.le_of_ble_eq_true rfl) (Nat.le_of_ble_eq_true rfl) ?_
  exact W.vret hx hb hr (fun t ht hW => ⟨⟨ad, rfl, show ad 0 = h0 from congrFun had 0, by rw [ht]; exact hP, va_K.moved hW.alike hK, hD⟩, hS.F ht⟩) hS.2.2 dX1_init_54
end
section
/-! THE CLAIM OUT OF ONE WALK OF THE LAW'S BODY. Your part is whole_start (and what it stands on); all else here is the same for every law, but numbers. -/
def R_law : String := "NearDocsLaw"
def lw_P (b : Addr) (xs : List Int32) (args : Array Value) (s : State) : Prop := args = #[.ref b] ∧ s.IntsAt b xs ∧ xs.length ≤ 192 ∧ (Jvm.Cond.and given_1 narrow_1).before args s = true
def lw_Q (_ : Array Value) (s : State) (o : Outcome) (t : State) : Prop := o = .returned (some (.int 1)) ∧ Framed s o t [] 600000 7290000
def lw_Z (below : List Frame) (a : Array Value) (s : State) : State → Prop := fun t => ∃ o, t.status = .running ∧ Ended t below o ∧ lw_Q a s o t
/-- the law's own end, with 1 on the stack, nothing written that was there before, its room as the claim has it -/
theorem lw_ret {p : Program} {l : Launch} {e : Env} {s : State} {m : MethodId} {below : List Frame} {meth : Method} {c : Code} {b : Nat} (hx : p.tables.exec = Jvm.exec) (hb : c.code = code) (hr : meth.sig.returnType = ret) (hlocks : meth.locks = false) {pc : Nat} {H : Heap} {ls : Array Slot} (hdg : decode code pc = .ok (.ireturn, 1)) : W p l e room_1 s m #[Value.ref b] below meth c H [] 600000 7290000 (lw_Z below #[Value.ref b] s) (F0 m pc ls [.int 1]) := by
  intro T hT X
  obtain ⟨fs, hret, hrun, hended, hW, hframe⟩ := X.leave (v := some (.int 1)) (hlocks := hlocks) (fun h => by rw [hr] at h; cases h)
  have hmeth' : T.vm.method? m = some meth := X.method'
  refine ⟨T.setFrames fs, ?_, .returned (some (.int 1)), hrun, hended, rfl, ⟨_, rfl⟩, hW, hframe⟩
  jvm_step X.here [X.here.top, hx, hb, hdg, hmeth', hr, ret, narrow_b1]
  (try refine ⟨rfl, ?_⟩); (try refine ⟨rfl, ?_⟩)
  first | (intro acts; rw [hret _ acts rfl rfl rfl]) | rw [hret _ _ rfl rfl rfl]
  exact Steps.refl _
/-- what holds at the law's entry: the machine, the code, the tables' words (any of lw_tbl by 'hts w (by decide +kernel)'), the script of L ints xs at the cell b, what the Statement gives of the start (any of its parts by flat_of_before) -/
def lw_At (p : Program) (s : State) (m : MethodId) (meth : Method) (c : Code) (b L : Nat) (xs : Nat → Int32) : Prop :=
  p.tables.exec = Jvm.exec ∧ c.code = code ∧ meth.sig.returnType = ret ∧ c.maxLocals = 4 ∧ s.vm.findClass R_law = some m.cls ∧ (∀ w ∈ lw_tbl, w.before #[Value.ref b] s = true) ∧ va_X b L xs s s.heap ∧ b < s.heap.size ∧ meth.locks = false ∧ (Jvm.Cond.and given_1 narrow_1).before #[Value.ref b] s = true
section LW
variable {p : Program} {l : Launch} {e : Env} {R : Room} {s : State} {m : MethodId} {args : Array Value} {below : List Frame} {meth : Method} {c : Code} {H : Heap} {locs : List Loc} {cells slots : Nat} {Q : State → Prop}
variable {cc : ByteArray} {pc : Nat} {ls : Array Slot} {rest : List Value} {D : va_G} {cl : List vw_C} {A : Nat → Prop} {ws : va_W}
theorem nr_sld {b L : Nat} {xs : Nat → Int32} (hx : p.tables.exec = Jvm.exec) (hb : c.code = cc) (hX : va_X b L xs s s.heap) (hbl : b < s.heap.size) (hbA : ¬ A b) (hS : va_S A s.heap H locs) {i : Nat} (hi : i < L) (hL : L < 2147483648) (hdg : decode cc pc = .ok (.iaload, 1))
    (k : W p l e R s m args below meth c H locs cells slots Q (F0 m (pc + 1) ls (.int (xs i) :: rest))) : W p l e R s m args below meth c H locs cells slots Q (F0 m pc ls (.int (nI i) :: .ref b :: rest)) := by
  refine va_sld hx hb hX hbl hbA hS (vp_in_nI hi hL) hdg ?_
  rw [nI_clamp (Nat.lt_trans hi hL)]
  exact k
theorem nr_slen {b L : Nat} {xs : Nat → Int32} (hx : p.tables.exec = Jvm.exec) (hb : c.code = cc) (hX : va_X b L xs s s.heap) (hbl : b < s.heap.size) (hbA : ¬ A b) (hS : va_S A s.heap H locs) (hdg : decode cc pc = .ok (.arraylength, 1))
    (k : W p l e R s m args below meth c H locs cells slots Q (F0 m (pc + 1) ls (.int (nI L) :: rest))) : W p l e R s m args below meth c H locs cells slots Q (F0 m pc ls (.ref b :: rest)) := va_slen hx hb hX hbl hbA hS hdg k
theorem nr_callI {S : Type} {cA : ClassId} {post : S → Prop} {wf : S → va_W} {wc wr : va_W} {y : MethodName} {bytes : ByteArray} {maxL index nL mc ms : Nat} {rm : Room} {own : String} {b : Nat} {st : List Value}
    (F : CallFix p m c cc nL s args lw_all own) (hK : va_K D cl [(cA, .int)] s) (hP : va_P D cl ws H) (hD : va_D A ws) (hS : va_S A s.heap H locs) (hA : ∀ q : Nat, s.heap.size ≤ q → A q) (isC isR : List Nat) (hC : isC.map (fun i => ws[i]?) = wc.map some) (hR : isR.map (fun i => ws[i]?) = wr.map some) (hnC : va_nd isC = true) (hn : va_nd isR = true) (hdis : ∀ i ∈ isR, i ∉ isC)
    (n : Nat) (As : List Value) (hM : Met l y (ws_ y bytes maxL none) rm (va_Pc (.ref b :: As) (nW D cl cA wc H.size)) (va_Qv post (nB D cl cA (va_A wc H.size) wf) (va_A wc H.size)) mc ms (va_A wc H.size))
    (g : GoodIn lw_all (ws_ y bytes maxL none)) (hrc : rm.cells = mc) (hrs : rm.slots = ms) (hini : Cond.initialized y.cls ∈ lw_all) (hlk : Cond.methodLink own index y ∈ lw_all) (him : Cond.instanceMethod y ∈ lw_all) (hy1 : y.name = "<init>")
    (hd : y.cls ≠ "java/lang/invoke/MethodHandle" ∧ y.cls ≠ "java/lang/invoke/VarHandle" ∧ (parseMethodDescriptor y.desc).map (fun d => d.parameters.length) = some n) (hRm : rm.frames + 1 ≤ R.frames ∧ 8 + (maxL + 11) + rm.locals ≤ R.locals)
    (hAs : As.length = n) (hls : ls.size = nL) (hst : st = As.reverse ++ .ref b :: rest) (hroom : (rest.map fun v => v.category).sum ≤ 8) (hdg : decode cc pc = .ok (.invokespecial index, 3)) (hcell : cells + mc ≤ R.cells ∧ slots + ms ≤ R.slots)
    (kk : ∀ (u : S) (H1 : Heap) (locs1 : List Loc), post u → va_P D cl (wr ++ wf u) H1 → va_D A (wr ++ wf u) → va_S A s.heap H1 locs1 → W p l e R s m args below meth c H1 locs1 (cells + mc) (slots + ms) Q (F0 m (pc + 3) ls rest)) :
    W p l e R s m args below meth c H locs cells slots Q (F0 m pc ls st) := by
  have hFc := va_free (wc := wc) hD hS hA isC hC
  have hPc := nr_subP hP isC hC
  have hDc : va_D (fun _ => True) wc := (hD.sub isC hnC hC).weaken (fun _ _ _ _ => trivial)
  have hts := F.2.2.2.2
  refine va_callv (va_runI (As := As) (rest := rest) F hM (cwI n hts g rfl hrc hrs (hts _ hini) (hts _ hlk) (hts _ him) hy1 hd hRm) ⟨nr_blind, fun U hU hW => ⟨rfl, by rw [hU], by rw [hU]; exact hPc, va_K.moved hW.alike hK, hDc⟩⟩ rfl hAs hls hst (lv_room hroom) hdg hcell) hS (fun q _ h => hFc q h) hFc (fun u t H1 locs1 ht hvm hw hB hz1 hk1 hS1 => ?_)
  obtain ⟨hP1, hK1, hD1⟩ := hB
  rw [ht] at hP1
  obtain ⟨a1, a2⟩ := va_join hP hD isC isR hC hR hn hdis hk1 hFc hP1 hD1
  exact kk u H1 locs1 hw a1 a2 hS1
end LW
theorem law_c {L i : Nat} (hL : L < 1073741824) (hi : i < 1073741824) (h : ¬ nI L - nI 3 < nI i) : i + 3 ≤ L := by
  rw [Int32.lt_iff_toInt_lt, pk_sub_toInt hL (by decide), nI_toInt (by omega)] at h
  omega
theorem inv0_0 : inv0 (fun _ => 0) (fun _ => 0) (fun _ => 0) 0 (fun _ => 0) (fun _ => 0) := ⟨fun _ _ => Nat.zero_le 16, fun _ => Nat.zero_lt_succ 3, Nat.zero_le 8, fun _ => Nat.zero_lt_succ 3, fun _ _ _ _ => rfl, fun _ _ => rfl⟩
theorem bornX0 : ∀ j, j < 15 → defaultValue (tyX0 j) = vp_V [.null, .null, .null, .int (nI 0), .null, .null, .null, .int (nI 0), .int (nI 0), .int (nI 0), .int (nI 0), .null, .null, .null, .null] j := by
  have z : Value.int 0 = Value.int (nI 0) := by rw [nI_0]
  intro j hj
  rcases (show j = 0 ∨ j = 1 ∨ j = 2 ∨ j = 3 ∨ j = 4 ∨ j = 5 ∨ j = 6 ∨ j = 7 ∨ j = 8 ∨ j = 9 ∨ j = 10 ∨ j = 11 ∨ j = 12 ∨ j = 13 ∨ j = 14 by omega) with rfl | rfl | rfl | rfl | rfl | rfl | rfl | rfl | rfl | rfl | rfl | rfl | rfl | rfl | rfl
  · exact rfl
  · exact rfl
  · exact rfl
  · exact z
  · exact rfl
  · exact rfl
  · exact rfl
  · exact z
  · exact z
  · exact z
  · exact z
  · exact rfl
  · exact rfl
  · exact rfl
  · exact rfl
theorem bornX1 : ∀ j, j < 10 → defaultValue (tyX1 j) = vp_V [.null, .null, .null, .int (nI 0), .null, .int (nI 0), .null, .int (nI 0), .null, .int (nI 0)] j := by
  have z : Value.int 0 = Value.int (nI 0) := by rw [nI_0]
  intro j hj
  rcases (show j = 0 ∨ j = 1 ∨ j = 2 ∨ j = 3 ∨ j = 4 ∨ j = 5 ∨ j = 6 ∨ j = 7 ∨ j = 8 ∨ j = 9 by omega) with rfl | rfl | rfl | rfl | rfl | rfl | rfl | rfl | rfl | rfl
  · exact rfl
  · exact rfl
  · exact rfl
  · exact z
  · exact rfl
  · exact z
  · exact rfl
  · exact z
  · exact rfl
  · exact z
end
section
set_option maxHeartbeats 16000000 in
set_option maxRecDepth 100000 in
/-- the law walked from its entry to its end -/
theorem whole_start {p : Program} {e : Env} {s : State} {m : MethodId} {below : List Frame} {meth : Method} {c : Code} (l : Launch) {b L : Nat} {xs : Nat → Int32} (hL : L ≤ 192) (C0 : lw_At p s m meth c b L xs) : W p l e room_1 s m #[Value.ref b] below meth c s.heap [] 0 0 (lw_Z below #[Value.ref b] s) (entryFrame m ([Value.ref b] : List Value).toArray 4) := by
  obtain ⟨hx, hb, hr, hml, hown, hts, hX, hbl, hlocks, hgv⟩ := id C0
  have htsA : ∀ w ∈ lw_all, w.before #[Value.ref b] s = true := fun w h => hts w (lw_all_tbl h)
  obtain ⟨A, hAe⟩ : ∃ A : Nat → Prop, A = fun q : Nat => s.heap.size ≤ q := ⟨_, rfl⟩
  have hA : ∀ q : Nat, s.heap.size ≤ q → A q := fun q h => by rw [hAe]; exact h
  have hAi : ∀ q : Nat, A q → s.heap.size ≤ q := fun q h => by rw [hAe] at h; exact h
  have hbA : ¬ A b := fun h => absurd (hAi b h) (Nat.not_le.mpr hbl)
  obtain ⟨c0_, iS0, hKn0⟩ := u_known (C := RX0) (T := TX0) (N := 15) (n := 15) htsA in_X0 (htsA _ q18)
  obtain ⟨c1_, iS1, hKn1⟩ := u_known (C := RX1) (T := TX1) (N := 10) (n := 10) htsA in_X1 (htsA _ q148)
  obtain ⟨D, hKc⟩ : ∃ (D : va_G), ∀ (k : Nat) (q : vw_C), vwCl[k]? = some q → u_Kn s q.1 q.2.1 q.2.2 (D.1 k) (D.2 k) := by
    refine ⟨(fun k => if k = 0 then c0_ else c1_, fun k => if k = 0 then iS0 else iS1), ?_⟩
    intro k q hq
    match k, hq with
    | 0, hq => cases hq; exact hKn0
    | 1, hq => cases hq; exact hKn1
    | k + 2, hq => simp [vwCl] at hq
  obtain ⟨cA, kA, comp, hfind, hkA, hkind⟩ := Cond.arrayClass_spec (htsA _ q71)
  have hK : va_K D vwCl [(cA, .int)] s := by
    refine ⟨hKc, fun k q hk => ?_⟩
    match k, hk with
    | 0, hk => cases hk; exact ⟨fun n z => ⟨fun k h => (by cases h), kA, hkA, comp, hkind⟩, hfind⟩
    | k + 1, hk => simp at hk
  have hS : va_S A s.heap s.heap [] := va_S.rf
  have hP : va_P D vwCl [] s.heap := fun k q h => by simp at h
  have hD : va_D A [] := ⟨fun i j p q h => by simp at h, fun k q h => by simp at h⟩
  have hl := lv_entry ([.ref b]) (n := 4) (Nat.le_of_ble_eq_true rfl)
  rw [lg_entry_eq]
  generalize (lg_sl ([.ref b]) ++ List.replicate (4 - (lg_sl ([.ref b])).length) Slot.unset).toArray = ls at hl ⊢
  have hl : lv_has ls 4 [(0, .ref b)] := hl
  refine va_new (ci := 0) (fs := [.null, .null, .null, .int (nI 0), .null, .null, .null, .int (nI 0), .int (nI 0), .int (nI 0), .int (nI 0), .null, .null, .null, .null]) (C := RX0) (T := TX0) (N := 15) hx hb htsA in_X0 tyX0 tyX0_ok hown (htsA _ q17) (htsA _ q18) (htsA _ q15) hK hP hD hS hA rfl bornX0 (Nat.le_of_ble_eq_true rfl) (Nat.le_of_ble_eq_true rfl) dL_law_0 (fun h0 H hP hD hS => ?_)
  have hP : va_P D vwCl [(h0, .inr (0, [.null, .null, .null, .int (nI 0), .null, .null, .null, .int (nI 0), .int (nI 0), .int (nI 0), .int (nI 0), .null, .null, .null, .null]))] H := hP
  have hD : va_D A [(h0, .inr (0, [.null, .null, .null, .int (nI 0), .null, .null, .null, .int (nI 0), .int (nI 0), .int (nI 0), .int (nI 0), .null, .null, .null, .null]))] := hD
  refine lv_dup hx hb dL_law_3 rfl ?_
  refine nr_callI (rest := [.ref h0]) (wc := [(h0, .inr (0, [.null, .null, .null, .int (nI 0), .null, .null, .null, .int (nI 0), .int (nI 0), .int (nI 0), .int (nI 0), .null, .null, .null, .null]))]) (wr := []) ⟨hx, hb, hml, hown, htsA⟩ hK hP hD hS hA [0] [] rfl rfl (by decide) (by decide) (by decide) 0 [] (mt0_init l D cA h0 _) (lw_meth q21) rfl rfl q15 q19 q20 rfl (by decide +kernel) ⟨Nat.le_of_ble_eq_true rfl, Nat.le_of_ble_eq_true rfl⟩ rfl hl.1 rfl (Nat.le_of_ble_eq_true rfl) dL_law_4 ⟨Nat.le_of_ble_eq_true rfl, Nat.le_of_ble_eq_true rfl⟩ (fun a0 H locs hw hP hD hS => ?_)
  have hw : a0 0 = h0 := hw
  rw [← hw]
  have hP : va_P D vwCl (wX0 a0 cA (fun _ => 0) (fun _ => 0) (fun _ => 0) 0 (fun _ => 0) (fun _ => 0) (nF (fun _ => 0)) 0 0 0 0 (fun _ => 0) (fun _ => 0) (fun _ => 0) (fun _ => 0)) H := hP
  have hD : va_D A (wX0 a0 cA (fun _ => 0) (fun _ => 0) (fun _ => 0) 0 (fun _ => 0) (fun _ => 0) (nF (fun _ => 0)) 0 0 0 0 (fun _ => 0) (fun _ => 0) (fun _ => 0) (fun _ => 0)) := hD
  refine lv_astore_n (lv' := [(1, .ref (a0 0)), (0, .ref b)]) hx hb dL_law_7 rfl hl (by decide) rfl (fun ls hl => ?_)
  refine va_new (ci := 1) (fs := [.null, .null, .null, .int (nI 0), .null, .int (nI 0), .null, .int (nI 0), .null, .int (nI 0)]) (C := RX1) (T := TX1) (N := 10) hx hb htsA in_X1 tyX1 tyX1_ok hown (htsA _ q147) (htsA _ q148) (htsA _ q16) hK hP hD hS hA rfl bornX1 (Nat.le_of_ble_eq_true rfl) (Nat.le_of_ble_eq_true rfl) dL_law_8 (fun h1 H hP hD hS => ?_)
  have hP : va_P D vwCl (wX0 a0 cA (fun _ => 0) (fun _ => 0) (fun _ => 0) 0 (fun _ => 0) (fun _ => 0) (nF (fun _ => 0)) 0 0 0 0 (fun _ => 0) (fun _ => 0) (fun _ => 0) (fun _ => 0) ++ [(h1, .inr (1, [.null, .null, .null, .int (nI 0), .null, .int (nI 0), .null, .int (nI 0), .null, .int (nI 0)]))]) H := hP
  have hD : va_D A (wX0 a0 cA (fun _ => 0) (fun _ => 0) (fun _ => 0) 0 (fun _ => 0) (fun _ => 0) (nF (fun _ => 0)) 0 0 0 0 (fun _ => 0) (fun _ => 0) (fun _ => 0) (fun _ => 0) ++ [(h1, .inr (1, [.null, .null, .null, .int (nI 0), .null, .int (nI 0), .null, .int (nI 0), .null, .int (nI 0)]))]) := hD
  refine lv_dup hx hb dL_law_11 rfl ?_
  refine nr_callI (rest := [.ref h1]) (wc := [(h1, .inr (1, [.null, .null, .null, .int (nI 0), .null, .int (nI 0), .null, .int (nI 0), .null, .int (nI 0)]))]) (wr := wX0 a0 cA (fun _ => 0) (fun _ => 0) (fun _ => 0) 0 (fun _ => 0) (fun _ => 0) (nF (fun _ => 0)) 0 0 0 0 (fun _ => 0) (fun _ => 0) (fun _ => 0) (fun _ => 0)) ⟨hx, hb, hml, hown, htsA⟩ hK hP hD hS hA [11] [0, 1, 2, 3, 4, 5, 6, 7, 8, 9, 10] rfl rfl (by decide) (by decide) (by decide) 0 [] (mt1_init l D cA h1 _) (lw_meth q151) rfl rfl q16 q149 q150 rfl (by decide +kernel) ⟨Nat.le_of_ble_eq_true rfl, Nat.le_of_ble_eq_true rfl⟩ rfl hl.1 rfl (Nat.le_of_ble_eq_true rfl) dL_law_12 ⟨Nat.le_of_ble_eq_true rfl, Nat.le_of_ble_eq_true rfl⟩ (fun a1 H locs hw hP hD hS => ?_)
  have hw : a1 0 = h1 := hw
  rw [← hw]
  have hP : va_P D vwCl (wX0 a0 cA (fun _ => 0) (fun _ => 0) (fun _ => 0) 0 (fun _ => 0) (fun _ => 0) (nF (fun _ => 0)) 0 0 0 0 (fun _ => 0) (fun _ => 0) (fun _ => 0) (fun _ => 0) ++ wX1 a1 cA (fun _ => 0) (fun _ => 0) (fun _ => 0) 0 (fun _ => 0) 0 (fun _ => 0) 0 (fun _ => 0) 0) H := hP
  have hD : va_D A (wX0 a0 cA (fun _ => 0) (fun _ => 0) (fun _ => 0) 0 (fun _ => 0) (fun _ => 0) (nF (fun _ => 0)) 0 0 0 0 (fun _ => 0) (fun _ => 0) (fun _ => 0) (fun _ => 0) ++ wX1 a1 cA (fun _ => 0) (fun _ => 0) (fun _ => 0) 0 (fun _ => 0) 0 (fun _ => 0) 0 (fun _ => 0) 0) := hD
  refine lv_astore_n (lv' := [(2, .ref (a1 0)), (1, .ref (a0 0)), (0, .ref b)]) hx hb dL_law_15 rfl hl (by decide) rfl (fun ls hl => ?_)
  refine W.widen (k := 600000) (n := 7290000) (Nat.le_of_ble_eq_true rfl) (Nat.le_of_ble_eq_true rfl) ?_
  refine lv_iconst (v := nI 0) hx hb dL_law_16 (by decide) ?_
  refine lv_istore_n (lv' := [(3, .int (nI 0)), (2, .ref (a1 0)), (1, .ref (a0 0)), (0, .ref b)]) hx hb dL_law_17 rfl hl (by decide) rfl (fun ls hl => ?_)
  refine nr_loop (σ := Nat × (Nat → Nat) × (Nat → Nat) × (Nat → Nat) × Nat × (Nat → Nat) × (Nat → Nat) × (Nat → Int32) × Nat × Nat × Nat × Nat × (Nat → Nat) × (Nat → Nat) × (Nat → Nat) × (Nat → Nat) × (Nat → Nat) × Nat × (Nat → Nat) × Nat × (Nat → Nat) × Nat) (fun v H locs ls => (fun (i : Nat) (ln : Nat → Nat) (lt : Nat → Nat) (pn : Nat → Nat) (ql : Nat) (q : Nat → Nat) (qp : Nat → Nat) (mk : Nat → Int32) (bd : Nat) (be : Nat) (xl : Nat) (yl : Nat) (xx : Nat → Nat) (yy : Nat → Nat) (co : Nat → Nat) (nc : Nat → Nat) (lf : Nat → Nat) (lfs : Nat) (rg : Nat → Nat) (rgs : Nat) (tb : Nat → Nat) (fe : Nat) => (i ≤ L) ∧ (inv0 ln lt pn ql q qp) ∧ va_P D vwCl (wX0 a0 cA ln lt pn ql q qp mk bd be xl yl xx yy co nc ++ wX1 a1 cA lt ln q ql lf lfs rg rgs tb fe) H ∧ va_D A (wX0 a0 cA ln lt pn ql q qp mk bd be xl yl xx yy co nc ++ wX1 a1 cA lt ln q ql lf lfs rg rgs tb fe) ∧ va_S A s.heap H locs ∧ lv_has ls 4 [(0, .ref b), (1, .ref (a0 0)), (2, .ref (a1 0)), (3, .int (nI i))]) v.1 v.2.1 v.2.2.1 v.2.2.2.1 v.2.2.2.2.1 v.2.2.2.2.2.1 v.2.2.2.2.2.2.1 v.2.2.2.2.2.2.2.1 v.2.2.2.2.2.2.2.2.1 v.2.2.2.2.2.2.2.2.2.1 v.2.2.2.2.2.2.2.2.2.2.1 v.2.2.2.2.2.2.2.2.2.2.2.1 v.2.2.2.2.2.2.2.2.2.2.2.2.1 v.2.2.2.2.2.2.2.2.2.2.2.2.2.1 v.2.2.2.2.2.2.2.2.2.2.2.2.2.2.1 v.2.2.2.2.2.2.2.2.2.2.2.2.2.2.2.1 v.2.2.2.2.2.2.2.2.2.2.2.2.2.2.2.2.1 v.2.2.2.2.2.2.2.2.2.2.2.2.2.2.2.2.2.1 v.2.2.2.2.2.2.2.2.2.2.2.2.2.2.2.2.2.2.1 v.2.2.2.2.2.2.2.2.2.2.2.2.2.2.2.2.2.2.2.1 v.2.2.2.2.2.2.2.2.2.2.2.2.2.2.2.2.2.2.2.2.1 v.2.2.2.2.2.2.2.2.2.2.2.2.2.2.2.2.2.2.2.2.2) (fun v => (fun (i : Nat) (ln : Nat → Nat) (lt : Nat → Nat) (pn : Nat → Nat) (ql : Nat) (q : Nat → Nat) (qp : Nat → Nat) (mk : Nat → Int32) (bd : Nat) (be : Nat) (xl : Nat) (yl : Nat) (xx : Nat → Nat) (yy : Nat → Nat) (co : Nat → Nat) (nc : Nat → Nat) (lf : Nat → Nat) (lfs : Nat) (rg : Nat → Nat) (rgs : Nat) (tb : Nat → Nat) (fe : Nat) => L + 3 - i) v.1 v.2.1 v.2.2.1 v.2.2.2.1 v.2.2.2.2.1 v.2.2.2.2.2.1 v.2.2.2.2.2.2.1 v.2.2.2.2.2.2.2.1 v.2.2.2.2.2.2.2.2.1 v.2.2.2.2.2.2.2.2.2.1 v.2.2.2.2.2.2.2.2.2.2.1 v.2.2.2.2.2.2.2.2.2.2.2.1 v.2.2.2.2.2.2.2.2.2.2.2.2.1 v.2.2.2.2.2.2.2.2.2.2.2.2.2.1 v.2.2.2.2.2.2.2.2.2.2.2.2.2.2.1 v.2.2.2.2.2.2.2.2.2.2.2.2.2.2.2.1 v.2.2.2.2.2.2.2.2.2.2.2.2.2.2.2.2.1 v.2.2.2.2.2.2.2.2.2.2.2.2.2.2.2.2.2.1 v.2.2.2.2.2.2.2.2.2.2.2.2.2.2.2.2.2.2.1 v.2.2.2.2.2.2.2.2.2.2.2.2.2.2.2.2.2.2.2.1 v.2.2.2.2.2.2.2.2.2.2.2.2.2.2.2.2.2.2.2.2.1 v.2.2.2.2.2.2.2.2.2.2.2.2.2.2.2.2.2.2.2.2.2) ?_ (0, (fun _ => 0), (fun _ => 0), (fun _ => 0), 0, (fun _ => 0), (fun _ => 0), (nF (fun _ => 0)), 0, 0, 0, 0, (fun _ => 0), (fun _ => 0), (fun _ => 0), (fun _ => 0), (fun _ => 0), 0, (fun _ => 0), 0, (fun _ => 0), 0) ⟨(show 0 ≤ L from by omega), (show inv0 (fun _ => 0) (fun _ => 0) (fun _ => 0) 0 (fun _ => 0) (fun _ => 0) from inv0_0), hP, hD, hS, lv_sub hl [3, 2, 1, 0] rfl⟩
  intro v H locs ls hv ih18
  obtain ⟨i, ln, lt, pn, ql, q, qp, mk, bd, be, xl, yl, xx, yy, co, nc, lf, lfs, rg, rgs, tb, fe⟩ := v
  obtain ⟨hi, hI, hP, hD, hS, hl⟩ := hv
  have hi : i ≤ L := hi
  have hI : inv0 ln lt pn ql q qp := hI
  have hP : va_P D vwCl (wX0 a0 cA ln lt pn ql q qp mk bd be xl yl xx yy co nc ++ wX1 a1 cA lt ln q ql lf lfs rg rgs tb fe) H := hP
  have hD : va_D A (wX0 a0 cA ln lt pn ql q qp mk bd be xl yl xx yy co nc ++ wX1 a1 cA lt ln q ql lf lfs rg rgs tb fe) := hD
  have hl : lv_has ls 4 [(0, .ref b), (1, .ref (a0 0)), (2, .ref (a1 0)), (3, .int (nI i))] := hl
  refine lv_iload_n hx hb dL_law_18 rfl (lv_at hl 3 rfl) ?_
  refine lv_aload_n hx hb dL_law_19 rfl (lv_at hl 0 rfl) ?_
  refine nr_slen hx hb hX hbl hbA hS dL_law_20 ?_
  refine lv_iconst (v := nI 3) hx hb dL_law_21 (by decide) ?_
  refine lv_isub hx hb dL_law_22 ?_
  refine lv_icmp_gt (tgt := 349) hx hb dL_law_23 (by decide) (fun c23 => ?_) (fun c23 => ?_)
  · skip
    refine lv_iconst (v := 1) hx hb dL_law_349 (by decide) ?_
    refine va_forget (fun q h => hAi _ (hS.2.2 q h)) ?_
    exact lw_ret hx hb hr hlocks dL_law_350
  · skip
    have c23 := law_c (by omega) (by omega) c23
    refine lv_aload_n hx hb dL_law_26 rfl (lv_at hl 0 rfl) ?_
    refine lv_iload_n hx hb dL_law_27 rfl (lv_at hl 3 rfl) ?_
    refine nr_sld (i := i) hx hb hX hbl hbA hS (by omega) (by omega) dL_law_28 ?_
    refine lv_bipush (v := nI 15) hx hb dL_law_29 (by decide) ?_
    refine lv_iand hx hb dL_law_31 ?_
    obtain ⟨k, hk, ek⟩ := pk_andE (xs i) (m := nI 15) 4 (by decide)
    have hk : k < 16 := hk
    refine nr_as ek ?_
    rcases (show k = 0 ∨ k = 1 ∨ k = 2 ∨ k = 3 ∨ k = 4 ∨ k = 5 ∨ k = 6 ∨ k = 7 ∨ k = 8 ∨ k = 9 ∨ k = 10 ∨ 11 ≤ k by omega) with rfl | rfl | rfl | rfl | rfl | rfl | rfl | rfl | rfl | rfl | rfl | hk11
    · skip
      refine lv_tableIn (tgt := 92) (off := 60) hx hb dL_law_32 (by decide) (by decide) (by decide +kernel) (by decide) ?_
      refine lv_aload_n hx hb dL_law_92 rfl (lv_at hl 1 rfl) ?_
      refine lv_aload_n hx hb dL_law_93 rfl (lv_at hl 0 rfl) ?_
      refine lv_iload_n hx hb dL_law_94 rfl (lv_at hl 3 rfl) ?_
      refine lv_iconst (v := nI 1) hx hb dL_law_95 (by decide) ?_
      refine nr_add hx hb dL_law_96 ?_
      refine nr_sld (i := i + 1) hx hb hX hbl hbA hS (by omega) (by omega) dL_law_97 ?_
      refine lv_aload_n hx hb dL_law_98 rfl (lv_at hl 0 rfl) ?_
      refine lv_iload_n hx hb dL_law_99 rfl (lv_at hl 3 rfl) ?_
      refine lv_iconst (v := nI 2) hx hb dL_law_100 (by decide) ?_
      refine nr_add hx hb dL_law_101 ?_
      refine nr_sld (i := i + 2) hx hb hX hbl hbA hS (by omega) (by omega) dL_law_102 ?_
      refine nr_callVi (C := RX0) (T := TX0) (N := 15) (ci := 0) (rest := []) (wc := wX0 a0 cA ln lt pn ql q qp mk bd be xl yl xx yy co nc) (wr := wX1 a1 cA lt ln q ql lf lfs rg rgs tb fe) ⟨hx, hb, hml, hown, htsA⟩ hK hP hD hS hA [0, 1, 2, 3, 4, 5, 6, 7, 8, 9, 10] [11, 12, 13, 14, 15, 16, 17] rfl rfl (by decide) (by decide) (by decide) 2 [.int (xs (i + 1)), .int (xs (i + 2))] (mt0_write l D a0 cA _ ln lt pn ql q qp mk bd be xl yl xx yy co nc (xs (i + 1)) (xs (i + 2)) hI) (lw_V q72 q73 q74 q15 q75) (by decide +kernel) ⟨Nat.le_of_ble_eq_true rfl, Nat.le_of_ble_eq_true rfl⟩ rfl 0 rfl rfl hl.1 rfl (Nat.le_of_ble_eq_true rfl) dL_law_103 ⟨Nat.le_refl _, Nat.le_refl _⟩ (fun rA u H locs hwA hP hD hS => ?_)
      obtain ⟨ln0_, lt0_, pn0_⟩ := u
      have hwA : rA = sWr ln (xs (i + 1)) ∧ ln0_ = sWrL ln (xs (i + 1)) ∧ lt0_ = sWrT ln lt (xs (i + 1)) (xs (i + 2)) ∧ inv0 ln0_ lt0_ pn0_ ql q qp := hwA
      have hP : va_P D vwCl (wX1 a1 cA lt ln q ql lf lfs rg rgs tb fe ++ wX0 a0 cA ln0_ lt0_ pn0_ ql q qp mk bd be xl yl xx yy co nc) H := hP
      have hD : va_D A (wX1 a1 cA lt ln q ql lf lfs rg rgs tb fe ++ wX0 a0 cA ln0_ lt0_ pn0_ ql q qp mk bd be xl yl xx yy co nc) := hD
      refine lv_aload_n hx hb dL_law_106 rfl (lv_at hl 2 rfl) ?_
      refine lv_aload_n hx hb dL_law_107 rfl (lv_at hl 0 rfl) ?_
      refine lv_iload_n hx hb dL_law_108 rfl (lv_at hl 3 rfl) ?_
      refine lv_iconst (v := nI 1) hx hb dL_law_109 (by decide) ?_
      refine nr_add hx hb dL_law_110 ?_
      refine nr_sld (i := i + 1) hx hb hX hbl hbA hS (by omega) (by omega) dL_law_111 ?_
      refine lv_aload_n hx hb dL_law_112 rfl (lv_at hl 0 rfl) ?_
      refine lv_iload_n hx hb dL_law_113 rfl (lv_at hl 3 rfl) ?_
      refine lv_iconst (v := nI 2) hx hb dL_law_114 (by decide) ?_
      refine nr_add hx hb dL_law_115 ?_
      refine nr_sld (i := i + 2) hx hb hX hbl hbA hS (by omega) (by omega) dL_law_116 ?_
      refine nr_callVi (C := RX1) (T := TX1) (N := 10) (ci := 1) (rest := [.int rA]) (wc := wX1 a1 cA lt ln q ql lf lfs rg rgs tb fe) (wr := wX0 a0 cA ln0_ lt0_ pn0_ ql q qp mk bd be xl yl xx yy co nc) ⟨hx, hb, hml, hown, htsA⟩ hK hP hD hS hA [0, 1, 2, 3, 4, 5, 6] [7, 8, 9, 10, 11, 12, 13, 14, 15, 16, 17] rfl rfl (by decide) (by decide) (by decide) 2 [.int (xs (i + 1)), .int (xs (i + 2))] (mt1_write l D a1 cA _ lt ln q ql lf lfs rg rgs tb fe (xs (i + 1)) (xs (i + 2)) (inv0_1 hI)) (lw_V q184 q185 q186 q16 q187) (by decide +kernel) ⟨Nat.le_of_ble_eq_true rfl, Nat.le_of_ble_eq_true rfl⟩ rfl 0 rfl rfl hl.1 rfl (Nat.le_of_ble_eq_true rfl) dL_law_117 ⟨Nat.le_refl _, Nat.le_refl _⟩ (fun rB u H locs hwB hP hD hS => ?_)
      obtain ⟨lt1_, ln1_⟩ := u
      have hwB : rB = sWr ln (xs (i + 1)) ∧ ln1_ = sWrL ln (xs (i + 1)) ∧ lt1_ = sWrT ln lt (xs (i + 1)) (xs (i + 2)) := hwB
      have hP : va_P D vwCl (wX0 a0 cA ln0_ lt0_ pn0_ ql q qp mk bd be xl yl xx yy co nc ++ wX1 a1 cA lt1_ ln1_ q ql lf lfs rg rgs tb fe) H := hP
      have hD : va_D A (wX0 a0 cA ln0_ lt0_ pn0_ ql q qp mk bd be xl yl xx yy co nc ++ wX1 a1 cA lt1_ ln1_ q ql lf lfs rg rgs tb fe) := hD
      have z_ln : ln1_ = ln0_ := hwB.2.1.trans hwA.2.1.symm
      rw [z_ln] at hP hD
      have z_lt : lt1_ = lt0_ := hwB.2.2.trans hwA.2.2.1.symm
      rw [z_lt] at hP hD
      have hP : va_P D vwCl (wX0 a0 cA ln0_ lt0_ pn0_ ql q qp mk bd be xl yl xx yy co nc ++ wX1 a1 cA lt0_ ln0_ q ql lf lfs rg rgs tb fe) H := hP
      have hD : va_D A (wX0 a0 cA ln0_ lt0_ pn0_ ql q qp mk bd be xl yl xx yy co nc ++ wX1 a1 cA lt0_ ln0_ q ql lf lfs rg rgs tb fe) := hD
      refine lv_icmp_eq (tgt := 343) hx hb dL_law_120 (by decide) (fun c120 => ?_) (fun c120 => ?_)
      · skip
        refine lv_iinc (v := nI (i + 3)) (lv' := [(3, .int (nI (i + 3))), (0, .ref b), (1, .ref (a0 0)), (2, .ref (a1 0))]) hx hb dL_law_343 hl (k := 3) rfl (nI_add i 3) (by decide) rfl (fun ls hl => ?_)
        refine lv_goto (tgt := 18) hx hb dL_law_346 (by decide) ?_
        exact ih18 (i + 3, ln0_, lt0_, pn0_, ql, q, qp, mk, bd, be, xl, yl, xx, yy, co, nc, lf, lfs, rg, rgs, tb, fe) _ _ _ ⟨(show (i + 3) ≤ L from by omega), (show inv0 ln0_ lt0_ pn0_ ql q qp from hwA.2.2.2), hP, hD, hS, lv_sub hl [1, 2, 3, 0] rfl⟩ (show L + 3 - (i + 3) < L + 3 - i from by omega)
      · skip
        exact absurd (hwA.1.trans hwB.1.symm) c120
    · skip
      refine lv_tableIn (tgt := 125) (off := 93) hx hb dL_law_32 (by decide) (by decide) (by decide +kernel) (by decide) ?_
      refine lv_aload_n hx hb dL_law_125 rfl (lv_at hl 1 rfl) ?_
      refine lv_aload_n hx hb dL_law_126 rfl (lv_at hl 0 rfl) ?_
      refine lv_iload_n hx hb dL_law_127 rfl (lv_at hl 3 rfl) ?_
      refine lv_iconst (v := nI 1) hx hb dL_law_128 (by decide) ?_
      refine nr_add hx hb dL_law_129 ?_
      refine nr_sld (i := i + 1) hx hb hX hbl hbA hS (by omega) (by omega) dL_law_130 ?_
      refine nr_callVi (C := RX0) (T := TX0) (N := 15) (ci := 0) (rest := []) (wc := wX0 a0 cA ln lt pn ql q qp mk bd be xl yl xx yy co nc) (wr := wX1 a1 cA lt ln q ql lf lfs rg rgs tb fe) ⟨hx, hb, hml, hown, htsA⟩ hK hP hD hS hA [0, 1, 2, 3, 4, 5, 6, 7, 8, 9, 10] [11, 12, 13, 14, 15, 16, 17] rfl rfl (by decide) (by decide) (by decide) 1 [.int (xs (i + 1))] (mt0_wipe l D a0 cA _ ln lt pn ql q qp mk bd be xl yl xx yy co nc (xs (i + 1)) hI) (lw_V q79 q80 q81 q15 q82) (by decide +kernel) ⟨Nat.le_of_ble_eq_true rfl, Nat.le_of_ble_eq_true rfl⟩ rfl 0 rfl rfl hl.1 rfl (Nat.le_of_ble_eq_true rfl) dL_law_131 ⟨Nat.le_refl _, Nat.le_refl _⟩ (fun rA u H locs hwA hP hD hS => ?_)
      obtain ⟨ln0_, pn0_⟩ := u
      have hwA : rA = sWi ln (xs (i + 1)) ∧ ln0_ = sWiL ln (xs (i + 1)) ∧ inv0 ln0_ lt pn0_ ql q qp := hwA
      have hP : va_P D vwCl (wX1 a1 cA lt ln q ql lf lfs rg rgs tb fe ++ wX0 a0 cA ln0_ lt pn0_ ql q qp mk bd be xl yl xx yy co nc) H := hP
      have hD : va_D A (wX1 a1 cA lt ln q ql lf lfs rg rgs tb fe ++ wX0 a0 cA ln0_ lt pn0_ ql q qp mk bd be xl yl xx yy co nc) := hD
      refine lv_aload_n hx hb dL_law_134 rfl (lv_at hl 2 rfl) ?_
      refine lv_aload_n hx hb dL_law_135 rfl (lv_at hl 0 rfl) ?_
      refine lv_iload_n hx hb dL_law_136 rfl (lv_at hl 3 rfl) ?_
      refine lv_iconst (v := nI 1) hx hb dL_law_137 (by decide) ?_
      refine nr_add hx hb dL_law_138 ?_
      refine nr_sld (i := i + 1) hx hb hX hbl hbA hS (by omega) (by omega) dL_law_139 ?_
      refine nr_callVi (C := RX1) (T := TX1) (N := 10) (ci := 1) (rest := [.int rA]) (wc := wX1 a1 cA lt ln q ql lf lfs rg rgs tb fe) (wr := wX0 a0 cA ln0_ lt pn0_ ql q qp mk bd be xl yl xx yy co nc) ⟨hx, hb, hml, hown, htsA⟩ hK hP hD hS hA [0, 1, 2, 3, 4, 5, 6] [7, 8, 9, 10, 11, 12, 13, 14, 15, 16, 17] rfl rfl (by decide) (by decide) (by decide) 1 [.int (xs (i + 1))] (mt1_wipe l D a1 cA _ lt ln q ql lf lfs rg rgs tb fe (xs (i + 1)) (inv0_1 hI)) (lw_V q191 q192 q193 q16 q194) (by decide +kernel) ⟨Nat.le_of_ble_eq_true rfl, Nat.le_of_ble_eq_true rfl⟩ rfl 0 rfl rfl hl.1 rfl (Nat.le_of_ble_eq_true rfl) dL_law_140 ⟨Nat.le_refl _, Nat.le_refl _⟩ (fun rB u H locs hwB hP hD hS => ?_)
      obtain ⟨ln1_, rfl⟩ : ∃ z, z = u := ⟨_, rfl⟩
      have hwB : rB = sWi ln (xs (i + 1)) ∧ ln1_ = sWiL ln (xs (i + 1)) := hwB
      have hP : va_P D vwCl (wX0 a0 cA ln0_ lt pn0_ ql q qp mk bd be xl yl xx yy co nc ++ wX1 a1 cA lt ln1_ q ql lf lfs rg rgs tb fe) H := hP
      have hD : va_D A (wX0 a0 cA ln0_ lt pn0_ ql q qp mk bd be xl yl xx yy co nc ++ wX1 a1 cA lt ln1_ q ql lf lfs rg rgs tb fe) := hD
      have z_ln : ln1_ = ln0_ := hwB.2.trans hwA.2.1.symm
      rw [z_ln] at hP hD
      have hP : va_P D vwCl (wX0 a0 cA ln0_ lt pn0_ ql q qp mk bd be xl yl xx yy co nc ++ wX1 a1 cA lt ln0_ q ql lf lfs rg rgs tb fe) H := hP
      have hD : va_D A (wX0 a0 cA ln0_ lt pn0_ ql q qp mk bd be xl yl xx yy co nc ++ wX1 a1 cA lt ln0_ q ql lf lfs rg rgs tb fe) := hD
      refine lv_icmp_eq (tgt := 343) hx hb dL_law_143 (by decide) (fun c143 => ?_) (fun c143 => ?_)
      · skip
        refine lv_iinc (v := nI (i + 3)) (lv' := [(3, .int (nI (i + 3))), (0, .ref b), (1, .ref (a0 0)), (2, .ref (a1 0))]) hx hb dL_law_343 hl (k := 3) rfl (nI_add i 3) (by decide) rfl (fun ls hl => ?_)
        refine lv_goto (tgt := 18) hx hb dL_law_346 (by decide) ?_
        exact ih18 (i + 3, ln0_, lt, pn0_, ql, q, qp, mk, bd, be, xl, yl, xx, yy, co, nc, lf, lfs, rg, rgs, tb, fe) _ _ _ ⟨(show (i + 3) ≤ L from by omega), (show inv0 ln0_ lt pn0_ ql q qp from hwA.2.2), hP, hD, hS, lv_sub hl [1, 2, 3, 0] rfl⟩ (show L + 3 - (i + 3) < L + 3 - i from by omega)
      · skip
        exact absurd (hwA.1.trans hwB.1.symm) c143
    · skip
      refine lv_tableIn (tgt := 148) (off := 116) hx hb dL_law_32 (by decide) (by decide) (by decide +kernel) (by decide) ?_
      refine lv_aload_n hx hb dL_law_148 rfl (lv_at hl 1 rfl) ?_
      refine lv_aload_n hx hb dL_law_149 rfl (lv_at hl 0 rfl) ?_
      refine lv_iload_n hx hb dL_law_150 rfl (lv_at hl 3 rfl) ?_
      refine lv_iconst (v := nI 1) hx hb dL_law_151 (by decide) ?_
      refine nr_add hx hb dL_law_152 ?_
      refine nr_sld (i := i + 1) hx hb hX hbl hbA hS (by omega) (by omega) dL_law_153 ?_
      refine nr_callVi (C := RX0) (T := TX0) (N := 15) (ci := 0) (rest := []) (wc := wX0 a0 cA ln lt pn ql q qp mk bd be xl yl xx yy co nc) (wr := wX1 a1 cA lt ln q ql lf lfs rg rgs tb fe) ⟨hx, hb, hml, hown, htsA⟩ hK hP hD hS hA [0, 1, 2, 3, 4, 5, 6, 7, 8, 9, 10] [11, 12, 13, 14, 15, 16, 17] rfl rfl (by decide) (by decide) (by decide) 1 [.int (xs (i + 1))] (mt0_type l D a0 cA _ ln lt pn ql q qp mk bd be xl yl xx yy co nc (xs (i + 1)) hI) (lw_V q83 q84 q85 q15 q86) (by decide +kernel) ⟨Nat.le_of_ble_eq_true rfl, Nat.le_of_ble_eq_true rfl⟩ rfl 0 rfl rfl hl.1 rfl (Nat.le_of_ble_eq_true rfl) dL_law_154 ⟨Nat.le_refl _, Nat.le_refl _⟩ (fun rA u H locs hwA hP hD hS => ?_)
      obtain ⟨ql0_, q0_, qp0_⟩ := u
      have hwA : rA = sTy ql ∧ ql0_ = sTyL ql ∧ q0_ = sTyQ ql q (xs (i + 1)) ∧ inv0 ln lt pn ql0_ q0_ qp0_ := hwA
      have hP : va_P D vwCl (wX1 a1 cA lt ln q ql lf lfs rg rgs tb fe ++ wX0 a0 cA ln lt pn ql0_ q0_ qp0_ mk bd be xl yl xx yy co nc) H := hP
      have hD : va_D A (wX1 a1 cA lt ln q ql lf lfs rg rgs tb fe ++ wX0 a0 cA ln lt pn ql0_ q0_ qp0_ mk bd be xl yl xx yy co nc) := hD
      refine lv_aload_n hx hb dL_law_157 rfl (lv_at hl 2 rfl) ?_
      refine lv_aload_n hx hb dL_law_158 rfl (lv_at hl 0 rfl) ?_
      refine lv_iload_n hx hb dL_law_159 rfl (lv_at hl 3 rfl) ?_
      refine lv_iconst (v := nI 1) hx hb dL_law_160 (by decide) ?_
      refine nr_add hx hb dL_law_161 ?_
      refine nr_sld (i := i + 1) hx hb hX hbl hbA hS (by omega) (by omega) dL_law_162 ?_
      refine nr_callVi (C := RX1) (T := TX1) (N := 10) (ci := 1) (rest := [.int rA]) (wc := wX1 a1 cA lt ln q ql lf lfs rg rgs tb fe) (wr := wX0 a0 cA ln lt pn ql0_ q0_ qp0_ mk bd be xl yl xx yy co nc) ⟨hx, hb, hml, hown, htsA⟩ hK hP hD hS hA [0, 1, 2, 3, 4, 5, 6] [7, 8, 9, 10, 11, 12, 13, 14, 15, 16, 17] rfl rfl (by decide) (by decide) (by decide) 1 [.int (xs (i + 1))] (mt1_type l D a1 cA _ lt ln q ql lf lfs rg rgs tb fe (xs (i + 1)) (inv0_1 hI)) (lw_V q195 q196 q197 q16 q198) (by decide +kernel) ⟨Nat.le_of_ble_eq_true rfl, Nat.le_of_ble_eq_true rfl⟩ rfl 0 rfl rfl hl.1 rfl (Nat.le_of_ble_eq_true rfl) dL_law_163 ⟨Nat.le_refl _, Nat.le_refl _⟩ (fun rB u H locs hwB hP hD hS => ?_)
      obtain ⟨q1_, ql1_⟩ := u
      have hwB : rB = sTy ql ∧ ql1_ = sTyL ql ∧ q1_ = sTyQ ql q (xs (i + 1)) := hwB
      have hP : va_P D vwCl (wX0 a0 cA ln lt pn ql0_ q0_ qp0_ mk bd be xl yl xx yy co nc ++ wX1 a1 cA lt ln q1_ ql1_ lf lfs rg rgs tb fe) H := hP
      have hD : va_D A (wX0 a0 cA ln lt pn ql0_ q0_ qp0_ mk bd be xl yl xx yy co nc ++ wX1 a1 cA lt ln q1_ ql1_ lf lfs rg rgs tb fe) := hD
      have z_ql : ql1_ = ql0_ := hwB.2.1.trans hwA.2.1.symm
      rw [z_ql] at hP hD
      have z_q : q1_ = q0_ := hwB.2.2.trans hwA.2.2.1.symm
      rw [z_q] at hP hD
      have hP : va_P D vwCl (wX0 a0 cA ln lt pn ql0_ q0_ qp0_ mk bd be xl yl xx yy co nc ++ wX1 a1 cA lt ln q0_ ql0_ lf lfs rg rgs tb fe) H := hP
      have hD : va_D A (wX0 a0 cA ln lt pn ql0_ q0_ qp0_ mk bd be xl yl xx yy co nc ++ wX1 a1 cA lt ln q0_ ql0_ lf lfs rg rgs tb fe) := hD
      refine lv_icmp_eq (tgt := 343) hx hb dL_law_166 (by decide) (fun c166 => ?_) (fun c166 => ?_)
      · skip
        refine lv_iinc (v := nI (i + 3)) (lv' := [(3, .int (nI (i + 3))), (0, .ref b), (1, .ref (a0 0)), (2, .ref (a1 0))]) hx hb dL_law_343 hl (k := 3) rfl (nI_add i 3) (by decide) rfl (fun ls hl => ?_)
        refine lv_goto (tgt := 18) hx hb dL_law_346 (by decide) ?_
        exact ih18 (i + 3, ln, lt, pn, ql0_, q0_, qp0_, mk, bd, be, xl, yl, xx, yy, co, nc, lf, lfs, rg, rgs, tb, fe) _ _ _ ⟨(show (i + 3) ≤ L from by omega), (show inv0 ln lt pn ql0_ q0_ qp0_ from hwA.2.2.2), hP, hD, hS, lv_sub hl [1, 2, 3, 0] rfl⟩ (show L + 3 - (i + 3) < L + 3 - i from by omega)
      · skip
        exact absurd (hwA.1.trans hwB.1.symm) c166
    · skip
      refine lv_tableIn (tgt := 171) (off := 139) hx hb dL_law_32 (by decide) (by decide) (by decide +kernel) (by decide) ?_
      refine lv_aload_n hx hb dL_law_171 rfl (lv_at hl 1 rfl) ?_
      refine nr_callVv (C := RX0) (T := TX0) (N := 15) (ci := 0) (rest := []) (wc := wX0 a0 cA ln lt pn ql q qp mk bd be xl yl xx yy co nc) (wr := wX1 a1 cA lt ln q ql lf lfs rg rgs tb fe) ⟨hx, hb, hml, hown, htsA⟩ hK hP hD hS hA [0, 1, 2, 3, 4, 5, 6, 7, 8, 9, 10] [11, 12, 13, 14, 15, 16, 17] rfl rfl (by decide) (by decide) (by decide) 0 [] (mt0_clear l D a0 cA _ ln lt pn ql q qp mk bd be xl yl xx yy co nc  hI) (lw_V q87 q88 q89 q15 q90) (by decide +kernel) ⟨Nat.le_of_ble_eq_true rfl, Nat.le_of_ble_eq_true rfl⟩ rfl 0 rfl rfl hl.1 rfl (Nat.le_of_ble_eq_true rfl) dL_law_172 ⟨Nat.le_refl _, Nat.le_refl _⟩ (fun u H locs hwA hP hD hS => ?_)
      obtain ⟨ql0_, qp0_⟩ := u
      have hwA : ql0_ = 0 ∧ inv0 ln lt pn ql0_ q qp0_ := hwA
      have hP : va_P D vwCl (wX1 a1 cA lt ln q ql lf lfs rg rgs tb fe ++ wX0 a0 cA ln lt pn ql0_ q qp0_ mk bd be xl yl xx yy co nc) H := hP
      have hD : va_D A (wX1 a1 cA lt ln q ql lf lfs rg rgs tb fe ++ wX0 a0 cA ln lt pn ql0_ q qp0_ mk bd be xl yl xx yy co nc) := hD
      refine lv_aload_n hx hb dL_law_175 rfl (lv_at hl 2 rfl) ?_
      refine nr_callVv (C := RX1) (T := TX1) (N := 10) (ci := 1) (rest := []) (wc := wX1 a1 cA lt ln q ql lf lfs rg rgs tb fe) (wr := wX0 a0 cA ln lt pn ql0_ q qp0_ mk bd be xl yl xx yy co nc) ⟨hx, hb, hml, hown, htsA⟩ hK hP hD hS hA [0, 1, 2, 3, 4, 5, 6] [7, 8, 9, 10, 11, 12, 13, 14, 15, 16, 17] rfl rfl (by decide) (by decide) (by decide) 0 [] (mt1_clear l D a1 cA _ lt ln q ql lf lfs rg rgs tb fe  ) (lw_V q199 q200 q201 q16 q202) (by decide +kernel) ⟨Nat.le_of_ble_eq_true rfl, Nat.le_of_ble_eq_true rfl⟩ rfl 0 rfl rfl hl.1 rfl (Nat.le_of_ble_eq_true rfl) dL_law_176 ⟨Nat.le_refl _, Nat.le_refl _⟩ (fun u H locs hwB hP hD hS => ?_)
      obtain ⟨ql1_, rfl⟩ : ∃ z, z = u := ⟨_, rfl⟩
      have hwB : ql1_ = 0 := hwB
      have hP : va_P D vwCl (wX0 a0 cA ln lt pn ql0_ q qp0_ mk bd be xl yl xx yy co nc ++ wX1 a1 cA lt ln q ql1_ lf lfs rg rgs tb fe) H := hP
      have hD : va_D A (wX0 a0 cA ln lt pn ql0_ q qp0_ mk bd be xl yl xx yy co nc ++ wX1 a1 cA lt ln q ql1_ lf lfs rg rgs tb fe) := hD
      have z_ql : ql1_ = ql0_ := hwB.trans hwA.1.symm
      rw [z_ql] at hP hD
      have hP : va_P D vwCl (wX0 a0 cA ln lt pn ql0_ q qp0_ mk bd be xl yl xx yy co nc ++ wX1 a1 cA lt ln q ql0_ lf lfs rg rgs tb fe) H := hP
      have hD : va_D A (wX0 a0 cA ln lt pn ql0_ q qp0_ mk bd be xl yl xx yy co nc ++ wX1 a1 cA lt ln q ql0_ lf lfs rg rgs tb fe) := hD
      refine lv_goto (tgt := 343) hx hb dL_law_179 (by decide) ?_
      refine lv_iinc (v := nI (i + 3)) (lv' := [(3, .int (nI (i + 3))), (0, .ref b), (1, .ref (a0 0)), (2, .ref (a1 0))]) hx hb dL_law_343 hl (k := 3) rfl (nI_add i 3) (by decide) rfl (fun ls hl => ?_)
      refine lv_goto (tgt := 18) hx hb dL_law_346 (by decide) ?_
      exact ih18 (i + 3, ln, lt, pn, ql0_, q, qp0_, mk, bd, be, xl, yl, xx, yy, co, nc, lf, lfs, rg, rgs, tb, fe) _ _ _ ⟨(show (i + 3) ≤ L from by omega), (show inv0 ln lt pn ql0_ q qp0_ from hwA.2), hP, hD, hS, lv_sub hl [1, 2, 3, 0] rfl⟩ (show L + 3 - (i + 3) < L + 3 - i from by omega)
    · skip
      refine lv_tableIn (tgt := 182) (off := 150) hx hb dL_law_32 (by decide) (by decide) (by decide +kernel) (by decide) ?_
      refine lv_aload_n hx hb dL_law_182 rfl (lv_at hl 1 rfl) ?_
      refine lv_aload_n hx hb dL_law_183 rfl (lv_at hl 0 rfl) ?_
      refine lv_iload_n hx hb dL_law_184 rfl (lv_at hl 3 rfl) ?_
      refine lv_iconst (v := nI 1) hx hb dL_law_185 (by decide) ?_
      refine nr_add hx hb dL_law_186 ?_
      refine nr_sld (i := i + 1) hx hb hX hbl hbA hS (by omega) (by omega) dL_law_187 ?_
      refine nr_callVi (C := RX0) (T := TX0) (N := 15) (ci := 0) (rest := []) (wc := wX0 a0 cA ln lt pn ql q qp mk bd be xl yl xx yy co nc) (wr := wX1 a1 cA lt ln q ql lf lfs rg rgs tb fe) ⟨hx, hb, hml, hown, htsA⟩ hK hP hD hS hA [0, 1, 2, 3, 4, 5, 6, 7, 8, 9, 10] [11, 12, 13, 14, 15, 16, 17] rfl rfl (by decide) (by decide) (by decide) 1 [.int (xs (i + 1))] (mt0_distance l D a0 cA _ ln lt pn ql q qp mk bd be xl yl xx yy co nc (xs (i + 1)) hI) (lw_V q91 q92 q93 q15 q94) (by decide +kernel) ⟨Nat.le_of_ble_eq_true rfl, Nat.le_of_ble_eq_true rfl⟩ rfl 0 rfl rfl hl.1 rfl (Nat.le_of_ble_eq_true rfl) dL_law_188 ⟨Nat.le_refl _, Nat.le_refl _⟩ (fun rA u H locs hwA hP hD hS => ?_)
      obtain ⟨mk0_, bd0_, be0_⟩ := u
      have hwA : rA = sD1 (gDi ln lt ql q) (xs (i + 1)) := hwA
      have hP : va_P D vwCl (wX1 a1 cA lt ln q ql lf lfs rg rgs tb fe ++ wX0 a0 cA ln lt pn ql q qp mk0_ bd0_ be0_ xl yl xx yy co nc) H := hP
      have hD : va_D A (wX1 a1 cA lt ln q ql lf lfs rg rgs tb fe ++ wX0 a0 cA ln lt pn ql q qp mk0_ bd0_ be0_ xl yl xx yy co nc) := hD
      refine lv_aload_n hx hb dL_law_191 rfl (lv_at hl 2 rfl) ?_
      refine lv_aload_n hx hb dL_law_192 rfl (lv_at hl 0 rfl) ?_
      refine lv_iload_n hx hb dL_law_193 rfl (lv_at hl 3 rfl) ?_
      refine lv_iconst (v := nI 1) hx hb dL_law_194 (by decide) ?_
      refine nr_add hx hb dL_law_195 ?_
      refine nr_sld (i := i + 1) hx hb hX hbl hbA hS (by omega) (by omega) dL_law_196 ?_
      refine nr_callVi (C := RX1) (T := TX1) (N := 10) (ci := 1) (rest := [.int rA]) (wc := wX1 a1 cA lt ln q ql lf lfs rg rgs tb fe) (wr := wX0 a0 cA ln lt pn ql q qp mk0_ bd0_ be0_ xl yl xx yy co nc) ⟨hx, hb, hml, hown, htsA⟩ hK hP hD hS hA [0, 1, 2, 3, 4, 5, 6] [7, 8, 9, 10, 11, 12, 13, 14, 15, 16, 17] rfl rfl (by decide) (by decide) (by decide) 1 [.int (xs (i + 1))] (mt1_distance l D a1 cA _ lt ln q ql lf lfs rg rgs tb fe (xs (i + 1)) (inv0_1 hI)) (lw_V q203 q204 q205 q16 q206) (by decide +kernel) ⟨Nat.le_of_ble_eq_true rfl, Nat.le_of_ble_eq_true rfl⟩ rfl 0 rfl rfl hl.1 rfl (Nat.le_of_ble_eq_true rfl) dL_law_197 ⟨Nat.le_refl _, Nat.le_refl _⟩ (fun rB u H locs hwB hP hD hS => ?_)
      obtain ⟨lf1_, lfs1_, rg1_, rgs1_, tb1_, fe1_⟩ := u
      have hwB : rB = sD1 (gDi ln lt ql q) (xs (i + 1)) := hwB
      have hP : va_P D vwCl (wX0 a0 cA ln lt pn ql q qp mk0_ bd0_ be0_ xl yl xx yy co nc ++ wX1 a1 cA lt ln q ql lf1_ lfs1_ rg1_ rgs1_ tb1_ fe1_) H := hP
      have hD : va_D A (wX0 a0 cA ln lt pn ql q qp mk0_ bd0_ be0_ xl yl xx yy co nc ++ wX1 a1 cA lt ln q ql lf1_ lfs1_ rg1_ rgs1_ tb1_ fe1_) := hD
      refine lv_icmp_eq (tgt := 343) hx hb dL_law_200 (by decide) (fun c200 => ?_) (fun c200 => ?_)
      · skip
        refine lv_iinc (v := nI (i + 3)) (lv' := [(3, .int (nI (i + 3))), (0, .ref b), (1, .ref (a0 0)), (2, .ref (a1 0))]) hx hb dL_law_343 hl (k := 3) rfl (nI_add i 3) (by decide) rfl (fun ls hl => ?_)
        refine lv_goto (tgt := 18) hx hb dL_law_346 (by decide) ?_
        exact ih18 (i + 3, ln, lt, pn, ql, q, qp, mk0_, bd0_, be0_, xl, yl, xx, yy, co, nc, lf1_, lfs1_, rg1_, rgs1_, tb1_, fe1_) _ _ _ ⟨(show (i + 3) ≤ L from by omega), (show inv0 ln lt pn ql q qp from hI), hP, hD, hS, lv_sub hl [1, 2, 3, 0] rfl⟩ (show L + 3 - (i + 3) < L + 3 - i from by omega)
      · skip
        exact absurd (hwA.trans hwB.symm) c200
    · skip
      refine lv_tableIn (tgt := 205) (off := 173) hx hb dL_law_32 (by decide) (by decide) (by decide +kernel) (by decide) ?_
      refine lv_aload_n hx hb dL_law_205 rfl (lv_at hl 1 rfl) ?_
      refine lv_aload_n hx hb dL_law_206 rfl (lv_at hl 0 rfl) ?_
      refine lv_iload_n hx hb dL_law_207 rfl (lv_at hl 3 rfl) ?_
      refine lv_iconst (v := nI 1) hx hb dL_law_208 (by decide) ?_
      refine nr_add hx hb dL_law_209 ?_
      refine nr_sld (i := i + 1) hx hb hX hbl hbA hS (by omega) (by omega) dL_law_210 ?_
      refine nr_callVi (C := RX0) (T := TX0) (N := 15) (ci := 0) (rest := []) (wc := wX0 a0 cA ln lt pn ql q qp mk bd be xl yl xx yy co nc) (wr := wX1 a1 cA lt ln q ql lf lfs rg rgs tb fe) ⟨hx, hb, hml, hown, htsA⟩ hK hP hD hS hA [0, 1, 2, 3, 4, 5, 6, 7, 8, 9, 10] [11, 12, 13, 14, 15, 16, 17] rfl rfl (by decide) (by decide) (by decide) 1 [.int (xs (i + 1))] (mt0_end l D a0 cA _ ln lt pn ql q qp mk bd be xl yl xx yy co nc (xs (i + 1)) hI) (lw_V q99 q100 q101 q15 q102) (by decide +kernel) ⟨Nat.le_of_ble_eq_true rfl, Nat.le_of_ble_eq_true rfl⟩ rfl 0 rfl rfl hl.1 rfl (Nat.le_of_ble_eq_true rfl) dL_law_211 ⟨Nat.le_refl _, Nat.le_refl _⟩ (fun rA u H locs hwA hP hD hS => ?_)
      obtain ⟨mk0_, bd0_, be0_⟩ := u
      have hwA : rA = sD1 (gEn ln lt ql q) (xs (i + 1)) := hwA
      have hP : va_P D vwCl (wX1 a1 cA lt ln q ql lf lfs rg rgs tb fe ++ wX0 a0 cA ln lt pn ql q qp mk0_ bd0_ be0_ xl yl xx yy co nc) H := hP
      have hD : va_D A (wX1 a1 cA lt ln q ql lf lfs rg rgs tb fe ++ wX0 a0 cA ln lt pn ql q qp mk0_ bd0_ be0_ xl yl xx yy co nc) := hD
      refine lv_aload_n hx hb dL_law_214 rfl (lv_at hl 2 rfl) ?_
      refine lv_aload_n hx hb dL_law_215 rfl (lv_at hl 0 rfl) ?_
      refine lv_iload_n hx hb dL_law_216 rfl (lv_at hl 3 rfl) ?_
      refine lv_iconst (v := nI 1) hx hb dL_law_217 (by decide) ?_
      refine nr_add hx hb dL_law_218 ?_
      refine nr_sld (i := i + 1) hx hb hX hbl hbA hS (by omega) (by omega) dL_law_219 ?_
      refine nr_callVi (C := RX1) (T := TX1) (N := 10) (ci := 1) (rest := [.int rA]) (wc := wX1 a1 cA lt ln q ql lf lfs rg rgs tb fe) (wr := wX0 a0 cA ln lt pn ql q qp mk0_ bd0_ be0_ xl yl xx yy co nc) ⟨hx, hb, hml, hown, htsA⟩ hK hP hD hS hA [0, 1, 2, 3, 4, 5, 6] [7, 8, 9, 10, 11, 12, 13, 14, 15, 16, 17] rfl rfl (by decide) (by decide) (by decide) 1 [.int (xs (i + 1))] (mt1_end l D a1 cA _ lt ln q ql lf lfs rg rgs tb fe (xs (i + 1)) (inv0_1 hI)) (lw_V q227 q228 q229 q16 q230) (by decide +kernel) ⟨Nat.le_of_ble_eq_true rfl, Nat.le_of_ble_eq_true rfl⟩ rfl 0 rfl rfl hl.1 rfl (Nat.le_of_ble_eq_true rfl) dL_law_220 ⟨Nat.le_refl _, Nat.le_refl _⟩ (fun rB u H locs hwB hP hD hS => ?_)
      obtain ⟨lf1_, lfs1_, rg1_, rgs1_, tb1_, fe1_⟩ := u
      have hwB : rB = sD1 (gEn ln lt ql q) (xs (i + 1)) := hwB
      have hP : va_P D vwCl (wX0 a0 cA ln lt pn ql q qp mk0_ bd0_ be0_ xl yl xx yy co nc ++ wX1 a1 cA lt ln q ql lf1_ lfs1_ rg1_ rgs1_ tb1_ fe1_) H := hP
      have hD : va_D A (wX0 a0 cA ln lt pn ql q qp mk0_ bd0_ be0_ xl yl xx yy co nc ++ wX1 a1 cA lt ln q ql lf1_ lfs1_ rg1_ rgs1_ tb1_ fe1_) := hD
      refine lv_icmp_eq (tgt := 343) hx hb dL_law_223 (by decide) (fun c223 => ?_) (fun c223 => ?_)
      · skip
        refine lv_iinc (v := nI (i + 3)) (lv' := [(3, .int (nI (i + 3))), (0, .ref b), (1, .ref (a0 0)), (2, .ref (a1 0))]) hx hb dL_law_343 hl (k := 3) rfl (nI_add i 3) (by decide) rfl (fun ls hl => ?_)
        refine lv_goto (tgt := 18) hx hb dL_law_346 (by decide) ?_
        exact ih18 (i + 3, ln, lt, pn, ql, q, qp, mk0_, bd0_, be0_, xl, yl, xx, yy, co, nc, lf1_, lfs1_, rg1_, rgs1_, tb1_, fe1_) _ _ _ ⟨(show (i + 3) ≤ L from by omega), (show inv0 ln lt pn ql q qp from hI), hP, hD, hS, lv_sub hl [1, 2, 3, 0] rfl⟩ (show L + 3 - (i + 3) < L + 3 - i from by omega)
      · skip
        exact absurd (hwA.trans hwB.symm) c223
    · skip
      refine lv_tableIn (tgt := 228) (off := 196) hx hb dL_law_32 (by decide) (by decide) (by decide +kernel) (by decide) ?_
      refine lv_aload_n hx hb dL_law_228 rfl (lv_at hl 1 rfl) ?_
      refine lv_aload_n hx hb dL_law_229 rfl (lv_at hl 0 rfl) ?_
      refine lv_iload_n hx hb dL_law_230 rfl (lv_at hl 3 rfl) ?_
      refine lv_iconst (v := nI 1) hx hb dL_law_231 (by decide) ?_
      refine nr_add hx hb dL_law_232 ?_
      refine nr_sld (i := i + 1) hx hb hX hbl hbA hS (by omega) (by omega) dL_law_233 ?_
      refine nr_callVi (C := RX0) (T := TX0) (N := 15) (ci := 0) (rest := []) (wc := wX0 a0 cA ln lt pn ql q qp mk bd be xl yl xx yy co nc) (wr := wX1 a1 cA lt ln q ql lf lfs rg rgs tb fe) ⟨hx, hb, hml, hown, htsA⟩ hK hP hD hS hA [0, 1, 2, 3, 4, 5, 6, 7, 8, 9, 10] [11, 12, 13, 14, 15, 16, 17] rfl rfl (by decide) (by decide) (by decide) 1 [.int (xs (i + 1))] (mt0_whole l D a0 cA _ ln lt pn ql q qp mk bd be xl yl xx yy co nc (xs (i + 1)) hI) (lw_V q103 q104 q105 q15 q106) (by decide +kernel) ⟨Nat.le_of_ble_eq_true rfl, Nat.le_of_ble_eq_true rfl⟩ rfl 0 rfl rfl hl.1 rfl (Nat.le_of_ble_eq_true rfl) dL_law_234 ⟨Nat.le_refl _, Nat.le_refl _⟩ (fun rA u H locs hwA hP hD hS => ?_)
      obtain ⟨xl0_, yl0_, xx0_, yy0_, co0_, nc0_⟩ := u
      have hwA : rA = sD1 (gWh ln lt ql q) (xs (i + 1)) := hwA
      have hP : va_P D vwCl (wX1 a1 cA lt ln q ql lf lfs rg rgs tb fe ++ wX0 a0 cA ln lt pn ql q qp mk bd be xl0_ yl0_ xx0_ yy0_ co0_ nc0_) H := hP
      have hD : va_D A (wX1 a1 cA lt ln q ql lf lfs rg rgs tb fe ++ wX0 a0 cA ln lt pn ql q qp mk bd be xl0_ yl0_ xx0_ yy0_ co0_ nc0_) := hD
      refine lv_aload_n hx hb dL_law_237 rfl (lv_at hl 2 rfl) ?_
      refine lv_aload_n hx hb dL_law_238 rfl (lv_at hl 0 rfl) ?_
      refine lv_iload_n hx hb dL_law_239 rfl (lv_at hl 3 rfl) ?_
      refine lv_iconst (v := nI 1) hx hb dL_law_240 (by decide) ?_
      refine nr_add hx hb dL_law_241 ?_
      refine nr_sld (i := i + 1) hx hb hX hbl hbA hS (by omega) (by omega) dL_law_242 ?_
      refine nr_callVi (C := RX1) (T := TX1) (N := 10) (ci := 1) (rest := [.int rA]) (wc := wX1 a1 cA lt ln q ql lf lfs rg rgs tb fe) (wr := wX0 a0 cA ln lt pn ql q qp mk bd be xl0_ yl0_ xx0_ yy0_ co0_ nc0_) ⟨hx, hb, hml, hown, htsA⟩ hK hP hD hS hA [0, 1, 2, 3, 4, 5, 6] [7, 8, 9, 10, 11, 12, 13, 14, 15, 16, 17] rfl rfl (by decide) (by decide) (by decide) 1 [.int (xs (i + 1))] (mt1_whole l D a1 cA _ lt ln q ql lf lfs rg rgs tb fe (xs (i + 1)) (inv0_1 hI)) (lw_V q231 q232 q233 q16 q234) (by decide +kernel) ⟨Nat.le_of_ble_eq_true rfl, Nat.le_of_ble_eq_true rfl⟩ rfl 0 rfl rfl hl.1 rfl (Nat.le_of_ble_eq_true rfl) dL_law_243 ⟨Nat.le_refl _, Nat.le_refl _⟩ (fun rB u H locs hwB hP hD hS => ?_)
      obtain ⟨lf1_, lfs1_, rg1_, rgs1_, tb1_⟩ := u
      have hwB : rB = sD1 (gWh ln lt ql q) (xs (i + 1)) := hwB
      have hP : va_P D vwCl (wX0 a0 cA ln lt pn ql q qp mk bd be xl0_ yl0_ xx0_ yy0_ co0_ nc0_ ++ wX1 a1 cA lt ln q ql lf1_ lfs1_ rg1_ rgs1_ tb1_ fe) H := hP
      have hD : va_D A (wX0 a0 cA ln lt pn ql q qp mk bd be xl0_ yl0_ xx0_ yy0_ co0_ nc0_ ++ wX1 a1 cA lt ln q ql lf1_ lfs1_ rg1_ rgs1_ tb1_ fe) := hD
      refine lv_icmp_eq (tgt := 343) hx hb dL_law_246 (by decide) (fun c246 => ?_) (fun c246 => ?_)
      · skip
        refine lv_iinc (v := nI (i + 3)) (lv' := [(3, .int (nI (i + 3))), (0, .ref b), (1, .ref (a0 0)), (2, .ref (a1 0))]) hx hb dL_law_343 hl (k := 3) rfl (nI_add i 3) (by decide) rfl (fun ls hl => ?_)
        refine lv_goto (tgt := 18) hx hb dL_law_346 (by decide) ?_
        exact ih18 (i + 3, ln, lt, pn, ql, q, qp, mk, bd, be, xl0_, yl0_, xx0_, yy0_, co0_, nc0_, lf1_, lfs1_, rg1_, rgs1_, tb1_, fe) _ _ _ ⟨(show (i + 3) ≤ L from by omega), (show inv0 ln lt pn ql q qp from hI), hP, hD, hS, lv_sub hl [1, 2, 3, 0] rfl⟩ (show L + 3 - (i + 3) < L + 3 - i from by omega)
      · skip
        exact absurd (hwA.trans hwB.symm) c246
    · skip
      refine lv_tableIn (tgt := 251) (off := 219) hx hb dL_law_32 (by decide) (by decide) (by decide +kernel) (by decide) ?_
      refine lv_aload_n hx hb dL_law_251 rfl (lv_at hl 1 rfl) ?_
      refine lv_aload_n hx hb dL_law_252 rfl (lv_at hl 0 rfl) ?_
      refine lv_iload_n hx hb dL_law_253 rfl (lv_at hl 3 rfl) ?_
      refine lv_iconst (v := nI 1) hx hb dL_law_254 (by decide) ?_
      refine nr_add hx hb dL_law_255 ?_
      refine nr_sld (i := i + 1) hx hb hX hbl hbA hS (by omega) (by omega) dL_law_256 ?_
      refine nr_callVi (C := RX0) (T := TX0) (N := 15) (ci := 0) (rest := []) (wc := wX0 a0 cA ln lt pn ql q qp mk bd be xl yl xx yy co nc) (wr := wX1 a1 cA lt ln q ql lf lfs rg rgs tb fe) ⟨hx, hb, hml, hown, htsA⟩ hK hP hD hS hA [0, 1, 2, 3, 4, 5, 6, 7, 8, 9, 10] [11, 12, 13, 14, 15, 16, 17] rfl rfl (by decide) (by decide) (by decide) 1 [.int (xs (i + 1))] (mt0_within l D a0 cA _ ln lt pn ql q qp mk bd be xl yl xx yy co nc (xs (i + 1)) hI) (lw_V q123 q124 q125 q15 q126) (by decide +kernel) ⟨Nat.le_of_ble_eq_true rfl, Nat.le_of_ble_eq_true rfl⟩ rfl 0 rfl rfl hl.1 rfl (Nat.le_of_ble_eq_true rfl) dL_law_257 ⟨Nat.le_refl _, Nat.le_refl _⟩ (fun rA u H locs hwA hP hD hS => ?_)
      obtain ⟨mk0_, bd0_, be0_⟩ := u
      have hwA : rA = nI (cW (gDi ln lt ql q) (xs (i + 1)) 8) := hwA
      have hP : va_P D vwCl (wX1 a1 cA lt ln q ql lf lfs rg rgs tb fe ++ wX0 a0 cA ln lt pn ql q qp mk0_ bd0_ be0_ xl yl xx yy co nc) H := hP
      have hD : va_D A (wX1 a1 cA lt ln q ql lf lfs rg rgs tb fe ++ wX0 a0 cA ln lt pn ql q qp mk0_ bd0_ be0_ xl yl xx yy co nc) := hD
      refine lv_aload_n hx hb dL_law_260 rfl (lv_at hl 2 rfl) ?_
      refine lv_aload_n hx hb dL_law_261 rfl (lv_at hl 0 rfl) ?_
      refine lv_iload_n hx hb dL_law_262 rfl (lv_at hl 3 rfl) ?_
      refine lv_iconst (v := nI 1) hx hb dL_law_263 (by decide) ?_
      refine nr_add hx hb dL_law_264 ?_
      refine nr_sld (i := i + 1) hx hb hX hbl hbA hS (by omega) (by omega) dL_law_265 ?_
      refine nr_callVi (C := RX1) (T := TX1) (N := 10) (ci := 1) (rest := [.int rA]) (wc := wX1 a1 cA lt ln q ql lf lfs rg rgs tb fe) (wr := wX0 a0 cA ln lt pn ql q qp mk0_ bd0_ be0_ xl yl xx yy co nc) ⟨hx, hb, hml, hown, htsA⟩ hK hP hD hS hA [0, 1, 2, 3, 4, 5, 6] [7, 8, 9, 10, 11, 12, 13, 14, 15, 16, 17] rfl rfl (by decide) (by decide) (by decide) 1 [.int (xs (i + 1))] (mt1_within l D a1 cA _ lt ln q ql lf lfs rg rgs tb fe (xs (i + 1)) (inv0_1 hI)) (lw_V q235 q236 q237 q16 q238) (by decide +kernel) ⟨Nat.le_of_ble_eq_true rfl, Nat.le_of_ble_eq_true rfl⟩ rfl 0 rfl rfl hl.1 rfl (Nat.le_of_ble_eq_true rfl) dL_law_266 ⟨Nat.le_refl _, Nat.le_refl _⟩ (fun rB u H locs hwB hP hD hS => ?_)
      obtain ⟨lf1_, lfs1_, rg1_, rgs1_, tb1_, fe1_⟩ := u
      have hwB : rB = nI (cW (gDi ln lt ql q) (xs (i + 1)) 8) := hwB
      have hP : va_P D vwCl (wX0 a0 cA ln lt pn ql q qp mk0_ bd0_ be0_ xl yl xx yy co nc ++ wX1 a1 cA lt ln q ql lf1_ lfs1_ rg1_ rgs1_ tb1_ fe1_) H := hP
      have hD : va_D A (wX0 a0 cA ln lt pn ql q qp mk0_ bd0_ be0_ xl yl xx yy co nc ++ wX1 a1 cA lt ln q ql lf1_ lfs1_ rg1_ rgs1_ tb1_ fe1_) := hD
      refine lv_icmp_eq (tgt := 343) hx hb dL_law_269 (by decide) (fun c269 => ?_) (fun c269 => ?_)
      · skip
        refine lv_iinc (v := nI (i + 3)) (lv' := [(3, .int (nI (i + 3))), (0, .ref b), (1, .ref (a0 0)), (2, .ref (a1 0))]) hx hb dL_law_343 hl (k := 3) rfl (nI_add i 3) (by decide) rfl (fun ls hl => ?_)
        refine lv_goto (tgt := 18) hx hb dL_law_346 (by decide) ?_
        exact ih18 (i + 3, ln, lt, pn, ql, q, qp, mk0_, bd0_, be0_, xl, yl, xx, yy, co, nc, lf1_, lfs1_, rg1_, rgs1_, tb1_, fe1_) _ _ _ ⟨(show (i + 3) ≤ L from by omega), (show inv0 ln lt pn ql q qp from hI), hP, hD, hS, lv_sub hl [1, 2, 3, 0] rfl⟩ (show L + 3 - (i + 3) < L + 3 - i from by omega)
      · skip
        exact absurd (hwA.trans hwB.symm) c269
    · skip
      refine lv_tableIn (tgt := 274) (off := 242) hx hb dL_law_32 (by decide) (by decide) (by decide +kernel) (by decide) ?_
      refine lv_aload_n hx hb dL_law_274 rfl (lv_at hl 1 rfl) ?_
      refine nr_callVi (C := RX0) (T := TX0) (N := 15) (ci := 0) (rest := []) (wc := wX0 a0 cA ln lt pn ql q qp mk bd be xl yl xx yy co nc) (wr := wX1 a1 cA lt ln q ql lf lfs rg rgs tb fe) ⟨hx, hb, hml, hown, htsA⟩ hK hP hD hS hA [0, 1, 2, 3, 4, 5, 6, 7, 8, 9, 10] [11, 12, 13, 14, 15, 16, 17] rfl rfl (by decide) (by decide) (by decide) 0 [] (mt0_nearest l D a0 cA _ ln lt pn ql q qp mk bd be xl yl xx yy co nc  hI) (lw_V q135 q136 q137 q15 q138) (by decide +kernel) ⟨Nat.le_of_ble_eq_true rfl, Nat.le_of_ble_eq_true rfl⟩ rfl 0 rfl rfl hl.1 rfl (Nat.le_of_ble_eq_true rfl) dL_law_275 ⟨Nat.le_refl _, Nat.le_refl _⟩ (fun rA u H locs hwA hP hD hS => ?_)
      obtain ⟨mk0_, bd0_, be0_⟩ := u
      have hwA : rA = nI (nB0 (gDi ln lt ql q) 8) := hwA
      have hP : va_P D vwCl (wX1 a1 cA lt ln q ql lf lfs rg rgs tb fe ++ wX0 a0 cA ln lt pn ql q qp mk0_ bd0_ be0_ xl yl xx yy co nc) H := hP
      have hD : va_D A (wX1 a1 cA lt ln q ql lf lfs rg rgs tb fe ++ wX0 a0 cA ln lt pn ql q qp mk0_ bd0_ be0_ xl yl xx yy co nc) := hD
      refine lv_aload_n hx hb dL_law_278 rfl (lv_at hl 2 rfl) ?_
      refine nr_callVi (C := RX1) (T := TX1) (N := 10) (ci := 1) (rest := [.int rA]) (wc := wX1 a1 cA lt ln q ql lf lfs rg rgs tb fe) (wr := wX0 a0 cA ln lt pn ql q qp mk0_ bd0_ be0_ xl yl xx yy co nc) ⟨hx, hb, hml, hown, htsA⟩ hK hP hD hS hA [0, 1, 2, 3, 4, 5, 6] [7, 8, 9, 10, 11, 12, 13, 14, 15, 16, 17] rfl rfl (by decide) (by decide) (by decide) 0 [] (mt1_nearest l D a1 cA _ lt ln q ql lf lfs rg rgs tb fe  (inv0_1 hI)) (lw_V q239 q240 q241 q16 q242) (by decide +kernel) ⟨Nat.le_of_ble_eq_true rfl, Nat.le_of_ble_eq_true rfl⟩ rfl 0 rfl rfl hl.1 rfl (Nat.le_of_ble_eq_true rfl) dL_law_279 ⟨Nat.le_refl _, Nat.le_refl _⟩ (fun rB u H locs hwB hP hD hS => ?_)
      obtain ⟨lf1_, lfs1_, rg1_, rgs1_, tb1_, fe1_⟩ := u
      have hwB : rB = nI (nB0 (gDi ln lt ql q) 8) := hwB
      have hP : va_P D vwCl (wX0 a0 cA ln lt pn ql q qp mk0_ bd0_ be0_ xl yl xx yy co nc ++ wX1 a1 cA lt ln q ql lf1_ lfs1_ rg1_ rgs1_ tb1_ fe1_) H := hP
      have hD : va_D A (wX0 a0 cA ln lt pn ql q qp mk0_ bd0_ be0_ xl yl xx yy co nc ++ wX1 a1 cA lt ln q ql lf1_ lfs1_ rg1_ rgs1_ tb1_ fe1_) := hD
      refine lv_icmp_eq (tgt := 343) hx hb dL_law_282 (by decide) (fun c282 => ?_) (fun c282 => ?_)
      · skip
        refine lv_iinc (v := nI (i + 3)) (lv' := [(3, .int (nI (i + 3))), (0, .ref b), (1, .ref (a0 0)), (2, .ref (a1 0))]) hx hb dL_law_343 hl (k := 3) rfl (nI_add i 3) (by decide) rfl (fun ls hl => ?_)
        refine lv_goto (tgt := 18) hx hb dL_law_346 (by decide) ?_
        exact ih18 (i + 3, ln, lt, pn, ql, q, qp, mk0_, bd0_, be0_, xl, yl, xx, yy, co, nc, lf1_, lfs1_, rg1_, rgs1_, tb1_, fe1_) _ _ _ ⟨(show (i + 3) ≤ L from by omega), (show inv0 ln lt pn ql q qp from hI), hP, hD, hS, lv_sub hl [1, 2, 3, 0] rfl⟩ (show L + 3 - (i + 3) < L + 3 - i from by omega)
      · skip
        exact absurd (hwA.trans hwB.symm) c282
    · skip
      refine lv_tableIn (tgt := 287) (off := 255) hx hb dL_law_32 (by decide) (by decide) (by decide +kernel) (by decide) ?_
      refine lv_aload_n hx hb dL_law_287 rfl (lv_at hl 1 rfl) ?_
      refine lv_aload_n hx hb dL_law_288 rfl (lv_at hl 0 rfl) ?_
      refine lv_iload_n hx hb dL_law_289 rfl (lv_at hl 3 rfl) ?_
      refine lv_iconst (v := nI 1) hx hb dL_law_290 (by decide) ?_
      refine nr_add hx hb dL_law_291 ?_
      refine nr_sld (i := i + 1) hx hb hX hbl hbA hS (by omega) (by omega) dL_law_292 ?_
      refine lv_aload_n hx hb dL_law_293 rfl (lv_at hl 0 rfl) ?_
      refine lv_iload_n hx hb dL_law_294 rfl (lv_at hl 3 rfl) ?_
      refine lv_iconst (v := nI 2) hx hb dL_law_295 (by decide) ?_
      refine nr_add hx hb dL_law_296 ?_
      refine nr_sld (i := i + 2) hx hb hX hbl hbA hS (by omega) (by omega) dL_law_297 ?_
      refine nr_callVi (C := RX0) (T := TX0) (N := 15) (ci := 0) (rest := []) (wc := wX0 a0 cA ln lt pn ql q qp mk bd be xl yl xx yy co nc) (wr := wX1 a1 cA lt ln q ql lf lfs rg rgs tb fe) ⟨hx, hb, hml, hown, htsA⟩ hK hP hD hS hA [0, 1, 2, 3, 4, 5, 6, 7, 8, 9, 10] [11, 12, 13, 14, 15, 16, 17] rfl rfl (by decide) (by decide) (by decide) 2 [.int (xs (i + 1)), .int (xs (i + 2))] (mt0_between l D a0 cA _ ln lt pn ql q qp mk bd be xl yl xx yy co nc (xs (i + 1)) (xs (i + 2)) hI) (lw_V q139 q140 q141 q15 q142) (by decide +kernel) ⟨Nat.le_of_ble_eq_true rfl, Nat.le_of_ble_eq_true rfl⟩ rfl 0 rfl rfl hl.1 rfl (Nat.le_of_ble_eq_true rfl) dL_law_298 ⟨Nat.le_refl _, Nat.le_refl _⟩ (fun rA u H locs hwA hP hD hS => ?_)
      obtain ⟨xl0_, yl0_, xx0_, yy0_, co0_, nc0_⟩ := u
      have hwA : rA = sD2 (gBe ln lt) (xs (i + 1)) (xs (i + 2)) := hwA
      have hP : va_P D vwCl (wX1 a1 cA lt ln q ql lf lfs rg rgs tb fe ++ wX0 a0 cA ln lt pn ql q qp mk bd be xl0_ yl0_ xx0_ yy0_ co0_ nc0_) H := hP
      have hD : va_D A (wX1 a1 cA lt ln q ql lf lfs rg rgs tb fe ++ wX0 a0 cA ln lt pn ql q qp mk bd be xl0_ yl0_ xx0_ yy0_ co0_ nc0_) := hD
      refine lv_aload_n hx hb dL_law_301 rfl (lv_at hl 2 rfl) ?_
      refine lv_aload_n hx hb dL_law_302 rfl (lv_at hl 0 rfl) ?_
      refine lv_iload_n hx hb dL_law_303 rfl (lv_at hl 3 rfl) ?_
      refine lv_iconst (v := nI 1) hx hb dL_law_304 (by decide) ?_
      refine nr_add hx hb dL_law_305 ?_
      refine nr_sld (i := i + 1) hx hb hX hbl hbA hS (by omega) (by omega) dL_law_306 ?_
      refine lv_aload_n hx hb dL_law_307 rfl (lv_at hl 0 rfl) ?_
      refine lv_iload_n hx hb dL_law_308 rfl (lv_at hl 3 rfl) ?_
      refine lv_iconst (v := nI 2) hx hb dL_law_309 (by decide) ?_
      refine nr_add hx hb dL_law_310 ?_
      refine nr_sld (i := i + 2) hx hb hX hbl hbA hS (by omega) (by omega) dL_law_311 ?_
      refine nr_callVi (C := RX1) (T := TX1) (N := 10) (ci := 1) (rest := [.int rA]) (wc := wX1 a1 cA lt ln q ql lf lfs rg rgs tb fe) (wr := wX0 a0 cA ln lt pn ql q qp mk bd be xl0_ yl0_ xx0_ yy0_ co0_ nc0_) ⟨hx, hb, hml, hown, htsA⟩ hK hP hD hS hA [0, 1, 2, 3, 4, 5, 6] [7, 8, 9, 10, 11, 12, 13, 14, 15, 16, 17] rfl rfl (by decide) (by decide) (by decide) 2 [.int (xs (i + 1)), .int (xs (i + 2))] (mt1_between l D a1 cA _ lt ln q ql lf lfs rg rgs tb fe (xs (i + 1)) (xs (i + 2)) (inv0_1 hI)) (lw_V q243 q244 q245 q16 q246) (by decide +kernel) ⟨Nat.le_of_ble_eq_true rfl, Nat.le_of_ble_eq_true rfl⟩ rfl 0 rfl rfl hl.1 rfl (Nat.le_of_ble_eq_true rfl) dL_law_312 ⟨Nat.le_refl _, Nat.le_refl _⟩ (fun rB u H locs hwB hP hD hS => ?_)
      obtain ⟨lf1_, lfs1_, rg1_, rgs1_, tb1_⟩ := u
      have hwB : rB = sD2 (gBe ln lt) (xs (i + 1)) (xs (i + 2)) := hwB
      have hP : va_P D vwCl (wX0 a0 cA ln lt pn ql q qp mk bd be xl0_ yl0_ xx0_ yy0_ co0_ nc0_ ++ wX1 a1 cA lt ln q ql lf1_ lfs1_ rg1_ rgs1_ tb1_ fe) H := hP
      have hD : va_D A (wX0 a0 cA ln lt pn ql q qp mk bd be xl0_ yl0_ xx0_ yy0_ co0_ nc0_ ++ wX1 a1 cA lt ln q ql lf1_ lfs1_ rg1_ rgs1_ tb1_ fe) := hD
      refine lv_icmp_eq (tgt := 343) hx hb dL_law_315 (by decide) (fun c315 => ?_) (fun c315 => ?_)
      · skip
        refine lv_iinc (v := nI (i + 3)) (lv' := [(3, .int (nI (i + 3))), (0, .ref b), (1, .ref (a0 0)), (2, .ref (a1 0))]) hx hb dL_law_343 hl (k := 3) rfl (nI_add i 3) (by decide) rfl (fun ls hl => ?_)
        refine lv_goto (tgt := 18) hx hb dL_law_346 (by decide) ?_
        exact ih18 (i + 3, ln, lt, pn, ql, q, qp, mk, bd, be, xl0_, yl0_, xx0_, yy0_, co0_, nc0_, lf1_, lfs1_, rg1_, rgs1_, tb1_, fe) _ _ _ ⟨(show (i + 3) ≤ L from by omega), (show inv0 ln lt pn ql q qp from hI), hP, hD, hS, lv_sub hl [1, 2, 3, 0] rfl⟩ (show L + 3 - (i + 3) < L + 3 - i from by omega)
      · skip
        exact absurd (hwA.trans hwB.symm) c315
    · skip
      refine lv_tableIn (tgt := 320) (off := 288) hx hb dL_law_32 (by decide) (by decide) (by decide +kernel) (by decide) ?_
      refine lv_aload_n hx hb dL_law_320 rfl (lv_at hl 1 rfl) ?_
      refine lv_aload_n hx hb dL_law_321 rfl (lv_at hl 0 rfl) ?_
      refine lv_iload_n hx hb dL_law_322 rfl (lv_at hl 3 rfl) ?_
      refine lv_iconst (v := nI 1) hx hb dL_law_323 (by decide) ?_
      refine nr_add hx hb dL_law_324 ?_
      refine nr_sld (i := i + 1) hx hb hX hbl hbA hS (by omega) (by omega) dL_law_325 ?_
      refine nr_callVi (C := RX0) (T := TX0) (N := 15) (ci := 0) (rest := []) (wc := wX0 a0 cA ln lt pn ql q qp mk bd be xl yl xx yy co nc) (wr := wX1 a1 cA lt ln q ql lf lfs rg rgs tb fe) ⟨hx, hb, hml, hown, htsA⟩ hK hP hD hS hA [0, 1, 2, 3, 4, 5, 6, 7, 8, 9, 10] [11, 12, 13, 14, 15, 16, 17] rfl rfl (by decide) (by decide) (by decide) 1 [.int (xs (i + 1))] (mt0_pairs l D a0 cA _ ln lt pn ql q qp mk bd be xl yl xx yy co nc (xs (i + 1)) hI) (lw_V q143 q144 q145 q15 q146) (by decide +kernel) ⟨Nat.le_of_ble_eq_true rfl, Nat.le_of_ble_eq_true rfl⟩ rfl 0 rfl rfl hl.1 rfl (Nat.le_of_ble_eq_true rfl) dL_law_326 ⟨Nat.le_refl _, Nat.le_refl _⟩ (fun rA u H locs hwA hP hD hS => ?_)
      have hwA : rA = sD1 (gPa ln lt ql q) (xs (i + 1)) := hwA
      have hP : va_P D vwCl (wX1 a1 cA lt ln q ql lf lfs rg rgs tb fe ++ wX0 a0 cA ln lt pn ql q qp mk bd be xl yl xx yy co nc) H := hP
      have hD : va_D A (wX1 a1 cA lt ln q ql lf lfs rg rgs tb fe ++ wX0 a0 cA ln lt pn ql q qp mk bd be xl yl xx yy co nc) := hD
      refine lv_aload_n hx hb dL_law_329 rfl (lv_at hl 2 rfl) ?_
      refine lv_aload_n hx hb dL_law_330 rfl (lv_at hl 0 rfl) ?_
      refine lv_iload_n hx hb dL_law_331 rfl (lv_at hl 3 rfl) ?_
      refine lv_iconst (v := nI 1) hx hb dL_law_332 (by decide) ?_
      refine nr_add hx hb dL_law_333 ?_
      refine nr_sld (i := i + 1) hx hb hX hbl hbA hS (by omega) (by omega) dL_law_334 ?_
      refine nr_callVi (C := RX1) (T := TX1) (N := 10) (ci := 1) (rest := [.int rA]) (wc := wX1 a1 cA lt ln q ql lf lfs rg rgs tb fe) (wr := wX0 a0 cA ln lt pn ql q qp mk bd be xl yl xx yy co nc) ⟨hx, hb, hml, hown, htsA⟩ hK hP hD hS hA [0, 1, 2, 3, 4, 5, 6] [7, 8, 9, 10, 11, 12, 13, 14, 15, 16, 17] rfl rfl (by decide) (by decide) (by decide) 1 [.int (xs (i + 1))] (mt1_pairs l D a1 cA _ lt ln q ql lf lfs rg rgs tb fe (xs (i + 1)) (inv0_1 hI)) (lw_V q247 q248 q249 q16 q250) (by decide +kernel) ⟨Nat.le_of_ble_eq_true rfl, Nat.le_of_ble_eq_true rfl⟩ rfl 0 rfl rfl hl.1 rfl (Nat.le_of_ble_eq_true rfl) dL_law_335 ⟨Nat.le_refl _, Nat.le_refl _⟩ (fun rB u H locs hwB hP hD hS => ?_)
      have hwB : rB = sD1 (gPa ln lt ql q) (xs (i + 1)) := hwB
      have hP : va_P D vwCl (wX0 a0 cA ln lt pn ql q qp mk bd be xl yl xx yy co nc ++ wX1 a1 cA lt ln q ql lf lfs rg rgs tb fe) H := hP
      have hD : va_D A (wX0 a0 cA ln lt pn ql q qp mk bd be xl yl xx yy co nc ++ wX1 a1 cA lt ln q ql lf lfs rg rgs tb fe) := hD
      refine lv_icmp_eq (tgt := 343) hx hb dL_law_338 (by decide) (fun c338 => ?_) (fun c338 => ?_)
      · skip
        refine lv_iinc (v := nI (i + 3)) (lv' := [(3, .int (nI (i + 3))), (0, .ref b), (1, .ref (a0 0)), (2, .ref (a1 0))]) hx hb dL_law_343 hl (k := 3) rfl (nI_add i 3) (by decide) rfl (fun ls hl => ?_)
        refine lv_goto (tgt := 18) hx hb dL_law_346 (by decide) ?_
        exact ih18 (i + 3, ln, lt, pn, ql, q, qp, mk, bd, be, xl, yl, xx, yy, co, nc, lf, lfs, rg, rgs, tb, fe) _ _ _ ⟨(show (i + 3) ≤ L from by omega), (show inv0 ln lt pn ql q qp from hI), hP, hD, hS, lv_sub hl [1, 2, 3, 0] rfl⟩ (show L + 3 - (i + 3) < L + 3 - i from by omega)
      · skip
        exact absurd (hwA.trans hwB.symm) c338
    · skip
      refine lv_tableOut (tgt := 343) hx hb dL_law_32 (Or.inr (by rw [nI_toInt (by omega)]; omega)) (by decide) ?_
      refine lv_iinc (v := nI (i + 3)) (lv' := [(3, .int (nI (i + 3))), (0, .ref b), (1, .ref (a0 0)), (2, .ref (a1 0))]) hx hb dL_law_343 hl (k := 3) rfl (nI_add i 3) (by decide) rfl (fun ls hl => ?_)
      refine lv_goto (tgt := 18) hx hb dL_law_346 (by decide) ?_
      exact ih18 (i + 3, ln, lt, pn, ql, q, qp, mk, bd, be, xl, yl, xx, yy, co, nc, lf, lfs, rg, rgs, tb, fe) _ _ _ ⟨(show (i + 3) ≤ L from by omega), (show inv0 ln lt pn ql q qp from hI), hP, hD, hS, lv_sub hl [1, 2, 3, 0] rfl⟩ (show L + 3 - (i + 3) < L + 3 - i from by omega)
end
section
set_option maxHeartbeats 4000000 in
theorem lw_walk (l : Launch) (b : Addr) (xs : List Int32) : MetFree l x (headSpec (Jvm.Cond.code x code maxLocals ret :: tables_1) room_1) (lw_P b xs) (fun _ _ _ _ _ => True) lw_Q := by
  refine MetFree.of_bodyS (code := code) (maxLocals := maxLocals) (ret := ret) (by decide) ?_ ?_
  · intro args s m h hn
    obtain ⟨meth, c, h1, h2, h3, h4, h5, h6, -, -⟩ := Cond.code_spec hn (atoms_spec (ws := Jvm.Cond.code x code maxLocals ret :: tables_1) h _ List.mem_cons_self)
    exact ⟨meth, c, h1, h2, h3, h4, h5, h6⟩
  · intro p e s m args below meth c s₁ B hml0 hP _
    obtain ⟨rfl, hx, hbd, hgv⟩ := hP
    obtain ⟨scr, harrAt, hlist, hof, hsmall⟩ := hx
    obtain ⟨hcb, hkn, -, -⟩ := State.arrayAt?_spec harrAt
    have hown : s.vm.findClass R_law = some m.cls := findClass_of_methodNamed B.named
    have hts0 : ∀ c ∈ (Jvm.Cond.code x code maxLocals ret :: tables_1), c.before #[Value.ref b] s = true := atoms_spec (ws := Jvm.Cond.code x code maxLocals ret :: tables_1) B.pre
    have hts : ∀ w ∈ lw_tbl, w.before #[Value.ref b] s = true := k2_hts_sels lw_privs (fun w hw => hts0 w (List.mem_cons_of_mem _ hw)) lw_privs_ok
    have hml : c.maxLocals = 4 := B.maxLocals_eq (hts0 _ List.mem_cons_self)
    have X₀ : Stand p l e room_1 s m #[Value.ref b] below meth c s₁ [] 0 0 := Stand.of_body B
    have hh0 : s₁.heap = s.heap := by rw [B.state]; rfl
    have hsz : scr.slots.size = xs.length := by rw [← Array.length_toList, hlist, List.length_map]
    have hval : ∀ j : Nat, j < xs.length → scr.slots[j]? = some (.int (xs.getD j 0)) := fun j hj => by
      rw [← Array.getElem?_toList, hlist]
      simp [hj]
    have hbl : b < s.heap.size := (Array.getElem?_eq_some_iff.mp hcb).1
    have hX : va_X b xs.length (fun j => xs.getD j 0) s s.heap := ⟨scr, hcb, hof, hkn, hsz, hval⟩
    have K : W p l e room_1 s m #[Value.ref b] below meth c s₁.heap [] 0 0 (lw_Z below #[Value.ref b] s) (entryFrame m ([Value.ref b] : List Value).toArray 4) := by
      rw [hh0]
      exact whole_start l hbd ⟨B.exec, B.bytes, B.returns, hml, hown, hts, hX, hbl, B.notSynchronized, hgv⟩
    obtain ⟨t, a1, o, b1, b2, b3⟩ := K s₁ rfl X₀
    exact ⟨t, o, a1, b1, b2, b3⟩
theorem lw_pre_spec {args : Array Value} {s : State} (h : (Jvm.Cond.and given_1 narrow_1).before args s = true) (hr : rest_1_c.before args s = true) : ∃ (b : Addr) (xs : List Int32), lw_P b xs args s := by
  have hs := flat_of_before _ h
  have hq := flat_of_before _ hr
  have hc : (Cond.count 1).before args s = true := hs _ (by decide +kernel)
  have harr : (Cond.arrayOf (.arg 0) .int).before args s = true := hs _ (by decide +kernel)
  have hle : (Cond.le (.length (.arg 0)) (.int 192)).before args s = true := hs _ (by decide +kernel)
  have hlen : (Cond.isInt (.length (.arg 0))).before args s = true := hq _ (by decide +kernel)
  have hall : (Cond.all (.arg 0) (.isInt (.elem (.arg 0) (.index 0)))).before args s = true := hq _ (by decide +kernel)
  obtain ⟨b, xs, hb, hx⟩ := State.ints_of_pre rfl harr hlen hall
  have hsm : xs.length < 2 ^ 31 := hx.choose_spec.2.2.2
  have hev : (Term.length (.arg 0)).eval args s none [] s = some (.int xs.length.toInt32) := hx.length_eval hb
  have hv := Cond.le_ints hev (show (Term.int 192).eval args s none [] s = some (.int 192) from rfl)
  have hd : xs.length.toInt32 ≤ 192 := by
    simpa [Cond.before, Cond.holds, hv] using hle
  have hN : xs.length ≤ 192 := (Int32.ofNat_le_ofNat hsm (by decide)).mp (show Int32.ofNat xs.length ≤ Int32.ofNat 192 from hd)
  exact ⟨b, xs, Cond.one_arg hc (show args[0]? = some (.ref b) from hb), hx, hN, h⟩
theorem lw_comes (l : Launch) : Comes l x (Jvm.Cond.code x code maxLocals ret :: tables_1) room_1 (fun tb e args s => Calls_1 tb e args s ∧ rest_1 tb e args s ∧ Pre_1 tb e args s)
    (fun _ _ args s o t => lw_Q args s o t) := by
  intro p e ha hc hk s m args below hf hfit hheap happ hpre
  obtain ⟨b, xs, hP⟩ := lw_pre_spec hpre.2.2 hpre.2.1
  obtain ⟨k, o, h1, h2, h3, hQ⟩ := lw_walk l b xs p e ha hc hk s m args below hf ((Spec.applies_iff_loose hf).mp happ).1 hP trivial
  exact ⟨k, o, h1, h2, h3, hQ⟩
theorem lw_frame {s t : State} {o : Outcome} {args : Array Value} (h : Framed s o t [] 600000 7290000) :
    Framed s o t (fieldLocs frame_1_writes args s ++ arrayLocs frame_1_arrays args s ++ staticLocs frame_1_statics s) 600000 7290000 := h
theorem lw_limb (L : Cond) (hL : ∀ (args : Array Value) (s t : State), L.after args s (.returned (some (.int 1))) t = true) :
    ArmFor flags0 classFile x code maxLocals ret World_1 tables_1 room_1 Calls_1 rest_1 Pre_1
      (fun tb e a s o t => postC L tb e a s o t ∧ Framed s o t (fieldLocs frame_1_writes a s ++ arrayLocs frame_1_arrays a s ++ staticLocs frame_1_statics s) 600000 7290000) := by
  intro l _ _ _ p e ha hc hk s m args below hf hfit hheap happ hpre
  obtain ⟨k, o, h1, h2, h3, rfl, hF⟩ := lw_comes l p e ha hc hk s m args below hf hfit hheap happ hpre
  exact ⟨k, _, h1, h2, h3, hL args s _, lw_frame hF⟩
theorem i_vc : Claimed_1_1 ∧ Claimed_1_2 := ⟨lw_limb limb_1_1 (fun args s t => by simp [limb_1_1, Cond.after, Cond.holds, Cond.value]), lw_limb limb_1_2 (fun args s t => Cond.after_iff.mpr (by
  first | (rw [show limb_1_2 = Cond.eq .result (.int 1) from rfl, Cond.eq_ints (x := 1) (y := 1) rfl rfl]; simp; done) | (simp [limb_1_2, Cond.value, Term.eval]; done)))⟩
end
