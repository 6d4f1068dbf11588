section
-- ===== PART A: goes FIRST, ahead of the names: the tables' words, and 'selects' of the private methods out of them =====
/-- a private method of a class that the tables say can be made, by its rows of tables_1 -/
def lw_okq (q : MethodName × Nat) : Prop := (q.1.cls ≠ "java/lang/invoke/MethodHandle" ∧ q.1.cls ≠ "java/lang/invoke/VarHandle") ∧ Cond.instantiable q.1.cls q.2 ∈ tables_1 ∧ Cond.privateMethod q.1 ∈ tables_1 ∧ Cond.instanceMethod q.1 ∈ tables_1
set_option maxRecDepth 100000
theorem lw_t1 {w : Cond} (h : w ∈ tables_1_1) : w ∈ tables_1 := List.mem_append_left _ h
theorem lw_t2 {w : Cond} (h : w ∈ tables_1_2) : w ∈ tables_1 := List.mem_append_right _ h
theorem lw_p0 : lw_okq (⟨"RankRuns", "merge", "(II)V"⟩, 10) := ⟨⟨by decide +kernel, by decide +kernel⟩, lw_t1 (List.mem_of_getElem? (i := 4) rfl), lw_t1 (List.mem_of_getElem? (i := 49) rfl), lw_t1 (List.mem_of_getElem? (i := 50) rfl)⟩
theorem lw_p1 : lw_okq (⟨"RankRuns", "keep", "(III)V"⟩, 10) := ⟨⟨by decide +kernel, by decide +kernel⟩, lw_t1 (List.mem_of_getElem? (i := 4) rfl), lw_t1 (List.mem_of_getElem? (i := 56) rfl), lw_t1 (List.mem_of_getElem? (i := 57) rfl)⟩
theorem lw_p2 : lw_okq (⟨"RankRuns", "livingIn", "(II)I"⟩, 10) := ⟨⟨by decide +kernel, by decide +kernel⟩, lw_t1 (List.mem_of_getElem? (i := 4) rfl), lw_t1 (List.mem_of_getElem? (i := 64) rfl), lw_t1 (List.mem_of_getElem? (i := 65) rfl)⟩
theorem lw_p3 : lw_okq (⟨"RankRuns", "gather", "()V"⟩, 10) := ⟨⟨by decide +kernel, by decide +kernel⟩, lw_t1 (List.mem_of_getElem? (i := 4) rfl), lw_t1 (List.mem_of_getElem? (i := 72) rfl), lw_t1 (List.mem_of_getElem? (i := 73) rfl)⟩
theorem lw_p4 : lw_okq (⟨"RankRuns", "below", "(J)I"⟩, 10) := ⟨⟨by decide +kernel, by decide +kernel⟩, lw_t1 (List.mem_of_getElem? (i := 4) rfl), lw_t1 (List.mem_of_getElem? (i := 81) rfl), lw_t1 (List.mem_of_getElem? (i := 82) rfl)⟩
theorem lw_p5 : lw_okq (⟨"RankRuns", "search", "(IJ)I"⟩, 10) := ⟨⟨by decide +kernel, by decide +kernel⟩, lw_t1 (List.mem_of_getElem? (i := 4) rfl), lw_t1 (List.mem_of_getElem? (i := 85) rfl), lw_t1 (List.mem_of_getElem? (i := 86) rfl)⟩
theorem lw_p6 : lw_okq (⟨"RankRuns", "livingBefore", "(II)I"⟩, 10) := ⟨⟨by decide +kernel, by decide +kernel⟩, lw_t1 (List.mem_of_getElem? (i := 4) rfl), lw_t1 (List.mem_of_getElem? (i := 89) rfl), lw_t1 (List.mem_of_getElem? (i := 90) rfl)⟩
theorem lw_p7 : lw_okq (⟨"RankRunsModel", "join", "(I)V"⟩, 12) := ⟨⟨by decide +kernel, by decide +kernel⟩, lw_t1 (List.mem_of_getElem? (i := 142) rfl), lw_t1 (List.mem_of_getElem? (i := 189) rfl), lw_t1 (List.mem_of_getElem? (i := 190) rfl)⟩
theorem lw_p8 : lw_okq (⟨"RankRunsModel", "leave", "(I)V"⟩, 12) := ⟨⟨by decide +kernel, by decide +kernel⟩, lw_t1 (List.mem_of_getElem? (i := 142) rfl), lw_t1 (List.mem_of_getElem? (i := 196) rfl), lw_t1 (List.mem_of_getElem? (i := 197) rfl)⟩
theorem lw_p9 : lw_okq (⟨"RankRunsModel", "build", "()I"⟩, 12) := ⟨⟨by decide +kernel, by decide +kernel⟩, lw_t1 (List.mem_of_getElem? (i := 142) rfl), lw_t1 (List.mem_of_getElem? (i := 204) rfl), lw_t1 (List.mem_of_getElem? (i := 205) rfl)⟩
theorem lw_p10 : lw_okq (⟨"RankRunsModel", "before", "(J)I"⟩, 12) := ⟨⟨by decide +kernel, by decide +kernel⟩, lw_t1 (List.mem_of_getElem? (i := 142) rfl), lw_t1 (List.mem_of_getElem? (i := 214) rfl), lw_t1 (List.mem_of_getElem? (i := 215) rfl)⟩
theorem lw_p11 : lw_okq (⟨"RankRunsModel", "isPlace", "(I)Z"⟩, 12) := ⟨⟨by decide +kernel, by decide +kernel⟩, lw_t1 (List.mem_of_getElem? (i := 142) rfl), lw_t1 (List.mem_of_getElem? (i := 226) rfl), lw_t1 (List.mem_of_getElem? (i := 227) rfl)⟩
def lw_privs_1 : List (MethodName × Nat) := [(⟨"RankRuns", "merge", "(II)V"⟩, 10), (⟨"RankRuns", "keep", "(III)V"⟩, 10), (⟨"RankRuns", "livingIn", "(II)I"⟩, 10), (⟨"RankRuns", "gather", "()V"⟩, 10), (⟨"RankRuns", "below", "(J)I"⟩, 10), (⟨"RankRuns", "search", "(IJ)I"⟩, 10), (⟨"RankRuns", "livingBefore", "(II)I"⟩, 10), (⟨"RankRunsModel", "join", "(I)V"⟩, 12), (⟨"RankRunsModel", "leave", "(I)V"⟩, 12), (⟨"RankRunsModel", "build", "()I"⟩, 12), (⟨"RankRunsModel", "before", "(J)I"⟩, 12), (⟨"RankRunsModel", "isPlace", "(I)Z"⟩, 12)]
theorem lw_r1 : ∀ q ∈ lw_privs_1, lw_okq q := List.forall_mem_cons.mpr ⟨lw_p0, List.forall_mem_cons.mpr ⟨lw_p1, List.forall_mem_cons.mpr ⟨lw_p2, List.forall_mem_cons.mpr ⟨lw_p3, List.forall_mem_cons.mpr ⟨lw_p4, List.forall_mem_cons.mpr ⟨lw_p5, List.forall_mem_cons.mpr ⟨lw_p6, List.forall_mem_cons.mpr ⟨lw_p7, List.forall_mem_cons.mpr ⟨lw_p8, List.forall_mem_cons.mpr ⟨lw_p9, List.forall_mem_cons.mpr ⟨lw_p10, List.forall_mem_cons.mpr ⟨lw_p11, fun _ h => absurd h List.not_mem_nil⟩⟩⟩⟩⟩⟩⟩⟩⟩⟩⟩⟩
def lw_privs : List (MethodName × Nat) := lw_privs_1
def lw_tbl : List Cond := k2_sels lw_privs ++ tables_1
theorem lw_privs_ok : ∀ q ∈ lw_privs, lw_okq q := lw_r1
-- ===== ONE list of words for every method: the tables' words that hold all through a run =====
def lw_all : List Cond := lw_tbl.filter goodWord
/-- a word of the tables by its place: claim/WORDS.tsv -/
theorem lw_w {w : Cond} (i : Nat) (h : lw_tbl[i]? = some w) (g : goodWord w = true) : w ∈ lw_all := List.mem_filter.mpr ⟨List.mem_of_getElem? h, g⟩
theorem lw_all_tbl {w : Cond} (h : w ∈ lw_all) : w ∈ lw_tbl := (List.mem_filter.mp h).1
theorem lw_self : GoodIn lw_all lw_all := fun w h => ⟨h, good_of_word (List.mem_filter.mp h).2⟩
/-- a class's field words, by their places -/
theorem lw_in (ws : List Cond) (ps : List Nat) (hp : ws = ps.filterMap (fun i => lw_tbl[i]?)) (hg : ws.all goodWord = true) : ∀ w ∈ ws, w ∈ lw_all := by
  intro w h
  have h1 := List.all_eq_true.mp hg w h
  rw [hp] at h
  obtain ⟨i, -, hi⟩ := List.mem_filterMap.mp h
  exact lw_w i hi h1
/-- the words of a contract for the method y with code b, L locals, answer r -/
abbrev ws_ (y : MethodName) (b : ByteArray) (L : Nat) (r : Option FieldType) : List Cond := Cond.code y b L r :: lw_all
theorem lw_meth {y : MethodName} {b : ByteArray} {L : Nat} {r : Option FieldType} (h : Cond.code y b L r ∈ lw_all) : GoodIn lw_all (ws_ y b L r) := by
  intro w hw
  rcases List.mem_cons.mp hw with e | e
  · rw [e]
    exact lw_self _ h
  · exact lw_self _ e
theorem lw_app {a c : List Cond} (ha : ∀ w ∈ a, w ∈ lw_all) (hc : GoodIn lw_all c) : GoodIn lw_all (a ++ c) := by
  intro w hw
  rcases List.mem_append.mp hw with e | e
  · exact lw_self w (ha w e)
  · exact hc w e
/-- what a call through an object asks: cwV n hts (lw_V ..) -/
theorem lw_V {own : String} {idx : Nat} {C : String} {y : MethodName} {b : ByteArray} {L : Nat} {r : Option FieldType} (h1 : Cond.methodLink own idx y ∈ lw_all) (h2 : Cond.instanceMethod y ∈ lw_all) (h3 : Cond.selects C y y ∈ lw_all) (h4 : Cond.initialized C ∈ lw_all) (h5 : Cond.code y b L r ∈ lw_all) : GoodIn lw_all (wsV own idx C y (ws_ y b L r)) := by
  refine lw_app ?_ (lw_meth h5)
  intro w hw
  simp only [List.mem_cons, List.not_mem_nil, or_false] at hw
  rcases hw with e | e | e | e
  · rw [e]; exact h1
  · rw [e]; exact h2
  · rw [e]; exact h3
  · rw [e]; exact h4
/-- what a static call asks: va_cwS n hts (lw_S ..) -/
theorem lw_S {own : String} {idx : Nat} {y : MethodName} {b : ByteArray} {L : Nat} {r : Option FieldType} (h1 : Cond.methodLink own idx y ∈ lw_all) (h2 : Cond.static y ∈ lw_all) (h3 : Cond.initialized y.cls ∈ lw_all) (h4 : Cond.code y b L r ∈ lw_all) : GoodIn lw_all (va_wsS own idx y (ws_ y b L r)) := by
  refine lw_app ?_ (lw_meth h4)
  intro w hw
  simp only [List.mem_cons, List.not_mem_nil, or_false] at hw
  rcases hw with e | e | e
  · rw [e]; exact h1
  · rw [e]; exact h2
  · rw [e]; exact h3
/-- the words of a contract for a method WITH HANDLERS (hh: its table) -/
abbrev wsW_ (y : MethodName) (b : ByteArray) (L : Nat) (r : Option FieldType) (hh : List (Nat × Nat × Nat × Nat)) : List Cond := Cond.codeWith y b L r hh :: lw_all
theorem lw_methW {y : MethodName} {b : ByteArray} {L : Nat} {r : Option FieldType} {hh : List (Nat × Nat × Nat × Nat)} (h : Cond.codeWith y b L r hh ∈ lw_all) : GoodIn lw_all (wsW_ y b L r hh) := by
  intro w hw
  rcases List.mem_cons.mp hw with e | e
  · rw [e]
    exact lw_self _ h
  · exact lw_self _ e
/-- any list of words by their places (lw_in), good -/
theorem lw_good {ws : List Cond} (h : ∀ w ∈ ws, w ∈ lw_all) : GoodIn lw_all ws := fun w hw => lw_self w (h w hw)
/-- what a call of a method with handlers asks: vx_cwVW n hts (lw_VW ..), vx_cwSW n hts (lw_SW ..) -/
theorem lw_VW {own : String} {idx : Nat} {C : String} {y : MethodName} {b : ByteArray} {L : Nat} {r : Option FieldType} {hh : List (Nat × Nat × Nat × Nat)} (h1 : Cond.methodLink own idx y ∈ lw_all) (h2 : Cond.instanceMethod y ∈ lw_all) (h3 : Cond.selects C y y ∈ lw_all) (h4 : Cond.initialized C ∈ lw_all) (h5 : Cond.codeWith y b L r hh ∈ lw_all) : GoodIn lw_all (wsV own idx C y (wsW_ y b L r hh)) := by
  refine lw_app ?_ (lw_methW h5)
  intro w hw
  simp only [List.mem_cons, List.not_mem_nil, or_false] at hw
  rcases hw with e | e | e | e
  · rw [e]; exact h1
  · rw [e]; exact h2
  · rw [e]; exact h3
  · rw [e]; exact h4
theorem lw_SW {own : String} {idx : Nat} {y : MethodName} {b : ByteArray} {L : Nat} {r : Option FieldType} {hh : List (Nat × Nat × Nat × Nat)} (h1 : Cond.methodLink own idx y ∈ lw_all) (h2 : Cond.static y ∈ lw_all) (h3 : Cond.initialized y.cls ∈ lw_all) (h4 : Cond.codeWith y b L r hh ∈ lw_all) : GoodIn lw_all (va_wsS own idx y (wsW_ y b L r hh)) := by
  refine lw_app ?_ (lw_methW h4)
  intro w hw
  simp only [List.mem_cons, List.not_mem_nil, or_false] at hw
  rcases hw with e | e | e
  · rw [e]; exact h1
  · rw [e]; exact h2
  · rw [e]; exact h3
/-- a word by its place in its run of the tables -/
theorem lw_at {r : List Cond} (hr : ∀ w ∈ r, w ∈ lw_tbl) {w : Cond} (i : Nat) (h : r[i]? = some w) : w ∈ lw_tbl := hr w (List.mem_of_getElem? h)
theorem lw_g {w : Cond} (h : w ∈ lw_tbl) (g : goodWord w = true) : w ∈ lw_all := List.mem_filter.mpr ⟨h, g⟩
theorem lw_ms : ∀ w ∈ k2_sels lw_privs, w ∈ lw_tbl := fun w h => show w ∈ k2_sels lw_privs ++ tables_1 from List.mem_append_left _ h
theorem lw_m1 : ∀ w ∈ tables_1_1, w ∈ lw_tbl := fun w h => show w ∈ k2_sels lw_privs ++ tables_1 from List.mem_append_right (k2_sels lw_privs) (show w ∈ tables_1 from List.mem_append_left _ h)
theorem lw_m2 : ∀ w ∈ tables_1_2, w ∈ lw_tbl := fun w h => show w ∈ k2_sels lw_privs ++ tables_1 from List.mem_append_right (k2_sels lw_privs) (show w ∈ tables_1 from List.mem_append_right _ h)
theorem qs0 : (Cond.selects "RankRuns" ⟨"RankRuns", "merge", "(II)V"⟩ ⟨"RankRuns", "merge", "(II)V"⟩) ∈ lw_all := lw_g (lw_at lw_ms 0 rfl) rfl
theorem qs1 : (Cond.selects "RankRuns" ⟨"RankRuns", "keep", "(III)V"⟩ ⟨"RankRuns", "keep", "(III)V"⟩) ∈ lw_all := lw_g (lw_at lw_ms 1 rfl) rfl
theorem qs2 : (Cond.selects "RankRuns" ⟨"RankRuns", "livingIn", "(II)I"⟩ ⟨"RankRuns", "livingIn", "(II)I"⟩) ∈ lw_all := lw_g (lw_at lw_ms 2 rfl) rfl
theorem qs3 : (Cond.selects "RankRuns" ⟨"RankRuns", "gather", "()V"⟩ ⟨"RankRuns", "gather", "()V"⟩) ∈ lw_all := lw_g (lw_at lw_ms 3 rfl) rfl
theorem qs4 : (Cond.selects "RankRuns" ⟨"RankRuns", "below", "(J)I"⟩ ⟨"RankRuns", "below", "(J)I"⟩) ∈ lw_all := lw_g (lw_at lw_ms 4 rfl) rfl
theorem qs5 : (Cond.selects "RankRuns" ⟨"RankRuns", "search", "(IJ)I"⟩ ⟨"RankRuns", "search", "(IJ)I"⟩) ∈ lw_all := lw_g (lw_at lw_ms 5 rfl) rfl
theorem qs6 : (Cond.selects "RankRuns" ⟨"RankRuns", "livingBefore", "(II)I"⟩ ⟨"RankRuns", "livingBefore", "(II)I"⟩) ∈ lw_all := lw_g (lw_at lw_ms 6 rfl) rfl
theorem qs7 : (Cond.selects "RankRunsModel" ⟨"RankRunsModel", "join", "(I)V"⟩ ⟨"RankRunsModel", "join", "(I)V"⟩) ∈ lw_all := lw_g (lw_at lw_ms 7 rfl) rfl
theorem qs8 : (Cond.selects "RankRunsModel" ⟨"RankRunsModel", "leave", "(I)V"⟩ ⟨"RankRunsModel", "leave", "(I)V"⟩) ∈ lw_all := lw_g (lw_at lw_ms 8 rfl) rfl
theorem qs9 : (Cond.selects "RankRunsModel" ⟨"RankRunsModel", "build", "()I"⟩ ⟨"RankRunsModel", "build", "()I"⟩) ∈ lw_all := lw_g (lw_at lw_ms 9 rfl) rfl
theorem qs10 : (Cond.selects "RankRunsModel" ⟨"RankRunsModel", "before", "(J)I"⟩ ⟨"RankRunsModel", "before", "(J)I"⟩) ∈ lw_all := lw_g (lw_at lw_ms 10 rfl) rfl
theorem qs11 : (Cond.selects "RankRunsModel" ⟨"RankRunsModel", "isPlace", "(I)Z"⟩ ⟨"RankRunsModel", "isPlace", "(I)Z"⟩) ∈ lw_all := lw_g (lw_at lw_ms 11 rfl) rfl
end
section
/-! RankRuns -/
set_option maxRecDepth 100000
def RX1 : String := "RankRuns"
def TX1 : u_T := fun k => match k with
  | 0 => ("RankRuns", "arena", "[I", true)
  | 1 => ("RankRuns", "dead", "[Z", true)
  | 2 => ("RankRuns", "runLen", "[I", true)
  | 3 => ("RankRuns", "tmp", "[I", true)
  | 4 => ("RankRuns", "tmpDead", "[Z", true)
  | 5 => ("RankRuns", "cap", "I", true)
  | 6 => ("RankRuns", "live", "I", false)
  | 7 => ("RankRuns", "total", "I", false)
  | 8 => ("RankRuns", "probes", "I", false)
  | _ => ("RankRuns", "moves", "I", false)
def tyX1 : Nat → FieldType := fun k => match k with
  | 0 => .array .int
  | 1 => .array .boolean
  | 2 => .array .int
  | 3 => .array .int
  | 4 => .array .boolean
  | 5 => .int
  | 6 => .int
  | 7 => .int
  | 8 => .int
  | _ => .int
abbrev wsX10 : List Cond := u_ws RX1 TX1 10
theorem nmX1 : ∀ a, a < 10 → ∀ b, b < 10 → a ≠ b → (TX1 a).2.1 ≠ (TX1 b).2.1 := by decide +kernel
theorem tyX1_ok : ∀ k, k < 10 → parseFieldDescriptor (TX1 k).2.2.1 = some (tyX1 k) := by decide +kernel
abbrev cX1_init : ByteArray := prog_1_method_1_code
def yX1_init : MethodName := ⟨RX1, "<init>", "(I)V"⟩
abbrev cX1_insert : ByteArray := prog_1_method_5_code
def yX1_insert : MethodName := ⟨RX1, "insert", "(I)I"⟩
abbrev cX1_merge : ByteArray := prog_1_method_3_code
def yX1_merge : MethodName := ⟨RX1, "merge", "(II)V"⟩
abbrev cX1_startOf : ByteArray := prog_1_method_2_code
def yX1_startOf : MethodName := ⟨RX1, "startOf", "(I)I"⟩
abbrev cX1_keep : ByteArray := prog_1_method_4_code
def yX1_keep : MethodName := ⟨RX1, "keep", "(III)V"⟩
abbrev cX1_remove : ByteArray := prog_1_method_7_code
def yX1_remove : MethodName := ⟨RX1, "remove", "(I)Z"⟩
abbrev cX1_livingIn : ByteArray := prog_1_method_6_code
def yX1_livingIn : MethodName := ⟨RX1, "livingIn", "(II)I"⟩
abbrev cX1_rebuild : ByteArray := prog_1_method_9_code
def yX1_rebuild : MethodName := ⟨RX1, "rebuild", "()I"⟩
abbrev cX1_gather : ByteArray := prog_1_method_8_code
def yX1_gather : MethodName := ⟨RX1, "gather", "()V"⟩
abbrev cX1_count : ByteArray := prog_1_method_13_code
def yX1_count : MethodName := ⟨RX1, "count", "(I)I"⟩
abbrev cX1_below : ByteArray := prog_1_method_12_code
def yX1_below : MethodName := ⟨RX1, "below", "(J)I"⟩
abbrev cX1_search : ByteArray := prog_1_method_10_code
def yX1_search : MethodName := ⟨RX1, "search", "(IJ)I"⟩
abbrev cX1_livingBefore : ByteArray := prog_1_method_11_code
def yX1_livingBefore : MethodName := ⟨RX1, "livingBefore", "(II)I"⟩
abbrev cX1_rank : ByteArray := prog_1_method_14_code
def yX1_rank : MethodName := ⟨RX1, "rank", "(I)I"⟩
abbrev cX1_select : ByteArray := prog_1_method_15_code
def yX1_select : MethodName := ⟨RX1, "select", "(I)I"⟩
abbrev cX1_has : ByteArray := prog_1_method_16_code
def yX1_has : MethodName := ⟨RX1, "has", "(I)Z"⟩
abbrev cX1_pred : ByteArray := prog_1_method_17_code
def yX1_pred : MethodName := ⟨RX1, "pred", "(I)I"⟩
abbrev cX1_succ : ByteArray := prog_1_method_18_code
def yX1_succ : MethodName := ⟨RX1, "succ", "(I)I"⟩
abbrev cX1_rangeCount : ByteArray := prog_1_method_19_code
def yX1_rangeCount : MethodName := ⟨RX1, "rangeCount", "(II)I"⟩
abbrev cX1_size : ByteArray := prog_1_method_20_code
def yX1_size : MethodName := ⟨RX1, "size", "()I"⟩
abbrev cX1_movesMade : ByteArray := prog_1_method_21_code
def yX1_movesMade : MethodName := ⟨RX1, "movesMade", "()I"⟩
abbrev cX1_probesLast : ByteArray := prog_1_method_22_code
def yX1_probesLast : MethodName := ⟨RX1, "probesLast", "()I"⟩
abbrev cX1_cellsOf : ByteArray := prog_1_method_23_code
def yX1_cellsOf : MethodName := ⟨RX1, "cellsOf", "(I)I"⟩
abbrev cX1_cell : ByteArray := prog_1_method_24_code
def yX1_cell : MethodName := ⟨RX1, "cell", "(II)I"⟩
theorem q13 : (Jvm.Cond.initialized "RankRuns") ∈ lw_all := lw_g (lw_at lw_m1 1 rfl) rfl
theorem q16 : (Jvm.Cond.instantiable "RankRuns" (10 : Nat)) ∈ lw_all := lw_g (lw_at lw_m1 4 rfl) rfl
theorem q18 : (Jvm.Cond.instanceMethod ({ cls := "RankRuns", name := "<init>", desc := "(I)V" } : Jvm.MethodName)) ∈ lw_all := lw_g (lw_at lw_m1 6 rfl) rfl
theorem q19 : (Jvm.Cond.code ({ cls := "RankRuns", name := "<init>", desc := "(I)V" } : Jvm.MethodName) prog_1_method_1_code (2 : Nat) (Option.none : Option Jvm.ClassFile.FieldType)) ∈ lw_all := lw_g (lw_at lw_m1 7 rfl) rfl
theorem q20 : (Jvm.Cond.methodLink "RankRuns" (1 : Nat) ({ cls := "java/lang/Object", name := "<init>", desc := "()V" } : Jvm.MethodName)) ∈ lw_all := lw_g (lw_at lw_m1 8 rfl) rfl
theorem q23 : (Jvm.Cond.fieldLink "RankRuns" (7 : Nat) "RankRuns" "arena" "[I") ∈ lw_all := lw_g (lw_at lw_m1 11 rfl) rfl
theorem q24 : (Jvm.Cond.fieldLink "RankRuns" (13 : Nat) "RankRuns" "dead" "[Z") ∈ lw_all := lw_g (lw_at lw_m1 12 rfl) rfl
theorem q25 : (Jvm.Cond.fieldLink "RankRuns" (17 : Nat) "RankRuns" "runLen" "[I") ∈ lw_all := lw_g (lw_at lw_m1 13 rfl) rfl
theorem q26 : (Jvm.Cond.fieldLink "RankRuns" (20 : Nat) "RankRuns" "tmp" "[I") ∈ lw_all := lw_g (lw_at lw_m1 14 rfl) rfl
theorem q27 : (Jvm.Cond.fieldLink "RankRuns" (23 : Nat) "RankRuns" "tmpDead" "[Z") ∈ lw_all := lw_g (lw_at lw_m1 15 rfl) rfl
theorem q28 : (Jvm.Cond.fieldLink "RankRuns" (26 : Nat) "RankRuns" "cap" "I") ∈ lw_all := lw_g (lw_at lw_m1 16 rfl) rfl
theorem q29 : (Jvm.Cond.fieldLink "RankRuns" (37 : Nat) "RankRuns" "live" "I") ∈ lw_all := lw_g (lw_at lw_m1 17 rfl) rfl
theorem q30 : (Jvm.Cond.fieldLink "RankRuns" (48 : Nat) "RankRuns" "total" "I") ∈ lw_all := lw_g (lw_at lw_m1 18 rfl) rfl
theorem q31 : (Jvm.Cond.fieldLink "RankRuns" (62 : Nat) "RankRuns" "probes" "I") ∈ lw_all := lw_g (lw_at lw_m1 19 rfl) rfl
theorem q32 : (Jvm.Cond.fieldLink "RankRuns" (34 : Nat) "RankRuns" "moves" "I") ∈ lw_all := lw_g (lw_at lw_m1 20 rfl) rfl
theorem q33 : (Jvm.Cond.laysFinal "RankRuns" "RankRuns" "arena" "[I") ∈ lw_all := lw_g (lw_at lw_m1 21 rfl) rfl
theorem q34 : (Jvm.Cond.soleField "RankRuns" "arena") ∈ lw_all := lw_g (lw_at lw_m1 22 rfl) rfl
theorem q35 : (Jvm.Cond.laysFinal "RankRuns" "RankRuns" "dead" "[Z") ∈ lw_all := lw_g (lw_at lw_m1 23 rfl) rfl
theorem q36 : (Jvm.Cond.soleField "RankRuns" "dead") ∈ lw_all := lw_g (lw_at lw_m1 24 rfl) rfl
theorem q37 : (Jvm.Cond.laysFinal "RankRuns" "RankRuns" "runLen" "[I") ∈ lw_all := lw_g (lw_at lw_m1 25 rfl) rfl
theorem q38 : (Jvm.Cond.soleField "RankRuns" "runLen") ∈ lw_all := lw_g (lw_at lw_m1 26 rfl) rfl
theorem q39 : (Jvm.Cond.laysFinal "RankRuns" "RankRuns" "tmp" "[I") ∈ lw_all := lw_g (lw_at lw_m1 27 rfl) rfl
theorem q40 : (Jvm.Cond.soleField "RankRuns" "tmp") ∈ lw_all := lw_g (lw_at lw_m1 28 rfl) rfl
theorem q41 : (Jvm.Cond.laysFinal "RankRuns" "RankRuns" "tmpDead" "[Z") ∈ lw_all := lw_g (lw_at lw_m1 29 rfl) rfl
theorem q42 : (Jvm.Cond.soleField "RankRuns" "tmpDead") ∈ lw_all := lw_g (lw_at lw_m1 30 rfl) rfl
theorem q43 : (Jvm.Cond.laysFinal "RankRuns" "RankRuns" "cap" "I") ∈ lw_all := lw_g (lw_at lw_m1 31 rfl) rfl
theorem q44 : (Jvm.Cond.soleField "RankRuns" "cap") ∈ lw_all := lw_g (lw_at lw_m1 32 rfl) rfl
theorem q45 : (Jvm.Cond.lays "RankRuns" "RankRuns" "live" "I") ∈ lw_all := lw_g (lw_at lw_m1 33 rfl) rfl
theorem q46 : (Jvm.Cond.soleField "RankRuns" "live") ∈ lw_all := lw_g (lw_at lw_m1 34 rfl) rfl
theorem q47 : (Jvm.Cond.lays "RankRuns" "RankRuns" "total" "I") ∈ lw_all := lw_g (lw_at lw_m1 35 rfl) rfl
theorem q48 : (Jvm.Cond.soleField "RankRuns" "total") ∈ lw_all := lw_g (lw_at lw_m1 36 rfl) rfl
theorem q49 : (Jvm.Cond.lays "RankRuns" "RankRuns" "probes" "I") ∈ lw_all := lw_g (lw_at lw_m1 37 rfl) rfl
theorem q50 : (Jvm.Cond.soleField "RankRuns" "probes") ∈ lw_all := lw_g (lw_at lw_m1 38 rfl) rfl
theorem q51 : (Jvm.Cond.lays "RankRuns" "RankRuns" "moves" "I") ∈ lw_all := lw_g (lw_at lw_m1 39 rfl) rfl
theorem q52 : (Jvm.Cond.soleField "RankRuns" "moves") ∈ lw_all := lw_g (lw_at lw_m1 40 rfl) rfl
theorem q53 : (Jvm.Cond.superclass "RankRuns" "java/lang/Object") ∈ lw_all := lw_g (lw_at lw_m1 41 rfl) rfl
theorem q57 : (Jvm.Cond.instanceMethod ({ cls := "RankRuns", name := "insert", desc := "(I)I" } : Jvm.MethodName)) ∈ lw_all := lw_g (lw_at lw_m1 45 rfl) rfl
theorem q58 : (Jvm.Cond.selects "RankRuns" ({ cls := "RankRuns", name := "insert", desc := "(I)I" } : Jvm.MethodName) ({ cls := "RankRuns", name := "insert", desc := "(I)I" } : Jvm.MethodName)) ∈ lw_all := lw_g (lw_at lw_m1 46 rfl) rfl
theorem q59 : (Jvm.Cond.code ({ cls := "RankRuns", name := "insert", desc := "(I)I" } : Jvm.MethodName) prog_1_method_5_code (4 : Nat) (Option.some Jvm.ClassFile.FieldType.int)) ∈ lw_all := lw_g (lw_at lw_m1 47 rfl) rfl
theorem q60 : (Jvm.Cond.methodLink "RankRuns" (40 : Nat) ({ cls := "RankRuns", name := "merge", desc := "(II)V" } : Jvm.MethodName)) ∈ lw_all := lw_g (lw_at lw_m1 48 rfl) rfl
theorem q61 : (Jvm.Cond.privateMethod ({ cls := "RankRuns", name := "merge", desc := "(II)V" } : Jvm.MethodName)) ∈ lw_tbl := lw_at lw_m1 49 rfl
theorem q62 : (Jvm.Cond.instanceMethod ({ cls := "RankRuns", name := "merge", desc := "(II)V" } : Jvm.MethodName)) ∈ lw_all := lw_g (lw_at lw_m1 50 rfl) rfl
theorem q63 : (Jvm.Cond.code ({ cls := "RankRuns", name := "merge", desc := "(II)V" } : Jvm.MethodName) prog_1_method_3_code (8 : Nat) (Option.none : Option Jvm.ClassFile.FieldType)) ∈ lw_all := lw_g (lw_at lw_m1 51 rfl) rfl
theorem q64 : (Jvm.Cond.methodLink "RankRuns" (30 : Nat) ({ cls := "RankRuns", name := "startOf", desc := "(I)I" } : Jvm.MethodName)) ∈ lw_all := lw_g (lw_at lw_m1 52 rfl) rfl
theorem q65 : (Jvm.Cond.static ({ cls := "RankRuns", name := "startOf", desc := "(I)I" } : Jvm.MethodName)) ∈ lw_all := lw_g (lw_at lw_m1 53 rfl) rfl
theorem q66 : (Jvm.Cond.code ({ cls := "RankRuns", name := "startOf", desc := "(I)I" } : Jvm.MethodName) prog_1_method_2_code (1 : Nat) (Option.some Jvm.ClassFile.FieldType.int)) ∈ lw_all := lw_g (lw_at lw_m1 54 rfl) rfl
theorem q67 : (Jvm.Cond.methodLink "RankRuns" (44 : Nat) ({ cls := "RankRuns", name := "keep", desc := "(III)V" } : Jvm.MethodName)) ∈ lw_all := lw_g (lw_at lw_m1 55 rfl) rfl
theorem q68 : (Jvm.Cond.privateMethod ({ cls := "RankRuns", name := "keep", desc := "(III)V" } : Jvm.MethodName)) ∈ lw_tbl := lw_at lw_m1 56 rfl
theorem q69 : (Jvm.Cond.instanceMethod ({ cls := "RankRuns", name := "keep", desc := "(III)V" } : Jvm.MethodName)) ∈ lw_all := lw_g (lw_at lw_m1 57 rfl) rfl
theorem q70 : (Jvm.Cond.code ({ cls := "RankRuns", name := "keep", desc := "(III)V" } : Jvm.MethodName) prog_1_method_4_code (5 : Nat) (Option.none : Option Jvm.ClassFile.FieldType)) ∈ lw_all := lw_g (lw_at lw_m1 58 rfl) rfl
theorem q72 : (Jvm.Cond.instanceMethod ({ cls := "RankRuns", name := "remove", desc := "(I)Z" } : Jvm.MethodName)) ∈ lw_all := lw_g (lw_at lw_m1 60 rfl) rfl
theorem q73 : (Jvm.Cond.selects "RankRuns" ({ cls := "RankRuns", name := "remove", desc := "(I)Z" } : Jvm.MethodName) ({ cls := "RankRuns", name := "remove", desc := "(I)Z" } : Jvm.MethodName)) ∈ lw_all := lw_g (lw_at lw_m1 61 rfl) rfl
theorem q74 : (Jvm.Cond.code ({ cls := "RankRuns", name := "remove", desc := "(I)Z" } : Jvm.MethodName) prog_1_method_7_code (4 : Nat) (Option.some Jvm.ClassFile.FieldType.boolean)) ∈ lw_all := lw_g (lw_at lw_m1 62 rfl) rfl
theorem q75 : (Jvm.Cond.methodLink "RankRuns" (51 : Nat) ({ cls := "RankRuns", name := "livingIn", desc := "(II)I" } : Jvm.MethodName)) ∈ lw_all := lw_g (lw_at lw_m1 63 rfl) rfl
theorem q76 : (Jvm.Cond.privateMethod ({ cls := "RankRuns", name := "livingIn", desc := "(II)I" } : Jvm.MethodName)) ∈ lw_tbl := lw_at lw_m1 64 rfl
theorem q77 : (Jvm.Cond.instanceMethod ({ cls := "RankRuns", name := "livingIn", desc := "(II)I" } : Jvm.MethodName)) ∈ lw_all := lw_g (lw_at lw_m1 65 rfl) rfl
theorem q78 : (Jvm.Cond.code ({ cls := "RankRuns", name := "livingIn", desc := "(II)I" } : Jvm.MethodName) prog_1_method_6_code (4 : Nat) (Option.some Jvm.ClassFile.FieldType.int)) ∈ lw_all := lw_g (lw_at lw_m1 66 rfl) rfl
theorem q79 : (Jvm.Cond.methodLink "RankRuns" (55 : Nat) ({ cls := "RankRuns", name := "rebuild", desc := "()I" } : Jvm.MethodName)) ∈ lw_all := lw_g (lw_at lw_m1 67 rfl) rfl
theorem q80 : (Jvm.Cond.instanceMethod ({ cls := "RankRuns", name := "rebuild", desc := "()I" } : Jvm.MethodName)) ∈ lw_all := lw_g (lw_at lw_m1 68 rfl) rfl
theorem q81 : (Jvm.Cond.selects "RankRuns" ({ cls := "RankRuns", name := "rebuild", desc := "()I" } : Jvm.MethodName) ({ cls := "RankRuns", name := "rebuild", desc := "()I" } : Jvm.MethodName)) ∈ lw_all := lw_g (lw_at lw_m1 69 rfl) rfl
theorem q82 : (Jvm.Cond.code ({ cls := "RankRuns", name := "rebuild", desc := "()I" } : Jvm.MethodName) prog_1_method_9_code (4 : Nat) (Option.some Jvm.ClassFile.FieldType.int)) ∈ lw_all := lw_g (lw_at lw_m1 70 rfl) rfl
theorem q83 : (Jvm.Cond.methodLink "RankRuns" (59 : Nat) ({ cls := "RankRuns", name := "gather", desc := "()V" } : Jvm.MethodName)) ∈ lw_all := lw_g (lw_at lw_m1 71 rfl) rfl
theorem q84 : (Jvm.Cond.privateMethod ({ cls := "RankRuns", name := "gather", desc := "()V" } : Jvm.MethodName)) ∈ lw_tbl := lw_at lw_m1 72 rfl
theorem q85 : (Jvm.Cond.instanceMethod ({ cls := "RankRuns", name := "gather", desc := "()V" } : Jvm.MethodName)) ∈ lw_all := lw_g (lw_at lw_m1 73 rfl) rfl
theorem q86 : (Jvm.Cond.code ({ cls := "RankRuns", name := "gather", desc := "()V" } : Jvm.MethodName) prog_1_method_8_code (5 : Nat) (Option.none : Option Jvm.ClassFile.FieldType)) ∈ lw_all := lw_g (lw_at lw_m1 74 rfl) rfl
theorem q89 : (Jvm.Cond.instanceMethod ({ cls := "RankRuns", name := "count", desc := "(I)I" } : Jvm.MethodName)) ∈ lw_all := lw_g (lw_at lw_m1 77 rfl) rfl
theorem q90 : (Jvm.Cond.selects "RankRuns" ({ cls := "RankRuns", name := "count", desc := "(I)I" } : Jvm.MethodName) ({ cls := "RankRuns", name := "count", desc := "(I)I" } : Jvm.MethodName)) ∈ lw_all := lw_g (lw_at lw_m1 78 rfl) rfl
theorem q91 : (Jvm.Cond.code ({ cls := "RankRuns", name := "count", desc := "(I)I" } : Jvm.MethodName) prog_1_method_13_code (3 : Nat) (Option.some Jvm.ClassFile.FieldType.int)) ∈ lw_all := lw_g (lw_at lw_m1 79 rfl) rfl
theorem q92 : (Jvm.Cond.methodLink "RankRuns" (72 : Nat) ({ cls := "RankRuns", name := "below", desc := "(J)I" } : Jvm.MethodName)) ∈ lw_all := lw_g (lw_at lw_m1 80 rfl) rfl
theorem q93 : (Jvm.Cond.privateMethod ({ cls := "RankRuns", name := "below", desc := "(J)I" } : Jvm.MethodName)) ∈ lw_tbl := lw_at lw_m1 81 rfl
theorem q94 : (Jvm.Cond.instanceMethod ({ cls := "RankRuns", name := "below", desc := "(J)I" } : Jvm.MethodName)) ∈ lw_all := lw_g (lw_at lw_m1 82 rfl) rfl
theorem q95 : (Jvm.Cond.code ({ cls := "RankRuns", name := "below", desc := "(J)I" } : Jvm.MethodName) prog_1_method_12_code (5 : Nat) (Option.some Jvm.ClassFile.FieldType.int)) ∈ lw_all := lw_g (lw_at lw_m1 83 rfl) rfl
theorem q96 : (Jvm.Cond.methodLink "RankRuns" (65 : Nat) ({ cls := "RankRuns", name := "search", desc := "(IJ)I" } : Jvm.MethodName)) ∈ lw_all := lw_g (lw_at lw_m1 84 rfl) rfl
theorem q97 : (Jvm.Cond.privateMethod ({ cls := "RankRuns", name := "search", desc := "(IJ)I" } : Jvm.MethodName)) ∈ lw_tbl := lw_at lw_m1 85 rfl
theorem q98 : (Jvm.Cond.instanceMethod ({ cls := "RankRuns", name := "search", desc := "(IJ)I" } : Jvm.MethodName)) ∈ lw_all := lw_g (lw_at lw_m1 86 rfl) rfl
theorem q99 : (Jvm.Cond.code ({ cls := "RankRuns", name := "search", desc := "(IJ)I" } : Jvm.MethodName) prog_1_method_10_code (7 : Nat) (Option.some Jvm.ClassFile.FieldType.int)) ∈ lw_all := lw_g (lw_at lw_m1 87 rfl) rfl
theorem q100 : (Jvm.Cond.methodLink "RankRuns" (69 : Nat) ({ cls := "RankRuns", name := "livingBefore", desc := "(II)I" } : Jvm.MethodName)) ∈ lw_all := lw_g (lw_at lw_m1 88 rfl) rfl
theorem q101 : (Jvm.Cond.privateMethod ({ cls := "RankRuns", name := "livingBefore", desc := "(II)I" } : Jvm.MethodName)) ∈ lw_tbl := lw_at lw_m1 89 rfl
theorem q102 : (Jvm.Cond.instanceMethod ({ cls := "RankRuns", name := "livingBefore", desc := "(II)I" } : Jvm.MethodName)) ∈ lw_all := lw_g (lw_at lw_m1 90 rfl) rfl
theorem q103 : (Jvm.Cond.code ({ cls := "RankRuns", name := "livingBefore", desc := "(II)I" } : Jvm.MethodName) prog_1_method_11_code (5 : Nat) (Option.some Jvm.ClassFile.FieldType.int)) ∈ lw_all := lw_g (lw_at lw_m1 91 rfl) rfl
theorem q105 : (Jvm.Cond.instanceMethod ({ cls := "RankRuns", name := "rank", desc := "(I)I" } : Jvm.MethodName)) ∈ lw_all := lw_g (lw_at lw_m1 93 rfl) rfl
theorem q106 : (Jvm.Cond.selects "RankRuns" ({ cls := "RankRuns", name := "rank", desc := "(I)I" } : Jvm.MethodName) ({ cls := "RankRuns", name := "rank", desc := "(I)I" } : Jvm.MethodName)) ∈ lw_all := lw_g (lw_at lw_m1 94 rfl) rfl
theorem q107 : (Jvm.Cond.code ({ cls := "RankRuns", name := "rank", desc := "(I)I" } : Jvm.MethodName) prog_1_method_14_code (2 : Nat) (Option.some Jvm.ClassFile.FieldType.int)) ∈ lw_all := lw_g (lw_at lw_m1 95 rfl) rfl
theorem q109 : (Jvm.Cond.instanceMethod ({ cls := "RankRuns", name := "select", desc := "(I)I" } : Jvm.MethodName)) ∈ lw_all := lw_g (lw_at lw_m1 97 rfl) rfl
theorem q110 : (Jvm.Cond.selects "RankRuns" ({ cls := "RankRuns", name := "select", desc := "(I)I" } : Jvm.MethodName) ({ cls := "RankRuns", name := "select", desc := "(I)I" } : Jvm.MethodName)) ∈ lw_all := lw_g (lw_at lw_m1 98 rfl) rfl
theorem q111 : (Jvm.Cond.code ({ cls := "RankRuns", name := "select", desc := "(I)I" } : Jvm.MethodName) prog_1_method_15_code (8 : Nat) (Option.some Jvm.ClassFile.FieldType.int)) ∈ lw_all := lw_g (lw_at lw_m1 99 rfl) rfl
theorem q112 : (Jvm.Cond.constantLong "RankRuns" (76 : Nat) (-2147483648 : Int64)) ∈ lw_all := lw_g (lw_at lw_m1 100 rfl) rfl
theorem q113 : (Jvm.Cond.constantLong "RankRuns" (78 : Nat) (2147483647 : Int64)) ∈ lw_all := lw_g (lw_at lw_m1 101 rfl) rfl
theorem q115 : (Jvm.Cond.instanceMethod ({ cls := "RankRuns", name := "has", desc := "(I)Z" } : Jvm.MethodName)) ∈ lw_all := lw_g (lw_at lw_m1 103 rfl) rfl
theorem q116 : (Jvm.Cond.selects "RankRuns" ({ cls := "RankRuns", name := "has", desc := "(I)Z" } : Jvm.MethodName) ({ cls := "RankRuns", name := "has", desc := "(I)Z" } : Jvm.MethodName)) ∈ lw_all := lw_g (lw_at lw_m1 104 rfl) rfl
theorem q117 : (Jvm.Cond.code ({ cls := "RankRuns", name := "has", desc := "(I)Z" } : Jvm.MethodName) prog_1_method_16_code (2 : Nat) (Option.some Jvm.ClassFile.FieldType.boolean)) ∈ lw_all := lw_g (lw_at lw_m1 105 rfl) rfl
theorem q119 : (Jvm.Cond.instanceMethod ({ cls := "RankRuns", name := "pred", desc := "(I)I" } : Jvm.MethodName)) ∈ lw_all := lw_g (lw_at lw_m1 107 rfl) rfl
theorem q120 : (Jvm.Cond.selects "RankRuns" ({ cls := "RankRuns", name := "pred", desc := "(I)I" } : Jvm.MethodName) ({ cls := "RankRuns", name := "pred", desc := "(I)I" } : Jvm.MethodName)) ∈ lw_all := lw_g (lw_at lw_m1 108 rfl) rfl
theorem q121 : (Jvm.Cond.code ({ cls := "RankRuns", name := "pred", desc := "(I)I" } : Jvm.MethodName) prog_1_method_17_code (2 : Nat) (Option.some Jvm.ClassFile.FieldType.int)) ∈ lw_all := lw_g (lw_at lw_m1 109 rfl) rfl
theorem q123 : (Jvm.Cond.instanceMethod ({ cls := "RankRuns", name := "succ", desc := "(I)I" } : Jvm.MethodName)) ∈ lw_all := lw_g (lw_at lw_m1 111 rfl) rfl
theorem q124 : (Jvm.Cond.selects "RankRuns" ({ cls := "RankRuns", name := "succ", desc := "(I)I" } : Jvm.MethodName) ({ cls := "RankRuns", name := "succ", desc := "(I)I" } : Jvm.MethodName)) ∈ lw_all := lw_g (lw_at lw_m1 112 rfl) rfl
theorem q125 : (Jvm.Cond.code ({ cls := "RankRuns", name := "succ", desc := "(I)I" } : Jvm.MethodName) prog_1_method_18_code (3 : Nat) (Option.some Jvm.ClassFile.FieldType.int)) ∈ lw_all := lw_g (lw_at lw_m1 113 rfl) rfl
theorem q127 : (Jvm.Cond.instanceMethod ({ cls := "RankRuns", name := "rangeCount", desc := "(II)I" } : Jvm.MethodName)) ∈ lw_all := lw_g (lw_at lw_m1 115 rfl) rfl
theorem q128 : (Jvm.Cond.selects "RankRuns" ({ cls := "RankRuns", name := "rangeCount", desc := "(II)I" } : Jvm.MethodName) ({ cls := "RankRuns", name := "rangeCount", desc := "(II)I" } : Jvm.MethodName)) ∈ lw_all := lw_g (lw_at lw_m1 116 rfl) rfl
theorem q129 : (Jvm.Cond.code ({ cls := "RankRuns", name := "rangeCount", desc := "(II)I" } : Jvm.MethodName) prog_1_method_19_code (4 : Nat) (Option.some Jvm.ClassFile.FieldType.int)) ∈ lw_all := lw_g (lw_at lw_m1 117 rfl) rfl
theorem q131 : (Jvm.Cond.instanceMethod ({ cls := "RankRuns", name := "size", desc := "()I" } : Jvm.MethodName)) ∈ lw_all := lw_g (lw_at lw_m1 119 rfl) rfl
theorem q132 : (Jvm.Cond.selects "RankRuns" ({ cls := "RankRuns", name := "size", desc := "()I" } : Jvm.MethodName) ({ cls := "RankRuns", name := "size", desc := "()I" } : Jvm.MethodName)) ∈ lw_all := lw_g (lw_at lw_m1 120 rfl) rfl
theorem q133 : (Jvm.Cond.code ({ cls := "RankRuns", name := "size", desc := "()I" } : Jvm.MethodName) prog_1_method_20_code (1 : Nat) (Option.some Jvm.ClassFile.FieldType.int)) ∈ lw_all := lw_g (lw_at lw_m1 121 rfl) rfl
theorem q135 : (Jvm.Cond.instanceMethod ({ cls := "RankRuns", name := "movesMade", desc := "()I" } : Jvm.MethodName)) ∈ lw_all := lw_g (lw_at lw_m1 123 rfl) rfl
theorem q136 : (Jvm.Cond.selects "RankRuns" ({ cls := "RankRuns", name := "movesMade", desc := "()I" } : Jvm.MethodName) ({ cls := "RankRuns", name := "movesMade", desc := "()I" } : Jvm.MethodName)) ∈ lw_all := lw_g (lw_at lw_m1 124 rfl) rfl
theorem q137 : (Jvm.Cond.code ({ cls := "RankRuns", name := "movesMade", desc := "()I" } : Jvm.MethodName) prog_1_method_21_code (1 : Nat) (Option.some Jvm.ClassFile.FieldType.int)) ∈ lw_all := lw_g (lw_at lw_m1 125 rfl) rfl
theorem q139 : (Jvm.Cond.instanceMethod ({ cls := "RankRuns", name := "probesLast", desc := "()I" } : Jvm.MethodName)) ∈ lw_all := lw_g (lw_at lw_m1 127 rfl) rfl
theorem q140 : (Jvm.Cond.selects "RankRuns" ({ cls := "RankRuns", name := "probesLast", desc := "()I" } : Jvm.MethodName) ({ cls := "RankRuns", name := "probesLast", desc := "()I" } : Jvm.MethodName)) ∈ lw_all := lw_g (lw_at lw_m1 128 rfl) rfl
theorem q141 : (Jvm.Cond.code ({ cls := "RankRuns", name := "probesLast", desc := "()I" } : Jvm.MethodName) prog_1_method_22_code (1 : Nat) (Option.some Jvm.ClassFile.FieldType.int)) ∈ lw_all := lw_g (lw_at lw_m1 129 rfl) rfl
theorem q143 : (Jvm.Cond.instanceMethod ({ cls := "RankRuns", name := "cellsOf", desc := "(I)I" } : Jvm.MethodName)) ∈ lw_all := lw_g (lw_at lw_m1 131 rfl) rfl
theorem q144 : (Jvm.Cond.selects "RankRuns" ({ cls := "RankRuns", name := "cellsOf", desc := "(I)I" } : Jvm.MethodName) ({ cls := "RankRuns", name := "cellsOf", desc := "(I)I" } : Jvm.MethodName)) ∈ lw_all := lw_g (lw_at lw_m1 132 rfl) rfl
theorem q145 : (Jvm.Cond.code ({ cls := "RankRuns", name := "cellsOf", desc := "(I)I" } : Jvm.MethodName) prog_1_method_23_code (2 : Nat) (Option.some Jvm.ClassFile.FieldType.int)) ∈ lw_all := lw_g (lw_at lw_m1 133 rfl) rfl
theorem q147 : (Jvm.Cond.instanceMethod ({ cls := "RankRuns", name := "cell", desc := "(II)I" } : Jvm.MethodName)) ∈ lw_all := lw_g (lw_at lw_m1 135 rfl) rfl
theorem q148 : (Jvm.Cond.selects "RankRuns" ({ cls := "RankRuns", name := "cell", desc := "(II)I" } : Jvm.MethodName) ({ cls := "RankRuns", name := "cell", desc := "(II)I" } : Jvm.MethodName)) ∈ lw_all := lw_g (lw_at lw_m1 136 rfl) rfl
theorem q149 : (Jvm.Cond.code ({ cls := "RankRuns", name := "cell", desc := "(II)I" } : Jvm.MethodName) prog_1_method_24_code (3 : Nat) (Option.some Jvm.ClassFile.FieldType.int)) ∈ lw_all := lw_g (lw_at lw_m1 137 rfl) rfl
theorem in_X1 : ∀ w ∈ wsX10, w ∈ lw_all := lw_in wsX10 [33, 35, 37, 39, 41, 43, 45, 47, 49, 51] (by decide +kernel) (by decide +kernel)
/-! RankRunsModel -/
def RX2 : String := "RankRunsModel"
def TX2 : u_T := fun k => match k with
  | 0 => ("RankRunsModel", "most", "I", true)
  | 1 => ("RankRunsModel", "value", "[I", true)
  | 2 => ("RankRunsModel", "isLive", "[Z", true)
  | 3 => ("RankRunsModel", "isThere", "[Z", true)
  | 4 => ("RankRunsModel", "carried", "[I", true)
  | 5 => ("RankRunsModel", "carriedLive", "[Z", true)
  | 6 => ("RankRunsModel", "spare", "[I", true)
  | 7 => ("RankRunsModel", "spareLive", "[Z", true)
  | 8 => ("RankRunsModel", "size", "I", false)
  | 9 => ("RankRunsModel", "dead", "I", false)
  | 10 => ("RankRunsModel", "moves", "I", false)
  | _ => ("RankRunsModel", "probes", "I", false)
def tyX2 : Nat → FieldType := fun k => match k with
  | 0 => .int
  | 1 => .array .int
  | 2 => .array .boolean
  | 3 => .array .boolean
  | 4 => .array .int
  | 5 => .array .boolean
  | 6 => .array .int
  | 7 => .array .boolean
  | 8 => .int
  | 9 => .int
  | 10 => .int
  | _ => .int
abbrev wsX20 : List Cond := u_ws RX2 TX2 12
theorem nmX2 : ∀ a, a < 12 → ∀ b, b < 12 → a ≠ b → (TX2 a).2.1 ≠ (TX2 b).2.1 := by decide +kernel
theorem tyX2_ok : ∀ k, k < 12 → parseFieldDescriptor (TX2 k).2.2.1 = some (tyX2 k) := by decide +kernel
abbrev cX2_init : ByteArray := prog_3_method_1_code
def yX2_init : MethodName := ⟨RX2, "<init>", "(I)V"⟩
abbrev cX2_insert : ByteArray := prog_3_method_3_code
def yX2_insert : MethodName := ⟨RX2, "insert", "(I)I"⟩
abbrev cX2_join : ByteArray := prog_3_method_5_code
def yX2_join : MethodName := ⟨RX2, "join", "(I)V"⟩
abbrev cX2_from : ByteArray := prog_3_method_2_code
def yX2_from : MethodName := ⟨RX2, "from", "(I)I"⟩
abbrev cX2_leave : ByteArray := prog_3_method_4_code
def yX2_leave : MethodName := ⟨RX2, "leave", "(I)V"⟩
abbrev cX2_remove : ByteArray := prog_3_method_6_code
def yX2_remove : MethodName := ⟨RX2, "remove", "(I)Z"⟩
abbrev cX2_build : ByteArray := prog_3_method_7_code
def yX2_build : MethodName := ⟨RX2, "build", "()I"⟩
abbrev cX2_count : ByteArray := prog_3_method_9_code
def yX2_count : MethodName := ⟨RX2, "count", "(I)I"⟩
abbrev cX2_before : ByteArray := prog_3_method_8_code
def yX2_before : MethodName := ⟨RX2, "before", "(J)I"⟩
abbrev cX2_rank : ByteArray := prog_3_method_10_code
def yX2_rank : MethodName := ⟨RX2, "rank", "(I)I"⟩
abbrev cX2_select : ByteArray := prog_3_method_12_code
def yX2_select : MethodName := ⟨RX2, "select", "(I)I"⟩
abbrev cX2_isPlace : ByteArray := prog_3_method_11_code
def yX2_isPlace : MethodName := ⟨RX2, "isPlace", "(I)Z"⟩
abbrev cX2_has : ByteArray := prog_3_method_13_code
def yX2_has : MethodName := ⟨RX2, "has", "(I)Z"⟩
abbrev cX2_pred : ByteArray := prog_3_method_14_code
def yX2_pred : MethodName := ⟨RX2, "pred", "(I)I"⟩
abbrev cX2_succ : ByteArray := prog_3_method_15_code
def yX2_succ : MethodName := ⟨RX2, "succ", "(I)I"⟩
abbrev cX2_rangeCount : ByteArray := prog_3_method_16_code
def yX2_rangeCount : MethodName := ⟨RX2, "rangeCount", "(II)I"⟩
abbrev cX2_size : ByteArray := prog_3_method_17_code
def yX2_size : MethodName := ⟨RX2, "size", "()I"⟩
abbrev cX2_rebuild : ByteArray := prog_3_method_18_code
def yX2_rebuild : MethodName := ⟨RX2, "rebuild", "()I"⟩
abbrev cX2_movesMade : ByteArray := prog_3_method_19_code
def yX2_movesMade : MethodName := ⟨RX2, "movesMade", "()I"⟩
abbrev cX2_probesLast : ByteArray := prog_3_method_20_code
def yX2_probesLast : MethodName := ⟨RX2, "probesLast", "()I"⟩
abbrev cX2_cellsOf : ByteArray := prog_3_method_21_code
def yX2_cellsOf : MethodName := ⟨RX2, "cellsOf", "(I)I"⟩
abbrev cX2_cell : ByteArray := prog_3_method_22_code
def yX2_cell : MethodName := ⟨RX2, "cell", "(II)I"⟩
theorem q14 : (Jvm.Cond.initialized "RankRunsModel") ∈ lw_all := lw_g (lw_at lw_m1 2 rfl) rfl
theorem q154 : (Jvm.Cond.instantiable "RankRunsModel" (12 : Nat)) ∈ lw_all := lw_g (lw_at lw_m1 142 rfl) rfl
theorem q156 : (Jvm.Cond.instanceMethod ({ cls := "RankRunsModel", name := "<init>", desc := "(I)V" } : Jvm.MethodName)) ∈ lw_all := lw_g (lw_at lw_m1 144 rfl) rfl
theorem q157 : (Jvm.Cond.code ({ cls := "RankRunsModel", name := "<init>", desc := "(I)V" } : Jvm.MethodName) prog_3_method_1_code (2 : Nat) (Option.none : Option Jvm.ClassFile.FieldType)) ∈ lw_all := lw_g (lw_at lw_m1 145 rfl) rfl
theorem q158 : (Jvm.Cond.methodLink "RankRunsModel" (1 : Nat) ({ cls := "java/lang/Object", name := "<init>", desc := "()V" } : Jvm.MethodName)) ∈ lw_all := lw_g (lw_at lw_m1 146 rfl) rfl
theorem q159 : (Jvm.Cond.fieldLink "RankRunsModel" (32 : Nat) "RankRunsModel" "most" "I") ∈ lw_all := lw_g (lw_at lw_m1 147 rfl) rfl
theorem q160 : (Jvm.Cond.fieldLink "RankRunsModel" (7 : Nat) "RankRunsModel" "value" "[I") ∈ lw_all := lw_g (lw_at lw_m1 148 rfl) rfl
theorem q161 : (Jvm.Cond.fieldLink "RankRunsModel" (13 : Nat) "RankRunsModel" "isLive" "[Z") ∈ lw_all := lw_g (lw_at lw_m1 149 rfl) rfl
theorem q162 : (Jvm.Cond.fieldLink "RankRunsModel" (17 : Nat) "RankRunsModel" "isThere" "[Z") ∈ lw_all := lw_g (lw_at lw_m1 150 rfl) rfl
theorem q163 : (Jvm.Cond.fieldLink "RankRunsModel" (20 : Nat) "RankRunsModel" "carried" "[I") ∈ lw_all := lw_g (lw_at lw_m1 151 rfl) rfl
theorem q164 : (Jvm.Cond.fieldLink "RankRunsModel" (23 : Nat) "RankRunsModel" "carriedLive" "[Z") ∈ lw_all := lw_g (lw_at lw_m1 152 rfl) rfl
theorem q165 : (Jvm.Cond.fieldLink "RankRunsModel" (26 : Nat) "RankRunsModel" "spare" "[I") ∈ lw_all := lw_g (lw_at lw_m1 153 rfl) rfl
theorem q166 : (Jvm.Cond.fieldLink "RankRunsModel" (29 : Nat) "RankRunsModel" "spareLive" "[Z") ∈ lw_all := lw_g (lw_at lw_m1 154 rfl) rfl
theorem q167 : (Jvm.Cond.fieldLink "RankRunsModel" (36 : Nat) "RankRunsModel" "size" "I") ∈ lw_all := lw_g (lw_at lw_m1 155 rfl) rfl
theorem q168 : (Jvm.Cond.fieldLink "RankRunsModel" (53 : Nat) "RankRunsModel" "dead" "I") ∈ lw_all := lw_g (lw_at lw_m1 156 rfl) rfl
theorem q169 : (Jvm.Cond.fieldLink "RankRunsModel" (39 : Nat) "RankRunsModel" "moves" "I") ∈ lw_all := lw_g (lw_at lw_m1 157 rfl) rfl
theorem q170 : (Jvm.Cond.fieldLink "RankRunsModel" (64 : Nat) "RankRunsModel" "probes" "I") ∈ lw_all := lw_g (lw_at lw_m1 158 rfl) rfl
theorem q171 : (Jvm.Cond.laysFinal "RankRunsModel" "RankRunsModel" "most" "I") ∈ lw_all := lw_g (lw_at lw_m1 159 rfl) rfl
theorem q172 : (Jvm.Cond.soleField "RankRunsModel" "most") ∈ lw_all := lw_g (lw_at lw_m1 160 rfl) rfl
theorem q173 : (Jvm.Cond.laysFinal "RankRunsModel" "RankRunsModel" "value" "[I") ∈ lw_all := lw_g (lw_at lw_m1 161 rfl) rfl
theorem q174 : (Jvm.Cond.soleField "RankRunsModel" "value") ∈ lw_all := lw_g (lw_at lw_m1 162 rfl) rfl
theorem q175 : (Jvm.Cond.laysFinal "RankRunsModel" "RankRunsModel" "isLive" "[Z") ∈ lw_all := lw_g (lw_at lw_m1 163 rfl) rfl
theorem q176 : (Jvm.Cond.soleField "RankRunsModel" "isLive") ∈ lw_all := lw_g (lw_at lw_m1 164 rfl) rfl
theorem q177 : (Jvm.Cond.laysFinal "RankRunsModel" "RankRunsModel" "isThere" "[Z") ∈ lw_all := lw_g (lw_at lw_m1 165 rfl) rfl
theorem q178 : (Jvm.Cond.soleField "RankRunsModel" "isThere") ∈ lw_all := lw_g (lw_at lw_m1 166 rfl) rfl
theorem q179 : (Jvm.Cond.laysFinal "RankRunsModel" "RankRunsModel" "carried" "[I") ∈ lw_all := lw_g (lw_at lw_m1 167 rfl) rfl
theorem q180 : (Jvm.Cond.soleField "RankRunsModel" "carried") ∈ lw_all := lw_g (lw_at lw_m1 168 rfl) rfl
theorem q181 : (Jvm.Cond.laysFinal "RankRunsModel" "RankRunsModel" "carriedLive" "[Z") ∈ lw_all := lw_g (lw_at lw_m1 169 rfl) rfl
theorem q182 : (Jvm.Cond.soleField "RankRunsModel" "carriedLive") ∈ lw_all := lw_g (lw_at lw_m1 170 rfl) rfl
theorem q183 : (Jvm.Cond.laysFinal "RankRunsModel" "RankRunsModel" "spare" "[I") ∈ lw_all := lw_g (lw_at lw_m1 171 rfl) rfl
theorem q184 : (Jvm.Cond.soleField "RankRunsModel" "spare") ∈ lw_all := lw_g (lw_at lw_m1 172 rfl) rfl
theorem q185 : (Jvm.Cond.laysFinal "RankRunsModel" "RankRunsModel" "spareLive" "[Z") ∈ lw_all := lw_g (lw_at lw_m1 173 rfl) rfl
theorem q186 : (Jvm.Cond.soleField "RankRunsModel" "spareLive") ∈ lw_all := lw_g (lw_at lw_m1 174 rfl) rfl
theorem q187 : (Jvm.Cond.lays "RankRunsModel" "RankRunsModel" "size" "I") ∈ lw_all := lw_g (lw_at lw_m1 175 rfl) rfl
theorem q188 : (Jvm.Cond.soleField "RankRunsModel" "size") ∈ lw_all := lw_g (lw_at lw_m1 176 rfl) rfl
theorem q189 : (Jvm.Cond.lays "RankRunsModel" "RankRunsModel" "dead" "I") ∈ lw_all := lw_g (lw_at lw_m1 177 rfl) rfl
theorem q190 : (Jvm.Cond.soleField "RankRunsModel" "dead") ∈ lw_all := lw_g (lw_at lw_m1 178 rfl) rfl
theorem q191 : (Jvm.Cond.lays "RankRunsModel" "RankRunsModel" "moves" "I") ∈ lw_all := lw_g (lw_at lw_m1 179 rfl) rfl
theorem q192 : (Jvm.Cond.soleField "RankRunsModel" "moves") ∈ lw_all := lw_g (lw_at lw_m1 180 rfl) rfl
theorem q193 : (Jvm.Cond.lays "RankRunsModel" "RankRunsModel" "probes" "I") ∈ lw_all := lw_g (lw_at lw_m1 181 rfl) rfl
theorem q194 : (Jvm.Cond.soleField "RankRunsModel" "probes") ∈ lw_all := lw_g (lw_at lw_m1 182 rfl) rfl
theorem q195 : (Jvm.Cond.superclass "RankRunsModel" "java/lang/Object") ∈ lw_all := lw_g (lw_at lw_m1 183 rfl) rfl
theorem q197 : (Jvm.Cond.instanceMethod ({ cls := "RankRunsModel", name := "insert", desc := "(I)I" } : Jvm.MethodName)) ∈ lw_all := lw_g (lw_at lw_m1 185 rfl) rfl
theorem q198 : (Jvm.Cond.selects "RankRunsModel" ({ cls := "RankRunsModel", name := "insert", desc := "(I)I" } : Jvm.MethodName) ({ cls := "RankRunsModel", name := "insert", desc := "(I)I" } : Jvm.MethodName)) ∈ lw_all := lw_g (lw_at lw_m1 186 rfl) rfl
theorem q199 : (Jvm.Cond.code ({ cls := "RankRunsModel", name := "insert", desc := "(I)I" } : Jvm.MethodName) prog_3_method_3_code (4 : Nat) (Option.some Jvm.ClassFile.FieldType.int)) ∈ lw_all := lw_g (lw_at lw_m1 187 rfl) rfl
theorem q200 : (Jvm.Cond.methodLink "RankRunsModel" (42 : Nat) ({ cls := "RankRunsModel", name := "join", desc := "(I)V" } : Jvm.MethodName)) ∈ lw_all := lw_g (lw_at lw_m1 188 rfl) rfl
theorem q201 : (Jvm.Cond.privateMethod ({ cls := "RankRunsModel", name := "join", desc := "(I)V" } : Jvm.MethodName)) ∈ lw_tbl := lw_at lw_m1 189 rfl
theorem q202 : (Jvm.Cond.instanceMethod ({ cls := "RankRunsModel", name := "join", desc := "(I)V" } : Jvm.MethodName)) ∈ lw_all := lw_g (lw_at lw_m1 190 rfl) rfl
theorem q203 : (Jvm.Cond.code ({ cls := "RankRunsModel", name := "join", desc := "(I)V" } : Jvm.MethodName) prog_3_method_5_code (7 : Nat) (Option.none : Option Jvm.ClassFile.FieldType)) ∈ lw_all := lw_g (lw_at lw_m1 191 rfl) rfl
theorem q204 : (Jvm.Cond.methodLink "RankRunsModel" (49 : Nat) ({ cls := "RankRunsModel", name := "from", desc := "(I)I" } : Jvm.MethodName)) ∈ lw_all := lw_g (lw_at lw_m1 192 rfl) rfl
theorem q205 : (Jvm.Cond.static ({ cls := "RankRunsModel", name := "from", desc := "(I)I" } : Jvm.MethodName)) ∈ lw_all := lw_g (lw_at lw_m1 193 rfl) rfl
theorem q206 : (Jvm.Cond.code ({ cls := "RankRunsModel", name := "from", desc := "(I)I" } : Jvm.MethodName) prog_3_method_2_code (1 : Nat) (Option.some Jvm.ClassFile.FieldType.int)) ∈ lw_all := lw_g (lw_at lw_m1 194 rfl) rfl
theorem q207 : (Jvm.Cond.methodLink "RankRunsModel" (46 : Nat) ({ cls := "RankRunsModel", name := "leave", desc := "(I)V" } : Jvm.MethodName)) ∈ lw_all := lw_g (lw_at lw_m1 195 rfl) rfl
theorem q208 : (Jvm.Cond.privateMethod ({ cls := "RankRunsModel", name := "leave", desc := "(I)V" } : Jvm.MethodName)) ∈ lw_tbl := lw_at lw_m1 196 rfl
theorem q209 : (Jvm.Cond.instanceMethod ({ cls := "RankRunsModel", name := "leave", desc := "(I)V" } : Jvm.MethodName)) ∈ lw_all := lw_g (lw_at lw_m1 197 rfl) rfl
theorem q210 : (Jvm.Cond.code ({ cls := "RankRunsModel", name := "leave", desc := "(I)V" } : Jvm.MethodName) prog_3_method_4_code (3 : Nat) (Option.none : Option Jvm.ClassFile.FieldType)) ∈ lw_all := lw_g (lw_at lw_m1 198 rfl) rfl
theorem q212 : (Jvm.Cond.instanceMethod ({ cls := "RankRunsModel", name := "remove", desc := "(I)Z" } : Jvm.MethodName)) ∈ lw_all := lw_g (lw_at lw_m1 200 rfl) rfl
theorem q213 : (Jvm.Cond.selects "RankRunsModel" ({ cls := "RankRunsModel", name := "remove", desc := "(I)Z" } : Jvm.MethodName) ({ cls := "RankRunsModel", name := "remove", desc := "(I)Z" } : Jvm.MethodName)) ∈ lw_all := lw_g (lw_at lw_m1 201 rfl) rfl
theorem q214 : (Jvm.Cond.code ({ cls := "RankRunsModel", name := "remove", desc := "(I)Z" } : Jvm.MethodName) prog_3_method_6_code (6 : Nat) (Option.some Jvm.ClassFile.FieldType.boolean)) ∈ lw_all := lw_g (lw_at lw_m1 202 rfl) rfl
theorem q215 : (Jvm.Cond.methodLink "RankRunsModel" (56 : Nat) ({ cls := "RankRunsModel", name := "build", desc := "()I" } : Jvm.MethodName)) ∈ lw_all := lw_g (lw_at lw_m1 203 rfl) rfl
theorem q216 : (Jvm.Cond.privateMethod ({ cls := "RankRunsModel", name := "build", desc := "()I" } : Jvm.MethodName)) ∈ lw_tbl := lw_at lw_m1 204 rfl
theorem q217 : (Jvm.Cond.instanceMethod ({ cls := "RankRunsModel", name := "build", desc := "()I" } : Jvm.MethodName)) ∈ lw_all := lw_g (lw_at lw_m1 205 rfl) rfl
theorem q218 : (Jvm.Cond.code ({ cls := "RankRunsModel", name := "build", desc := "()I" } : Jvm.MethodName) prog_3_method_7_code (7 : Nat) (Option.some Jvm.ClassFile.FieldType.int)) ∈ lw_all := lw_g (lw_at lw_m1 206 rfl) rfl
theorem q219 : (Jvm.Cond.constantLong "RankRunsModel" (60 : Nat) (-2147483649 : Int64)) ∈ lw_all := lw_g (lw_at lw_m1 207 rfl) rfl
theorem q220 : (Jvm.Cond.constantLong "RankRunsModel" (62 : Nat) (2147483648 : Int64)) ∈ lw_all := lw_g (lw_at lw_m1 208 rfl) rfl
theorem q222 : (Jvm.Cond.instanceMethod ({ cls := "RankRunsModel", name := "count", desc := "(I)I" } : Jvm.MethodName)) ∈ lw_all := lw_g (lw_at lw_m1 210 rfl) rfl
theorem q223 : (Jvm.Cond.selects "RankRunsModel" ({ cls := "RankRunsModel", name := "count", desc := "(I)I" } : Jvm.MethodName) ({ cls := "RankRunsModel", name := "count", desc := "(I)I" } : Jvm.MethodName)) ∈ lw_all := lw_g (lw_at lw_m1 211 rfl) rfl
theorem q224 : (Jvm.Cond.code ({ cls := "RankRunsModel", name := "count", desc := "(I)I" } : Jvm.MethodName) prog_3_method_9_code (3 : Nat) (Option.some Jvm.ClassFile.FieldType.int)) ∈ lw_all := lw_g (lw_at lw_m1 212 rfl) rfl
theorem q225 : (Jvm.Cond.methodLink "RankRunsModel" (67 : Nat) ({ cls := "RankRunsModel", name := "before", desc := "(J)I" } : Jvm.MethodName)) ∈ lw_all := lw_g (lw_at lw_m1 213 rfl) rfl
theorem q226 : (Jvm.Cond.privateMethod ({ cls := "RankRunsModel", name := "before", desc := "(J)I" } : Jvm.MethodName)) ∈ lw_tbl := lw_at lw_m1 214 rfl
theorem q227 : (Jvm.Cond.instanceMethod ({ cls := "RankRunsModel", name := "before", desc := "(J)I" } : Jvm.MethodName)) ∈ lw_all := lw_g (lw_at lw_m1 215 rfl) rfl
theorem q228 : (Jvm.Cond.code ({ cls := "RankRunsModel", name := "before", desc := "(J)I" } : Jvm.MethodName) prog_3_method_8_code (8 : Nat) (Option.some Jvm.ClassFile.FieldType.int)) ∈ lw_all := lw_g (lw_at lw_m1 216 rfl) rfl
theorem q230 : (Jvm.Cond.instanceMethod ({ cls := "RankRunsModel", name := "rank", desc := "(I)I" } : Jvm.MethodName)) ∈ lw_all := lw_g (lw_at lw_m1 218 rfl) rfl
theorem q231 : (Jvm.Cond.selects "RankRunsModel" ({ cls := "RankRunsModel", name := "rank", desc := "(I)I" } : Jvm.MethodName) ({ cls := "RankRunsModel", name := "rank", desc := "(I)I" } : Jvm.MethodName)) ∈ lw_all := lw_g (lw_at lw_m1 219 rfl) rfl
theorem q232 : (Jvm.Cond.code ({ cls := "RankRunsModel", name := "rank", desc := "(I)I" } : Jvm.MethodName) prog_3_method_10_code (2 : Nat) (Option.some Jvm.ClassFile.FieldType.int)) ∈ lw_all := lw_g (lw_at lw_m1 220 rfl) rfl
theorem q234 : (Jvm.Cond.instanceMethod ({ cls := "RankRunsModel", name := "select", desc := "(I)I" } : Jvm.MethodName)) ∈ lw_all := lw_g (lw_at lw_m1 222 rfl) rfl
theorem q235 : (Jvm.Cond.selects "RankRunsModel" ({ cls := "RankRunsModel", name := "select", desc := "(I)I" } : Jvm.MethodName) ({ cls := "RankRunsModel", name := "select", desc := "(I)I" } : Jvm.MethodName)) ∈ lw_all := lw_g (lw_at lw_m1 223 rfl) rfl
theorem q236 : (Jvm.Cond.code ({ cls := "RankRunsModel", name := "select", desc := "(I)I" } : Jvm.MethodName) prog_3_method_12_code (8 : Nat) (Option.some Jvm.ClassFile.FieldType.int)) ∈ lw_all := lw_g (lw_at lw_m1 224 rfl) rfl
theorem q237 : (Jvm.Cond.methodLink "RankRunsModel" (71 : Nat) ({ cls := "RankRunsModel", name := "isPlace", desc := "(I)Z" } : Jvm.MethodName)) ∈ lw_all := lw_g (lw_at lw_m1 225 rfl) rfl
theorem q238 : (Jvm.Cond.privateMethod ({ cls := "RankRunsModel", name := "isPlace", desc := "(I)Z" } : Jvm.MethodName)) ∈ lw_tbl := lw_at lw_m1 226 rfl
theorem q239 : (Jvm.Cond.instanceMethod ({ cls := "RankRunsModel", name := "isPlace", desc := "(I)Z" } : Jvm.MethodName)) ∈ lw_all := lw_g (lw_at lw_m1 227 rfl) rfl
theorem q240 : (Jvm.Cond.code ({ cls := "RankRunsModel", name := "isPlace", desc := "(I)Z" } : Jvm.MethodName) prog_3_method_11_code (2 : Nat) (Option.some Jvm.ClassFile.FieldType.boolean)) ∈ lw_all := lw_g (lw_at lw_m1 228 rfl) rfl
theorem q241 : (Jvm.Cond.constantLong "RankRunsModel" (75 : Nat) (-2147483648 : Int64)) ∈ lw_all := lw_g (lw_at lw_m1 229 rfl) rfl
theorem q242 : (Jvm.Cond.constantLong "RankRunsModel" (77 : Nat) (2147483647 : Int64)) ∈ lw_all := lw_g (lw_at lw_m1 230 rfl) rfl
theorem q244 : (Jvm.Cond.instanceMethod ({ cls := "RankRunsModel", name := "has", desc := "(I)Z" } : Jvm.MethodName)) ∈ lw_all := lw_g (lw_at lw_m1 232 rfl) rfl
theorem q245 : (Jvm.Cond.selects "RankRunsModel" ({ cls := "RankRunsModel", name := "has", desc := "(I)Z" } : Jvm.MethodName) ({ cls := "RankRunsModel", name := "has", desc := "(I)Z" } : Jvm.MethodName)) ∈ lw_all := lw_g (lw_at lw_m1 233 rfl) rfl
theorem q246 : (Jvm.Cond.code ({ cls := "RankRunsModel", name := "has", desc := "(I)Z" } : Jvm.MethodName) prog_3_method_13_code (2 : Nat) (Option.some Jvm.ClassFile.FieldType.boolean)) ∈ lw_all := lw_g (lw_at lw_m1 234 rfl) rfl
theorem q248 : (Jvm.Cond.instanceMethod ({ cls := "RankRunsModel", name := "pred", desc := "(I)I" } : Jvm.MethodName)) ∈ lw_all := lw_g (lw_at lw_m1 236 rfl) rfl
theorem q249 : (Jvm.Cond.selects "RankRunsModel" ({ cls := "RankRunsModel", name := "pred", desc := "(I)I" } : Jvm.MethodName) ({ cls := "RankRunsModel", name := "pred", desc := "(I)I" } : Jvm.MethodName)) ∈ lw_all := lw_g (lw_at lw_m1 237 rfl) rfl
theorem q250 : (Jvm.Cond.code ({ cls := "RankRunsModel", name := "pred", desc := "(I)I" } : Jvm.MethodName) prog_3_method_14_code (2 : Nat) (Option.some Jvm.ClassFile.FieldType.int)) ∈ lw_all := lw_g (lw_at lw_m1 238 rfl) rfl
theorem q252 : (Jvm.Cond.instanceMethod ({ cls := "RankRunsModel", name := "succ", desc := "(I)I" } : Jvm.MethodName)) ∈ lw_all := lw_g (lw_at lw_m2 0 rfl) rfl
theorem q253 : (Jvm.Cond.selects "RankRunsModel" ({ cls := "RankRunsModel", name := "succ", desc := "(I)I" } : Jvm.MethodName) ({ cls := "RankRunsModel", name := "succ", desc := "(I)I" } : Jvm.MethodName)) ∈ lw_all := lw_g (lw_at lw_m2 1 rfl) rfl
theorem q254 : (Jvm.Cond.code ({ cls := "RankRunsModel", name := "succ", desc := "(I)I" } : Jvm.MethodName) prog_3_method_15_code (3 : Nat) (Option.some Jvm.ClassFile.FieldType.int)) ∈ lw_all := lw_g (lw_at lw_m2 2 rfl) rfl
theorem q256 : (Jvm.Cond.instanceMethod ({ cls := "RankRunsModel", name := "rangeCount", desc := "(II)I" } : Jvm.MethodName)) ∈ lw_all := lw_g (lw_at lw_m2 4 rfl) rfl
theorem q257 : (Jvm.Cond.selects "RankRunsModel" ({ cls := "RankRunsModel", name := "rangeCount", desc := "(II)I" } : Jvm.MethodName) ({ cls := "RankRunsModel", name := "rangeCount", desc := "(II)I" } : Jvm.MethodName)) ∈ lw_all := lw_g (lw_at lw_m2 5 rfl) rfl
theorem q258 : (Jvm.Cond.code ({ cls := "RankRunsModel", name := "rangeCount", desc := "(II)I" } : Jvm.MethodName) prog_3_method_16_code (4 : Nat) (Option.some Jvm.ClassFile.FieldType.int)) ∈ lw_all := lw_g (lw_at lw_m2 6 rfl) rfl
theorem q260 : (Jvm.Cond.instanceMethod ({ cls := "RankRunsModel", name := "size", desc := "()I" } : Jvm.MethodName)) ∈ lw_all := lw_g (lw_at lw_m2 8 rfl) rfl
theorem q261 : (Jvm.Cond.selects "RankRunsModel" ({ cls := "RankRunsModel", name := "size", desc := "()I" } : Jvm.MethodName) ({ cls := "RankRunsModel", name := "size", desc := "()I" } : Jvm.MethodName)) ∈ lw_all := lw_g (lw_at lw_m2 9 rfl) rfl
theorem q262 : (Jvm.Cond.code ({ cls := "RankRunsModel", name := "size", desc := "()I" } : Jvm.MethodName) prog_3_method_17_code (1 : Nat) (Option.some Jvm.ClassFile.FieldType.int)) ∈ lw_all := lw_g (lw_at lw_m2 10 rfl) rfl
theorem q264 : (Jvm.Cond.instanceMethod ({ cls := "RankRunsModel", name := "rebuild", desc := "()I" } : Jvm.MethodName)) ∈ lw_all := lw_g (lw_at lw_m2 12 rfl) rfl
theorem q265 : (Jvm.Cond.selects "RankRunsModel" ({ cls := "RankRunsModel", name := "rebuild", desc := "()I" } : Jvm.MethodName) ({ cls := "RankRunsModel", name := "rebuild", desc := "()I" } : Jvm.MethodName)) ∈ lw_all := lw_g (lw_at lw_m2 13 rfl) rfl
theorem q266 : (Jvm.Cond.code ({ cls := "RankRunsModel", name := "rebuild", desc := "()I" } : Jvm.MethodName) prog_3_method_18_code (1 : Nat) (Option.some Jvm.ClassFile.FieldType.int)) ∈ lw_all := lw_g (lw_at lw_m2 14 rfl) rfl
theorem q268 : (Jvm.Cond.instanceMethod ({ cls := "RankRunsModel", name := "movesMade", desc := "()I" } : Jvm.MethodName)) ∈ lw_all := lw_g (lw_at lw_m2 16 rfl) rfl
theorem q269 : (Jvm.Cond.selects "RankRunsModel" ({ cls := "RankRunsModel", name := "movesMade", desc := "()I" } : Jvm.MethodName) ({ cls := "RankRunsModel", name := "movesMade", desc := "()I" } : Jvm.MethodName)) ∈ lw_all := lw_g (lw_at lw_m2 17 rfl) rfl
theorem q270 : (Jvm.Cond.code ({ cls := "RankRunsModel", name := "movesMade", desc := "()I" } : Jvm.MethodName) prog_3_method_19_code (1 : Nat) (Option.some Jvm.ClassFile.FieldType.int)) ∈ lw_all := lw_g (lw_at lw_m2 18 rfl) rfl
theorem q272 : (Jvm.Cond.instanceMethod ({ cls := "RankRunsModel", name := "probesLast", desc := "()I" } : Jvm.MethodName)) ∈ lw_all := lw_g (lw_at lw_m2 20 rfl) rfl
theorem q273 : (Jvm.Cond.selects "RankRunsModel" ({ cls := "RankRunsModel", name := "probesLast", desc := "()I" } : Jvm.MethodName) ({ cls := "RankRunsModel", name := "probesLast", desc := "()I" } : Jvm.MethodName)) ∈ lw_all := lw_g (lw_at lw_m2 21 rfl) rfl
theorem q274 : (Jvm.Cond.code ({ cls := "RankRunsModel", name := "probesLast", desc := "()I" } : Jvm.MethodName) prog_3_method_20_code (1 : Nat) (Option.some Jvm.ClassFile.FieldType.int)) ∈ lw_all := lw_g (lw_at lw_m2 22 rfl) rfl
theorem q276 : (Jvm.Cond.instanceMethod ({ cls := "RankRunsModel", name := "cellsOf", desc := "(I)I" } : Jvm.MethodName)) ∈ lw_all := lw_g (lw_at lw_m2 24 rfl) rfl
theorem q277 : (Jvm.Cond.selects "RankRunsModel" ({ cls := "RankRunsModel", name := "cellsOf", desc := "(I)I" } : Jvm.MethodName) ({ cls := "RankRunsModel", name := "cellsOf", desc := "(I)I" } : Jvm.MethodName)) ∈ lw_all := lw_g (lw_at lw_m2 25 rfl) rfl
theorem q278 : (Jvm.Cond.code ({ cls := "RankRunsModel", name := "cellsOf", desc := "(I)I" } : Jvm.MethodName) prog_3_method_21_code (2 : Nat) (Option.some Jvm.ClassFile.FieldType.int)) ∈ lw_all := lw_g (lw_at lw_m2 26 rfl) rfl
theorem q280 : (Jvm.Cond.instanceMethod ({ cls := "RankRunsModel", name := "cell", desc := "(II)I" } : Jvm.MethodName)) ∈ lw_all := lw_g (lw_at lw_m2 28 rfl) rfl
theorem q281 : (Jvm.Cond.selects "RankRunsModel" ({ cls := "RankRunsModel", name := "cell", desc := "(II)I" } : Jvm.MethodName) ({ cls := "RankRunsModel", name := "cell", desc := "(II)I" } : Jvm.MethodName)) ∈ lw_all := lw_g (lw_at lw_m2 29 rfl) rfl
theorem q282 : (Jvm.Cond.code ({ cls := "RankRunsModel", name := "cell", desc := "(II)I" } : Jvm.MethodName) prog_3_method_22_code (4 : Nat) (Option.some Jvm.ClassFile.FieldType.int)) ∈ lw_all := lw_g (lw_at lw_m2 30 rfl) rfl
theorem in_X2 : ∀ w ∈ wsX20, w ∈ lw_all := lw_in wsX20 [171, 173, 175, 177, 179, 181, 183, 185, 187, 189, 191, 193] (by decide +kernel) (by decide +kernel)
/-! RankRunsLaw -/
def RX0 : String := "RankRunsLaw"
abbrev cX0_cell : ByteArray := method_2_code
def yX0_cell : MethodName := ⟨RX0, "cell", "([II)I"⟩
theorem q12 : (Jvm.Cond.initialized "RankRunsLaw") ∈ lw_all := lw_g (lw_at lw_m1 0 rfl) rfl
theorem q15 : (Jvm.Cond.classLink "RankRunsLaw" (7 : Nat) "RankRuns") ∈ lw_all := lw_g (lw_at lw_m1 3 rfl) rfl
theorem q17 : (Jvm.Cond.methodLink "RankRunsLaw" (15 : Nat) ({ cls := "RankRuns", name := "<init>", desc := "(I)V" } : Jvm.MethodName)) ∈ lw_all := lw_g (lw_at lw_m1 5 rfl) rfl
theorem q56 : (Jvm.Cond.methodLink "RankRunsLaw" (21 : Nat) ({ cls := "RankRuns", name := "insert", desc := "(I)I" } : Jvm.MethodName)) ∈ lw_all := lw_g (lw_at lw_m1 44 rfl) rfl
theorem q71 : (Jvm.Cond.methodLink "RankRunsLaw" (26 : Nat) ({ cls := "RankRuns", name := "remove", desc := "(I)Z" } : Jvm.MethodName)) ∈ lw_all := lw_g (lw_at lw_m1 59 rfl) rfl
theorem q87 : (Jvm.Cond.methodLink "RankRunsLaw" (65 : Nat) ({ cls := "RankRuns", name := "rebuild", desc := "()I" } : Jvm.MethodName)) ∈ lw_all := lw_g (lw_at lw_m1 75 rfl) rfl
theorem q88 : (Jvm.Cond.methodLink "RankRunsLaw" (31 : Nat) ({ cls := "RankRuns", name := "count", desc := "(I)I" } : Jvm.MethodName)) ∈ lw_all := lw_g (lw_at lw_m1 76 rfl) rfl
theorem q104 : (Jvm.Cond.methodLink "RankRunsLaw" (35 : Nat) ({ cls := "RankRuns", name := "rank", desc := "(I)I" } : Jvm.MethodName)) ∈ lw_all := lw_g (lw_at lw_m1 92 rfl) rfl
theorem q108 : (Jvm.Cond.methodLink "RankRunsLaw" (39 : Nat) ({ cls := "RankRuns", name := "select", desc := "(I)I" } : Jvm.MethodName)) ∈ lw_all := lw_g (lw_at lw_m1 96 rfl) rfl
theorem q114 : (Jvm.Cond.methodLink "RankRunsLaw" (43 : Nat) ({ cls := "RankRuns", name := "has", desc := "(I)Z" } : Jvm.MethodName)) ∈ lw_all := lw_g (lw_at lw_m1 102 rfl) rfl
theorem q118 : (Jvm.Cond.methodLink "RankRunsLaw" (47 : Nat) ({ cls := "RankRuns", name := "pred", desc := "(I)I" } : Jvm.MethodName)) ∈ lw_all := lw_g (lw_at lw_m1 106 rfl) rfl
theorem q122 : (Jvm.Cond.methodLink "RankRunsLaw" (51 : Nat) ({ cls := "RankRuns", name := "succ", desc := "(I)I" } : Jvm.MethodName)) ∈ lw_all := lw_g (lw_at lw_m1 110 rfl) rfl
theorem q126 : (Jvm.Cond.methodLink "RankRunsLaw" (55 : Nat) ({ cls := "RankRuns", name := "rangeCount", desc := "(II)I" } : Jvm.MethodName)) ∈ lw_all := lw_g (lw_at lw_m1 114 rfl) rfl
theorem q130 : (Jvm.Cond.methodLink "RankRunsLaw" (60 : Nat) ({ cls := "RankRuns", name := "size", desc := "()I" } : Jvm.MethodName)) ∈ lw_all := lw_g (lw_at lw_m1 118 rfl) rfl
theorem q134 : (Jvm.Cond.methodLink "RankRunsLaw" (69 : Nat) ({ cls := "RankRuns", name := "movesMade", desc := "()I" } : Jvm.MethodName)) ∈ lw_all := lw_g (lw_at lw_m1 122 rfl) rfl
theorem q138 : (Jvm.Cond.methodLink "RankRunsLaw" (73 : Nat) ({ cls := "RankRuns", name := "probesLast", desc := "()I" } : Jvm.MethodName)) ∈ lw_all := lw_g (lw_at lw_m1 126 rfl) rfl
theorem q142 : (Jvm.Cond.methodLink "RankRunsLaw" (77 : Nat) ({ cls := "RankRuns", name := "cellsOf", desc := "(I)I" } : Jvm.MethodName)) ∈ lw_all := lw_g (lw_at lw_m1 130 rfl) rfl
theorem q146 : (Jvm.Cond.methodLink "RankRunsLaw" (81 : Nat) ({ cls := "RankRuns", name := "cell", desc := "(II)I" } : Jvm.MethodName)) ∈ lw_all := lw_g (lw_at lw_m1 134 rfl) rfl
theorem q150 : (Jvm.Cond.methodLink "RankRunsLaw" (9 : Nat) ({ cls := "RankRunsLaw", name := "cell", desc := "([II)I" } : Jvm.MethodName)) ∈ lw_all := lw_g (lw_at lw_m1 138 rfl) rfl
theorem q151 : (Jvm.Cond.static ({ cls := "RankRunsLaw", name := "cell", desc := "([II)I" } : Jvm.MethodName)) ∈ lw_all := lw_g (lw_at lw_m1 139 rfl) rfl
theorem q152 : (Jvm.Cond.code ({ cls := "RankRunsLaw", name := "cell", desc := "([II)I" } : Jvm.MethodName) method_2_code (2 : Nat) (Option.some Jvm.ClassFile.FieldType.int)) ∈ lw_all := lw_g (lw_at lw_m1 140 rfl) rfl
theorem q153 : (Jvm.Cond.classLink "RankRunsLaw" (18 : Nat) "RankRunsModel") ∈ lw_all := lw_g (lw_at lw_m1 141 rfl) rfl
theorem q155 : (Jvm.Cond.methodLink "RankRunsLaw" (20 : Nat) ({ cls := "RankRunsModel", name := "<init>", desc := "(I)V" } : Jvm.MethodName)) ∈ lw_all := lw_g (lw_at lw_m1 143 rfl) rfl
theorem q196 : (Jvm.Cond.methodLink "RankRunsLaw" (25 : Nat) ({ cls := "RankRunsModel", name := "insert", desc := "(I)I" } : Jvm.MethodName)) ∈ lw_all := lw_g (lw_at lw_m1 184 rfl) rfl
theorem q211 : (Jvm.Cond.methodLink "RankRunsLaw" (30 : Nat) ({ cls := "RankRunsModel", name := "remove", desc := "(I)Z" } : Jvm.MethodName)) ∈ lw_all := lw_g (lw_at lw_m1 199 rfl) rfl
theorem q221 : (Jvm.Cond.methodLink "RankRunsLaw" (34 : Nat) ({ cls := "RankRunsModel", name := "count", desc := "(I)I" } : Jvm.MethodName)) ∈ lw_all := lw_g (lw_at lw_m1 209 rfl) rfl
theorem q229 : (Jvm.Cond.methodLink "RankRunsLaw" (38 : Nat) ({ cls := "RankRunsModel", name := "rank", desc := "(I)I" } : Jvm.MethodName)) ∈ lw_all := lw_g (lw_at lw_m1 217 rfl) rfl
theorem q233 : (Jvm.Cond.methodLink "RankRunsLaw" (42 : Nat) ({ cls := "RankRunsModel", name := "select", desc := "(I)I" } : Jvm.MethodName)) ∈ lw_all := lw_g (lw_at lw_m1 221 rfl) rfl
theorem q243 : (Jvm.Cond.methodLink "RankRunsLaw" (46 : Nat) ({ cls := "RankRunsModel", name := "has", desc := "(I)Z" } : Jvm.MethodName)) ∈ lw_all := lw_g (lw_at lw_m1 231 rfl) rfl
theorem q247 : (Jvm.Cond.methodLink "RankRunsLaw" (50 : Nat) ({ cls := "RankRunsModel", name := "pred", desc := "(I)I" } : Jvm.MethodName)) ∈ lw_all := lw_g (lw_at lw_m1 235 rfl) rfl
theorem q251 : (Jvm.Cond.methodLink "RankRunsLaw" (54 : Nat) ({ cls := "RankRunsModel", name := "succ", desc := "(I)I" } : Jvm.MethodName)) ∈ lw_all := lw_g (lw_at lw_m1 239 rfl) rfl
theorem q255 : (Jvm.Cond.methodLink "RankRunsLaw" (59 : Nat) ({ cls := "RankRunsModel", name := "rangeCount", desc := "(II)I" } : Jvm.MethodName)) ∈ lw_all := lw_g (lw_at lw_m2 3 rfl) rfl
theorem q259 : (Jvm.Cond.methodLink "RankRunsLaw" (64 : Nat) ({ cls := "RankRunsModel", name := "size", desc := "()I" } : Jvm.MethodName)) ∈ lw_all := lw_g (lw_at lw_m2 7 rfl) rfl
theorem q263 : (Jvm.Cond.methodLink "RankRunsLaw" (68 : Nat) ({ cls := "RankRunsModel", name := "rebuild", desc := "()I" } : Jvm.MethodName)) ∈ lw_all := lw_g (lw_at lw_m2 11 rfl) rfl
theorem q267 : (Jvm.Cond.methodLink "RankRunsLaw" (72 : Nat) ({ cls := "RankRunsModel", name := "movesMade", desc := "()I" } : Jvm.MethodName)) ∈ lw_all := lw_g (lw_at lw_m2 15 rfl) rfl
theorem q271 : (Jvm.Cond.methodLink "RankRunsLaw" (76 : Nat) ({ cls := "RankRunsModel", name := "probesLast", desc := "()I" } : Jvm.MethodName)) ∈ lw_all := lw_g (lw_at lw_m2 19 rfl) rfl
theorem q275 : (Jvm.Cond.methodLink "RankRunsLaw" (80 : Nat) ({ cls := "RankRunsModel", name := "cellsOf", desc := "(I)I" } : Jvm.MethodName)) ∈ lw_all := lw_g (lw_at lw_m2 23 rfl) rfl
theorem q279 : (Jvm.Cond.methodLink "RankRunsLaw" (83 : Nat) ({ cls := "RankRunsModel", name := "cell", desc := "(II)I" } : Jvm.MethodName)) ∈ lw_all := lw_g (lw_at lw_m2 27 rfl) rfl
/-! java/lang/Object -/
def RJ0 : String := "java/lang/Object"
abbrev cJ0_init : ByteArray := object_method_1_code
def yJ0_init : MethodName := ⟨RJ0, "<init>", "()V"⟩
theorem dJ0_init_0 : decode cJ0_init 0 = .ok (.return_, 1) := by decide +kernel
theorem q21 : (Jvm.Cond.instanceMethod ({ cls := "java/lang/Object", name := "<init>", desc := "()V" } : Jvm.MethodName)) ∈ lw_all := lw_g (lw_at lw_m1 9 rfl) rfl
theorem q22 : (Jvm.Cond.code ({ cls := "java/lang/Object", name := "<init>", desc := "()V" } : Jvm.MethodName) object_method_1_code (1 : Nat) (Option.none : Option Jvm.ClassFile.FieldType)) ∈ lw_all := lw_g (lw_at lw_m1 10 rfl) rfl
theorem q54 : (Jvm.Cond.arrayClass Jvm.ClassFile.FieldType.int) ∈ lw_all := lw_g (lw_at lw_m1 42 rfl) rfl
theorem q55 : (Jvm.Cond.arrayClass Jvm.ClassFile.FieldType.boolean) ∈ lw_all := lw_g (lw_at lw_m1 43 rfl) rfl
/-! the law's own entry -/
abbrev cL_law : ByteArray := code
end
section
set_option maxRecDepth 100000
theorem dX1_init_0 : decode cX1_init 0 = .ok (.aload_n 0, 1) := by decide +kernel
theorem dX1_init_1 : decode cX1_init 1 = .ok (.invokespecial 1, 3) := by decide +kernel
theorem dX1_init_4 : decode cX1_init 4 = .ok (.aload_n 0, 1) := by decide +kernel
theorem dX1_init_5 : decode cX1_init 5 = .ok (.sipush 1024, 3) := by decide +kernel
theorem dX1_init_8 : decode cX1_init 8 = .ok (.newarray .int, 2) := by decide +kernel
theorem dX1_init_10 : decode cX1_init 10 = .ok (.putfield 7, 3) := by decide +kernel
theorem dX1_init_13 : decode cX1_init 13 = .ok (.aload_n 0, 1) := by decide +kernel
theorem dX1_init_14 : decode cX1_init 14 = .ok (.sipush 1024, 3) := by decide +kernel
theorem dX1_init_17 : decode cX1_init 17 = .ok (.newarray .boolean, 2) := by decide +kernel
theorem dX1_init_19 : decode cX1_init 19 = .ok (.putfield 13, 3) := by decide +kernel
theorem dX1_init_22 : decode cX1_init 22 = .ok (.aload_n 0, 1) := by decide +kernel
theorem dX1_init_23 : decode cX1_init 23 = .ok (.bipush 10, 2) := by decide +kernel
theorem dX1_init_25 : decode cX1_init 25 = .ok (.newarray .int, 2) := by decide +kernel
theorem dX1_init_27 : decode cX1_init 27 = .ok (.putfield 17, 3) := by decide +kernel
theorem dX1_init_30 : decode cX1_init 30 = .ok (.aload_n 0, 1) := by decide +kernel
theorem dX1_init_31 : decode cX1_init 31 = .ok (.sipush 1024, 3) := by decide +kernel
theorem dX1_init_34 : decode cX1_init 34 = .ok (.newarray .int, 2) := by decide +kernel
theorem dX1_init_36 : decode cX1_init 36 = .ok (.putfield 20, 3) := by decide +kernel
theorem dX1_init_39 : decode cX1_init 39 = .ok (.aload_n 0, 1) := by decide +kernel
theorem dX1_init_40 : decode cX1_init 40 = .ok (.sipush 1024, 3) := by decide +kernel
theorem dX1_init_43 : decode cX1_init 43 = .ok (.newarray .boolean, 2) := by decide +kernel
theorem dX1_init_45 : decode cX1_init 45 = .ok (.putfield 23, 3) := by decide +kernel
theorem dX1_init_48 : decode cX1_init 48 = .ok (.aload_n 0, 1) := by decide +kernel
theorem dX1_init_49 : decode cX1_init 49 = .ok (.iload_n 1, 1) := by decide +kernel
theorem dX1_init_50 : decode cX1_init 50 = .ok (.iconst 1, 1) := by decide +kernel
theorem dX1_init_51 : decode cX1_init 51 = .ok (.if_icmp .ge 7, 3) := by decide +kernel
theorem dX1_init_54 : decode cX1_init 54 = .ok (.iconst 1, 1) := by decide +kernel
theorem dX1_init_55 : decode cX1_init 55 = .ok (.goto 17, 3) := by decide +kernel
theorem dX1_init_58 : decode cX1_init 58 = .ok (.iload_n 1, 1) := by decide +kernel
theorem dX1_init_59 : decode cX1_init 59 = .ok (.sipush 256, 3) := by decide +kernel
theorem dX1_init_62 : decode cX1_init 62 = .ok (.if_icmp .le 9, 3) := by decide +kernel
theorem dX1_init_65 : decode cX1_init 65 = .ok (.sipush 256, 3) := by decide +kernel
theorem dX1_init_68 : decode cX1_init 68 = .ok (.goto 4, 3) := by decide +kernel
theorem dX1_init_71 : decode cX1_init 71 = .ok (.iload_n 1, 1) := by decide +kernel
theorem dX1_init_72 : decode cX1_init 72 = .ok (.putfield 26, 3) := by decide +kernel
theorem dX1_init_75 : decode cX1_init 75 = .ok (.return_, 1) := by decide +kernel
theorem dX1_insert_0 : decode cX1_insert 0 = .ok (.aload_n 0, 1) := by decide +kernel
theorem dX1_insert_1 : decode cX1_insert 1 = .ok (.getfield 37, 3) := by decide +kernel
theorem dX1_insert_4 : decode cX1_insert 4 = .ok (.aload_n 0, 1) := by decide +kernel
theorem dX1_insert_5 : decode cX1_insert 5 = .ok (.getfield 26, 3) := by decide +kernel
theorem dX1_insert_8 : decode cX1_insert 8 = .ok (.if_icmp .ne 6, 3) := by decide +kernel
theorem dX1_insert_11 : decode cX1_insert 11 = .ok (.bipush (-2), 2) := by decide +kernel
theorem dX1_insert_13 : decode cX1_insert 13 = .ok (.ireturn, 1) := by decide +kernel
theorem dX1_insert_14 : decode cX1_insert 14 = .ok (.aload_n 0, 1) := by decide +kernel
theorem dX1_insert_15 : decode cX1_insert 15 = .ok (.getfield 20, 3) := by decide +kernel
theorem dX1_insert_18 : decode cX1_insert 18 = .ok (.iconst 0, 1) := by decide +kernel
theorem dX1_insert_19 : decode cX1_insert 19 = .ok (.iload_n 1, 1) := by decide +kernel
theorem dX1_insert_20 : decode cX1_insert 20 = .ok (.iastore, 1) := by decide +kernel
theorem dX1_insert_21 : decode cX1_insert 21 = .ok (.aload_n 0, 1) := by decide +kernel
theorem dX1_insert_22 : decode cX1_insert 22 = .ok (.getfield 23, 3) := by decide +kernel
theorem dX1_insert_25 : decode cX1_insert 25 = .ok (.iconst 0, 1) := by decide +kernel
theorem dX1_insert_26 : decode cX1_insert 26 = .ok (.iconst 0, 1) := by decide +kernel
theorem dX1_insert_27 : decode cX1_insert 27 = .ok (.bastore, 1) := by decide +kernel
theorem dX1_insert_28 : decode cX1_insert 28 = .ok (.aload_n 0, 1) := by decide +kernel
theorem dX1_insert_29 : decode cX1_insert 29 = .ok (.dup, 1) := by decide +kernel
theorem dX1_insert_30 : decode cX1_insert 30 = .ok (.getfield 34, 3) := by decide +kernel
theorem dX1_insert_33 : decode cX1_insert 33 = .ok (.iconst 1, 1) := by decide +kernel
theorem dX1_insert_34 : decode cX1_insert 34 = .ok (.iadd, 1) := by decide +kernel
theorem dX1_insert_35 : decode cX1_insert 35 = .ok (.putfield 34, 3) := by decide +kernel
theorem dX1_insert_38 : decode cX1_insert 38 = .ok (.iconst 0, 1) := by decide +kernel
theorem dX1_insert_39 : decode cX1_insert 39 = .ok (.istore_n 2, 1) := by decide +kernel
theorem dX1_insert_40 : decode cX1_insert 40 = .ok (.iconst 1, 1) := by decide +kernel
theorem dX1_insert_41 : decode cX1_insert 41 = .ok (.istore_n 3, 1) := by decide +kernel
theorem dX1_insert_42 : decode cX1_insert 42 = .ok (.aload_n 0, 1) := by decide +kernel
theorem dX1_insert_43 : decode cX1_insert 43 = .ok (.getfield 17, 3) := by decide +kernel
theorem dX1_insert_46 : decode cX1_insert 46 = .ok (.iload_n 2, 1) := by decide +kernel
theorem dX1_insert_47 : decode cX1_insert 47 = .ok (.iaload, 1) := by decide +kernel
theorem dX1_insert_48 : decode cX1_insert 48 = .ok (.ifCond .le 19, 3) := by decide +kernel
theorem dX1_insert_51 : decode cX1_insert 51 = .ok (.aload_n 0, 1) := by decide +kernel
theorem dX1_insert_52 : decode cX1_insert 52 = .ok (.iload_n 2, 1) := by decide +kernel
theorem dX1_insert_53 : decode cX1_insert 53 = .ok (.iload_n 3, 1) := by decide +kernel
theorem dX1_insert_54 : decode cX1_insert 54 = .ok (.invokevirtual 40, 3) := by decide +kernel
theorem dX1_insert_57 : decode cX1_insert 57 = .ok (.iload_n 3, 1) := by decide +kernel
theorem dX1_insert_58 : decode cX1_insert 58 = .ok (.iconst 2, 1) := by decide +kernel
theorem dX1_insert_59 : decode cX1_insert 59 = .ok (.imul, 1) := by decide +kernel
theorem dX1_insert_60 : decode cX1_insert 60 = .ok (.istore_n 3, 1) := by decide +kernel
theorem dX1_insert_61 : decode cX1_insert 61 = .ok (.iinc 2 1, 3) := by decide +kernel
theorem dX1_insert_64 : decode cX1_insert 64 = .ok (.goto (-22), 3) := by decide +kernel
theorem dX1_insert_67 : decode cX1_insert 67 = .ok (.aload_n 0, 1) := by decide +kernel
theorem dX1_insert_68 : decode cX1_insert 68 = .ok (.iload_n 2, 1) := by decide +kernel
theorem dX1_insert_69 : decode cX1_insert 69 = .ok (.iconst 0, 1) := by decide +kernel
theorem dX1_insert_70 : decode cX1_insert 70 = .ok (.iload_n 3, 1) := by decide +kernel
theorem dX1_insert_71 : decode cX1_insert 71 = .ok (.invokevirtual 44, 3) := by decide +kernel
theorem dX1_insert_74 : decode cX1_insert 74 = .ok (.aload_n 0, 1) := by decide +kernel
theorem dX1_insert_75 : decode cX1_insert 75 = .ok (.dup, 1) := by decide +kernel
theorem dX1_insert_76 : decode cX1_insert 76 = .ok (.getfield 37, 3) := by decide +kernel
theorem dX1_insert_79 : decode cX1_insert 79 = .ok (.iconst 1, 1) := by decide +kernel
theorem dX1_insert_80 : decode cX1_insert 80 = .ok (.iadd, 1) := by decide +kernel
theorem dX1_insert_81 : decode cX1_insert 81 = .ok (.putfield 37, 3) := by decide +kernel
theorem dX1_insert_84 : decode cX1_insert 84 = .ok (.aload_n 0, 1) := by decide +kernel
theorem dX1_insert_85 : decode cX1_insert 85 = .ok (.dup, 1) := by decide +kernel
theorem dX1_insert_86 : decode cX1_insert 86 = .ok (.getfield 48, 3) := by decide +kernel
theorem dX1_insert_89 : decode cX1_insert 89 = .ok (.iconst 1, 1) := by decide +kernel
theorem dX1_insert_90 : decode cX1_insert 90 = .ok (.iadd, 1) := by decide +kernel
theorem dX1_insert_91 : decode cX1_insert 91 = .ok (.putfield 48, 3) := by decide +kernel
theorem dX1_insert_94 : decode cX1_insert 94 = .ok (.iconst 0, 1) := by decide +kernel
theorem dX1_insert_95 : decode cX1_insert 95 = .ok (.ireturn, 1) := by decide +kernel
theorem dX1_merge_0 : decode cX1_merge 0 = .ok (.iload_n 1, 1) := by decide +kernel
theorem dX1_merge_1 : decode cX1_merge 1 = .ok (.invokestatic 30, 3) := by decide +kernel
theorem dX1_merge_4 : decode cX1_merge 4 = .ok (.istore_n 3, 1) := by decide +kernel
theorem dX1_merge_5 : decode cX1_merge 5 = .ok (.aload_n 0, 1) := by decide +kernel
theorem dX1_merge_6 : decode cX1_merge 6 = .ok (.getfield 17, 3) := by decide +kernel
theorem dX1_merge_9 : decode cX1_merge 9 = .ok (.iload_n 1, 1) := by decide +kernel
theorem dX1_merge_10 : decode cX1_merge 10 = .ok (.iaload, 1) := by decide +kernel
theorem dX1_merge_11 : decode cX1_merge 11 = .ok (.iconst 1, 1) := by decide +kernel
theorem dX1_merge_12 : decode cX1_merge 12 = .ok (.isub, 1) := by decide +kernel
theorem dX1_merge_13 : decode cX1_merge 13 = .ok (.istore 4, 2) := by decide +kernel
theorem dX1_merge_15 : decode cX1_merge 15 = .ok (.iload_n 2, 1) := by decide +kernel
theorem dX1_merge_16 : decode cX1_merge 16 = .ok (.iconst 1, 1) := by decide +kernel
theorem dX1_merge_17 : decode cX1_merge 17 = .ok (.isub, 1) := by decide +kernel
theorem dX1_merge_18 : decode cX1_merge 18 = .ok (.istore 5, 2) := by decide +kernel
theorem dX1_merge_20 : decode cX1_merge 20 = .ok (.aload_n 0, 1) := by decide +kernel
theorem dX1_merge_21 : decode cX1_merge 21 = .ok (.getfield 17, 3) := by decide +kernel
theorem dX1_merge_24 : decode cX1_merge 24 = .ok (.iload_n 1, 1) := by decide +kernel
theorem dX1_merge_25 : decode cX1_merge 25 = .ok (.iaload, 1) := by decide +kernel
theorem dX1_merge_26 : decode cX1_merge 26 = .ok (.iload_n 2, 1) := by decide +kernel
theorem dX1_merge_27 : decode cX1_merge 27 = .ok (.iadd, 1) := by decide +kernel
theorem dX1_merge_28 : decode cX1_merge 28 = .ok (.iconst 1, 1) := by decide +kernel
theorem dX1_merge_29 : decode cX1_merge 29 = .ok (.isub, 1) := by decide +kernel
theorem dX1_merge_30 : decode cX1_merge 30 = .ok (.istore 6, 2) := by decide +kernel
theorem dX1_merge_32 : decode cX1_merge 32 = .ok (.iload 6, 2) := by decide +kernel
theorem dX1_merge_34 : decode cX1_merge 34 = .ok (.ifCond .lt 131, 3) := by decide +kernel
theorem dX1_merge_37 : decode cX1_merge 37 = .ok (.iload 5, 2) := by decide +kernel
theorem dX1_merge_39 : decode cX1_merge 39 = .ok (.ifCond .lt 27, 3) := by decide +kernel
theorem dX1_merge_42 : decode cX1_merge 42 = .ok (.iload 4, 2) := by decide +kernel
theorem dX1_merge_44 : decode cX1_merge 44 = .ok (.ifCond .lt 26, 3) := by decide +kernel
theorem dX1_merge_47 : decode cX1_merge 47 = .ok (.aload_n 0, 1) := by decide +kernel
theorem dX1_merge_48 : decode cX1_merge 48 = .ok (.getfield 7, 3) := by decide +kernel
theorem dX1_merge_51 : decode cX1_merge 51 = .ok (.iload_n 3, 1) := by decide +kernel
theorem dX1_merge_52 : decode cX1_merge 52 = .ok (.iload 4, 2) := by decide +kernel
theorem dX1_merge_54 : decode cX1_merge 54 = .ok (.iadd, 1) := by decide +kernel
theorem dX1_merge_55 : decode cX1_merge 55 = .ok (.iaload, 1) := by decide +kernel
theorem dX1_merge_56 : decode cX1_merge 56 = .ok (.aload_n 0, 1) := by decide +kernel
theorem dX1_merge_57 : decode cX1_merge 57 = .ok (.getfield 20, 3) := by decide +kernel
theorem dX1_merge_60 : decode cX1_merge 60 = .ok (.iload 5, 2) := by decide +kernel
theorem dX1_merge_62 : decode cX1_merge 62 = .ok (.iaload, 1) := by decide +kernel
theorem dX1_merge_63 : decode cX1_merge 63 = .ok (.if_icmp .le 7, 3) := by decide +kernel
theorem dX1_merge_66 : decode cX1_merge 66 = .ok (.iconst 1, 1) := by decide +kernel
theorem dX1_merge_67 : decode cX1_merge 67 = .ok (.goto 4, 3) := by decide +kernel
theorem dX1_merge_70 : decode cX1_merge 70 = .ok (.iconst 0, 1) := by decide +kernel
theorem dX1_merge_71 : decode cX1_merge 71 = .ok (.istore 7, 2) := by decide +kernel
theorem dX1_merge_73 : decode cX1_merge 73 = .ok (.aload_n 0, 1) := by decide +kernel
theorem dX1_merge_74 : decode cX1_merge 74 = .ok (.getfield 20, 3) := by decide +kernel
theorem dX1_merge_77 : decode cX1_merge 77 = .ok (.iload 6, 2) := by decide +kernel
theorem dX1_merge_79 : decode cX1_merge 79 = .ok (.iload 7, 2) := by decide +kernel
theorem dX1_merge_81 : decode cX1_merge 81 = .ok (.ifCond .eq 15, 3) := by decide +kernel
theorem dX1_merge_84 : decode cX1_merge 84 = .ok (.aload_n 0, 1) := by decide +kernel
theorem dX1_merge_85 : decode cX1_merge 85 = .ok (.getfield 7, 3) := by decide +kernel
theorem dX1_merge_88 : decode cX1_merge 88 = .ok (.iload_n 3, 1) := by decide +kernel
theorem dX1_merge_89 : decode cX1_merge 89 = .ok (.iload 4, 2) := by decide +kernel
theorem dX1_merge_91 : decode cX1_merge 91 = .ok (.iadd, 1) := by decide +kernel
theorem dX1_merge_92 : decode cX1_merge 92 = .ok (.iaload, 1) := by decide +kernel
theorem dX1_merge_93 : decode cX1_merge 93 = .ok (.goto 10, 3) := by decide +kernel
theorem dX1_merge_96 : decode cX1_merge 96 = .ok (.aload_n 0, 1) := by decide +kernel
theorem dX1_merge_97 : decode cX1_merge 97 = .ok (.getfield 20, 3) := by decide +kernel
theorem dX1_merge_100 : decode cX1_merge 100 = .ok (.iload 5, 2) := by decide +kernel
theorem dX1_merge_102 : decode cX1_merge 102 = .ok (.iaload, 1) := by decide +kernel
theorem dX1_merge_103 : decode cX1_merge 103 = .ok (.iastore, 1) := by decide +kernel
theorem dX1_merge_104 : decode cX1_merge 104 = .ok (.aload_n 0, 1) := by decide +kernel
theorem dX1_merge_105 : decode cX1_merge 105 = .ok (.getfield 23, 3) := by decide +kernel
theorem dX1_merge_108 : decode cX1_merge 108 = .ok (.iload 6, 2) := by decide +kernel
theorem dX1_merge_110 : decode cX1_merge 110 = .ok (.iload 7, 2) := by decide +kernel
theorem dX1_merge_112 : decode cX1_merge 112 = .ok (.ifCond .eq 15, 3) := by decide +kernel
theorem dX1_merge_115 : decode cX1_merge 115 = .ok (.aload_n 0, 1) := by decide +kernel
theorem dX1_merge_116 : decode cX1_merge 116 = .ok (.getfield 13, 3) := by decide +kernel
theorem dX1_merge_119 : decode cX1_merge 119 = .ok (.iload_n 3, 1) := by decide +kernel
theorem dX1_merge_120 : decode cX1_merge 120 = .ok (.iload 4, 2) := by decide +kernel
theorem dX1_merge_122 : decode cX1_merge 122 = .ok (.iadd, 1) := by decide +kernel
theorem dX1_merge_123 : decode cX1_merge 123 = .ok (.baload, 1) := by decide +kernel
theorem dX1_merge_124 : decode cX1_merge 124 = .ok (.goto 10, 3) := by decide +kernel
theorem dX1_merge_127 : decode cX1_merge 127 = .ok (.aload_n 0, 1) := by decide +kernel
theorem dX1_merge_128 : decode cX1_merge 128 = .ok (.getfield 23, 3) := by decide +kernel
theorem dX1_merge_131 : decode cX1_merge 131 = .ok (.iload 5, 2) := by decide +kernel
theorem dX1_merge_133 : decode cX1_merge 133 = .ok (.baload, 1) := by decide +kernel
theorem dX1_merge_134 : decode cX1_merge 134 = .ok (.bastore, 1) := by decide +kernel
theorem dX1_merge_135 : decode cX1_merge 135 = .ok (.iload 7, 2) := by decide +kernel
theorem dX1_merge_137 : decode cX1_merge 137 = .ok (.ifCond .eq 9, 3) := by decide +kernel
theorem dX1_merge_140 : decode cX1_merge 140 = .ok (.iinc 4 (-1), 3) := by decide +kernel
theorem dX1_merge_143 : decode cX1_merge 143 = .ok (.goto 6, 3) := by decide +kernel
theorem dX1_merge_146 : decode cX1_merge 146 = .ok (.iinc 5 (-1), 3) := by decide +kernel
theorem dX1_merge_149 : decode cX1_merge 149 = .ok (.aload_n 0, 1) := by decide +kernel
theorem dX1_merge_150 : decode cX1_merge 150 = .ok (.dup, 1) := by decide +kernel
theorem dX1_merge_151 : decode cX1_merge 151 = .ok (.getfield 34, 3) := by decide +kernel
theorem dX1_merge_154 : decode cX1_merge 154 = .ok (.iconst 1, 1) := by decide +kernel
theorem dX1_merge_155 : decode cX1_merge 155 = .ok (.iadd, 1) := by decide +kernel
theorem dX1_merge_156 : decode cX1_merge 156 = .ok (.putfield 34, 3) := by decide +kernel
theorem dX1_merge_159 : decode cX1_merge 159 = .ok (.iinc 6 (-1), 3) := by decide +kernel
theorem dX1_merge_162 : decode cX1_merge 162 = .ok (.goto (-130), 3) := by decide +kernel
theorem dX1_merge_165 : decode cX1_merge 165 = .ok (.aload_n 0, 1) := by decide +kernel
theorem dX1_merge_166 : decode cX1_merge 166 = .ok (.getfield 17, 3) := by decide +kernel
theorem dX1_merge_169 : decode cX1_merge 169 = .ok (.iload_n 1, 1) := by decide +kernel
theorem dX1_merge_170 : decode cX1_merge 170 = .ok (.iconst 0, 1) := by decide +kernel
theorem dX1_merge_171 : decode cX1_merge 171 = .ok (.iastore, 1) := by decide +kernel
theorem dX1_merge_172 : decode cX1_merge 172 = .ok (.return_, 1) := by decide +kernel
theorem dX1_startOf_0 : decode cX1_startOf 0 = .ok (.iconst 1, 1) := by decide +kernel
theorem dX1_startOf_1 : decode cX1_startOf 1 = .ok (.iload_n 0, 1) := by decide +kernel
theorem dX1_startOf_2 : decode cX1_startOf 2 = .ok (.ishl, 1) := by decide +kernel
theorem dX1_startOf_3 : decode cX1_startOf 3 = .ok (.iconst 1, 1) := by decide +kernel
theorem dX1_startOf_4 : decode cX1_startOf 4 = .ok (.isub, 1) := by decide +kernel
theorem dX1_startOf_5 : decode cX1_startOf 5 = .ok (.ireturn, 1) := by decide +kernel
theorem dX1_keep_0 : decode cX1_keep 0 = .ok (.iconst 0, 1) := by decide +kernel
theorem dX1_keep_1 : decode cX1_keep 1 = .ok (.istore 4, 2) := by decide +kernel
theorem dX1_keep_3 : decode cX1_keep 3 = .ok (.iload 4, 2) := by decide +kernel
theorem dX1_keep_5 : decode cX1_keep 5 = .ok (.iload_n 3, 1) := by decide +kernel
theorem dX1_keep_6 : decode cX1_keep 6 = .ok (.if_icmp .ge 51, 3) := by decide +kernel
theorem dX1_keep_9 : decode cX1_keep 9 = .ok (.aload_n 0, 1) := by decide +kernel
theorem dX1_keep_10 : decode cX1_keep 10 = .ok (.getfield 7, 3) := by decide +kernel
theorem dX1_keep_13 : decode cX1_keep 13 = .ok (.iload_n 1, 1) := by decide +kernel
theorem dX1_keep_14 : decode cX1_keep 14 = .ok (.invokestatic 30, 3) := by decide +kernel
theorem dX1_keep_17 : decode cX1_keep 17 = .ok (.iload 4, 2) := by decide +kernel
theorem dX1_keep_19 : decode cX1_keep 19 = .ok (.iadd, 1) := by decide +kernel
theorem dX1_keep_20 : decode cX1_keep 20 = .ok (.aload_n 0, 1) := by decide +kernel
theorem dX1_keep_21 : decode cX1_keep 21 = .ok (.getfield 20, 3) := by decide +kernel
theorem dX1_keep_24 : decode cX1_keep 24 = .ok (.iload_n 2, 1) := by decide +kernel
theorem dX1_keep_25 : decode cX1_keep 25 = .ok (.iload 4, 2) := by decide +kernel
theorem dX1_keep_27 : decode cX1_keep 27 = .ok (.iadd, 1) := by decide +kernel
theorem dX1_keep_28 : decode cX1_keep 28 = .ok (.iaload, 1) := by decide +kernel
theorem dX1_keep_29 : decode cX1_keep 29 = .ok (.iastore, 1) := by decide +kernel
theorem dX1_keep_30 : decode cX1_keep 30 = .ok (.aload_n 0, 1) := by decide +kernel
theorem dX1_keep_31 : decode cX1_keep 31 = .ok (.getfield 13, 3) := by decide +kernel
theorem dX1_keep_34 : decode cX1_keep 34 = .ok (.iload_n 1, 1) := by decide +kernel
theorem dX1_keep_35 : decode cX1_keep 35 = .ok (.invokestatic 30, 3) := by decide +kernel
theorem dX1_keep_38 : decode cX1_keep 38 = .ok (.iload 4, 2) := by decide +kernel
theorem dX1_keep_40 : decode cX1_keep 40 = .ok (.iadd, 1) := by decide +kernel
theorem dX1_keep_41 : decode cX1_keep 41 = .ok (.aload_n 0, 1) := by decide +kernel
theorem dX1_keep_42 : decode cX1_keep 42 = .ok (.getfield 23, 3) := by decide +kernel
theorem dX1_keep_45 : decode cX1_keep 45 = .ok (.iload_n 2, 1) := by decide +kernel
theorem dX1_keep_46 : decode cX1_keep 46 = .ok (.iload 4, 2) := by decide +kernel
theorem dX1_keep_48 : decode cX1_keep 48 = .ok (.iadd, 1) := by decide +kernel
theorem dX1_keep_49 : decode cX1_keep 49 = .ok (.baload, 1) := by decide +kernel
theorem dX1_keep_50 : decode cX1_keep 50 = .ok (.bastore, 1) := by decide +kernel
theorem dX1_keep_51 : decode cX1_keep 51 = .ok (.iinc 4 1, 3) := by decide +kernel
theorem dX1_keep_54 : decode cX1_keep 54 = .ok (.goto (-51), 3) := by decide +kernel
theorem dX1_keep_57 : decode cX1_keep 57 = .ok (.aload_n 0, 1) := by decide +kernel
theorem dX1_keep_58 : decode cX1_keep 58 = .ok (.getfield 17, 3) := by decide +kernel
theorem dX1_keep_61 : decode cX1_keep 61 = .ok (.iload_n 1, 1) := by decide +kernel
theorem dX1_keep_62 : decode cX1_keep 62 = .ok (.iload_n 3, 1) := by decide +kernel
theorem dX1_keep_63 : decode cX1_keep 63 = .ok (.iastore, 1) := by decide +kernel
theorem dX1_keep_64 : decode cX1_keep 64 = .ok (.return_, 1) := by decide +kernel
theorem dX1_remove_0 : decode cX1_remove 0 = .ok (.iconst 0, 1) := by decide +kernel
theorem dX1_remove_1 : decode cX1_remove 1 = .ok (.istore_n 2, 1) := by decide +kernel
theorem dX1_remove_2 : decode cX1_remove 2 = .ok (.iload_n 2, 1) := by decide +kernel
theorem dX1_remove_3 : decode cX1_remove 3 = .ok (.bipush 10, 2) := by decide +kernel
theorem dX1_remove_5 : decode cX1_remove 5 = .ok (.if_icmp .ge 63, 3) := by decide +kernel
theorem dX1_remove_8 : decode cX1_remove 8 = .ok (.aload_n 0, 1) := by decide +kernel
theorem dX1_remove_9 : decode cX1_remove 9 = .ok (.iload_n 2, 1) := by decide +kernel
theorem dX1_remove_10 : decode cX1_remove 10 = .ok (.iload_n 1, 1) := by decide +kernel
theorem dX1_remove_11 : decode cX1_remove 11 = .ok (.invokevirtual 51, 3) := by decide +kernel
theorem dX1_remove_14 : decode cX1_remove 14 = .ok (.istore_n 3, 1) := by decide +kernel
theorem dX1_remove_15 : decode cX1_remove 15 = .ok (.iload_n 3, 1) := by decide +kernel
theorem dX1_remove_16 : decode cX1_remove 16 = .ok (.ifCond .ge 6, 3) := by decide +kernel
theorem dX1_remove_19 : decode cX1_remove 19 = .ok (.goto 43, 3) := by decide +kernel
theorem dX1_remove_22 : decode cX1_remove 22 = .ok (.aload_n 0, 1) := by decide +kernel
theorem dX1_remove_23 : decode cX1_remove 23 = .ok (.getfield 13, 3) := by decide +kernel
theorem dX1_remove_26 : decode cX1_remove 26 = .ok (.iload_n 3, 1) := by decide +kernel
theorem dX1_remove_27 : decode cX1_remove 27 = .ok (.iconst 1, 1) := by decide +kernel
theorem dX1_remove_28 : decode cX1_remove 28 = .ok (.bastore, 1) := by decide +kernel
theorem dX1_remove_29 : decode cX1_remove 29 = .ok (.aload_n 0, 1) := by decide +kernel
theorem dX1_remove_30 : decode cX1_remove 30 = .ok (.dup, 1) := by decide +kernel
theorem dX1_remove_31 : decode cX1_remove 31 = .ok (.getfield 37, 3) := by decide +kernel
theorem dX1_remove_34 : decode cX1_remove 34 = .ok (.iconst 1, 1) := by decide +kernel
theorem dX1_remove_35 : decode cX1_remove 35 = .ok (.isub, 1) := by decide +kernel
theorem dX1_remove_36 : decode cX1_remove 36 = .ok (.putfield 37, 3) := by decide +kernel
theorem dX1_remove_39 : decode cX1_remove 39 = .ok (.aload_n 0, 1) := by decide +kernel
theorem dX1_remove_40 : decode cX1_remove 40 = .ok (.getfield 48, 3) := by decide +kernel
theorem dX1_remove_43 : decode cX1_remove 43 = .ok (.aload_n 0, 1) := by decide +kernel
theorem dX1_remove_44 : decode cX1_remove 44 = .ok (.getfield 37, 3) := by decide +kernel
theorem dX1_remove_47 : decode cX1_remove 47 = .ok (.isub, 1) := by decide +kernel
theorem dX1_remove_48 : decode cX1_remove 48 = .ok (.aload_n 0, 1) := by decide +kernel
theorem dX1_remove_49 : decode cX1_remove 49 = .ok (.getfield 37, 3) := by decide +kernel
theorem dX1_remove_52 : decode cX1_remove 52 = .ok (.if_icmp .le 8, 3) := by decide +kernel
theorem dX1_remove_55 : decode cX1_remove 55 = .ok (.aload_n 0, 1) := by decide +kernel
theorem dX1_remove_56 : decode cX1_remove 56 = .ok (.invokevirtual 55, 3) := by decide +kernel
theorem dX1_remove_59 : decode cX1_remove 59 = .ok (.pop, 1) := by decide +kernel
theorem dX1_remove_60 : decode cX1_remove 60 = .ok (.iconst 1, 1) := by decide +kernel
theorem dX1_remove_61 : decode cX1_remove 61 = .ok (.ireturn, 1) := by decide +kernel
theorem dX1_remove_62 : decode cX1_remove 62 = .ok (.iinc 2 1, 3) := by decide +kernel
theorem dX1_remove_65 : decode cX1_remove 65 = .ok (.goto (-63), 3) := by decide +kernel
theorem dX1_remove_68 : decode cX1_remove 68 = .ok (.iconst 0, 1) := by decide +kernel
theorem dX1_remove_69 : decode cX1_remove 69 = .ok (.ireturn, 1) := by decide +kernel
theorem dX1_livingIn_0 : decode cX1_livingIn 0 = .ok (.iload_n 1, 1) := by decide +kernel
theorem dX1_livingIn_1 : decode cX1_livingIn 1 = .ok (.invokestatic 30, 3) := by decide +kernel
theorem dX1_livingIn_4 : decode cX1_livingIn 4 = .ok (.istore_n 3, 1) := by decide +kernel
theorem dX1_livingIn_5 : decode cX1_livingIn 5 = .ok (.iload_n 3, 1) := by decide +kernel
theorem dX1_livingIn_6 : decode cX1_livingIn 6 = .ok (.iload_n 1, 1) := by decide +kernel
theorem dX1_livingIn_7 : decode cX1_livingIn 7 = .ok (.invokestatic 30, 3) := by decide +kernel
theorem dX1_livingIn_10 : decode cX1_livingIn 10 = .ok (.aload_n 0, 1) := by decide +kernel
theorem dX1_livingIn_11 : decode cX1_livingIn 11 = .ok (.getfield 17, 3) := by decide +kernel
theorem dX1_livingIn_14 : decode cX1_livingIn 14 = .ok (.iload_n 1, 1) := by decide +kernel
theorem dX1_livingIn_15 : decode cX1_livingIn 15 = .ok (.iaload, 1) := by decide +kernel
theorem dX1_livingIn_16 : decode cX1_livingIn 16 = .ok (.iadd, 1) := by decide +kernel
theorem dX1_livingIn_17 : decode cX1_livingIn 17 = .ok (.if_icmp .ge 30, 3) := by decide +kernel
theorem dX1_livingIn_20 : decode cX1_livingIn 20 = .ok (.aload_n 0, 1) := by decide +kernel
theorem dX1_livingIn_21 : decode cX1_livingIn 21 = .ok (.getfield 7, 3) := by decide +kernel
theorem dX1_livingIn_24 : decode cX1_livingIn 24 = .ok (.iload_n 3, 1) := by decide +kernel
theorem dX1_livingIn_25 : decode cX1_livingIn 25 = .ok (.iaload, 1) := by decide +kernel
theorem dX1_livingIn_26 : decode cX1_livingIn 26 = .ok (.iload_n 2, 1) := by decide +kernel
theorem dX1_livingIn_27 : decode cX1_livingIn 27 = .ok (.if_icmp .ne 14, 3) := by decide +kernel
theorem dX1_livingIn_30 : decode cX1_livingIn 30 = .ok (.aload_n 0, 1) := by decide +kernel
theorem dX1_livingIn_31 : decode cX1_livingIn 31 = .ok (.getfield 13, 3) := by decide +kernel
theorem dX1_livingIn_34 : decode cX1_livingIn 34 = .ok (.iload_n 3, 1) := by decide +kernel
theorem dX1_livingIn_35 : decode cX1_livingIn 35 = .ok (.baload, 1) := by decide +kernel
theorem dX1_livingIn_36 : decode cX1_livingIn 36 = .ok (.ifCond .ne 5, 3) := by decide +kernel
theorem dX1_livingIn_39 : decode cX1_livingIn 39 = .ok (.iload_n 3, 1) := by decide +kernel
theorem dX1_livingIn_40 : decode cX1_livingIn 40 = .ok (.ireturn, 1) := by decide +kernel
theorem dX1_livingIn_41 : decode cX1_livingIn 41 = .ok (.iinc 3 1, 3) := by decide +kernel
theorem dX1_livingIn_44 : decode cX1_livingIn 44 = .ok (.goto (-39), 3) := by decide +kernel
theorem dX1_livingIn_47 : decode cX1_livingIn 47 = .ok (.iconst (-1), 1) := by decide +kernel
theorem dX1_livingIn_48 : decode cX1_livingIn 48 = .ok (.ireturn, 1) := by decide +kernel
theorem dX1_rebuild_0 : decode cX1_rebuild 0 = .ok (.aload_n 0, 1) := by decide +kernel
theorem dX1_rebuild_1 : decode cX1_rebuild 1 = .ok (.getfield 48, 3) := by decide +kernel
theorem dX1_rebuild_4 : decode cX1_rebuild 4 = .ok (.aload_n 0, 1) := by decide +kernel
theorem dX1_rebuild_5 : decode cX1_rebuild 5 = .ok (.getfield 37, 3) := by decide +kernel
theorem dX1_rebuild_8 : decode cX1_rebuild 8 = .ok (.isub, 1) := by decide +kernel
theorem dX1_rebuild_9 : decode cX1_rebuild 9 = .ok (.istore_n 1, 1) := by decide +kernel
theorem dX1_rebuild_10 : decode cX1_rebuild 10 = .ok (.aload_n 0, 1) := by decide +kernel
theorem dX1_rebuild_11 : decode cX1_rebuild 11 = .ok (.invokevirtual 59, 3) := by decide +kernel
theorem dX1_rebuild_14 : decode cX1_rebuild 14 = .ok (.iconst 0, 1) := by decide +kernel
theorem dX1_rebuild_15 : decode cX1_rebuild 15 = .ok (.istore_n 2, 1) := by decide +kernel
theorem dX1_rebuild_16 : decode cX1_rebuild 16 = .ok (.bipush 9, 2) := by decide +kernel
theorem dX1_rebuild_18 : decode cX1_rebuild 18 = .ok (.istore_n 3, 1) := by decide +kernel
theorem dX1_rebuild_19 : decode cX1_rebuild 19 = .ok (.iload_n 3, 1) := by decide +kernel
theorem dX1_rebuild_20 : decode cX1_rebuild 20 = .ok (.ifCond .lt 38, 3) := by decide +kernel
theorem dX1_rebuild_23 : decode cX1_rebuild 23 = .ok (.aload_n 0, 1) := by decide +kernel
theorem dX1_rebuild_24 : decode cX1_rebuild 24 = .ok (.getfield 37, 3) := by decide +kernel
theorem dX1_rebuild_27 : decode cX1_rebuild 27 = .ok (.iload_n 3, 1) := by decide +kernel
theorem dX1_rebuild_28 : decode cX1_rebuild 28 = .ok (.ishr, 1) := by decide +kernel
theorem dX1_rebuild_29 : decode cX1_rebuild 29 = .ok (.iconst 1, 1) := by decide +kernel
theorem dX1_rebuild_30 : decode cX1_rebuild 30 = .ok (.iand, 1) := by decide +kernel
theorem dX1_rebuild_31 : decode cX1_rebuild 31 = .ok (.ifCond .ne 6, 3) := by decide +kernel
theorem dX1_rebuild_34 : decode cX1_rebuild 34 = .ok (.goto 18, 3) := by decide +kernel
theorem dX1_rebuild_37 : decode cX1_rebuild 37 = .ok (.aload_n 0, 1) := by decide +kernel
theorem dX1_rebuild_38 : decode cX1_rebuild 38 = .ok (.iload_n 3, 1) := by decide +kernel
theorem dX1_rebuild_39 : decode cX1_rebuild 39 = .ok (.iload_n 2, 1) := by decide +kernel
theorem dX1_rebuild_40 : decode cX1_rebuild 40 = .ok (.iconst 1, 1) := by decide +kernel
theorem dX1_rebuild_41 : decode cX1_rebuild 41 = .ok (.iload_n 3, 1) := by decide +kernel
theorem dX1_rebuild_42 : decode cX1_rebuild 42 = .ok (.ishl, 1) := by decide +kernel
theorem dX1_rebuild_43 : decode cX1_rebuild 43 = .ok (.invokevirtual 44, 3) := by decide +kernel
theorem dX1_rebuild_46 : decode cX1_rebuild 46 = .ok (.iload_n 2, 1) := by decide +kernel
theorem dX1_rebuild_47 : decode cX1_rebuild 47 = .ok (.iconst 1, 1) := by decide +kernel
theorem dX1_rebuild_48 : decode cX1_rebuild 48 = .ok (.iload_n 3, 1) := by decide +kernel
theorem dX1_rebuild_49 : decode cX1_rebuild 49 = .ok (.ishl, 1) := by decide +kernel
theorem dX1_rebuild_50 : decode cX1_rebuild 50 = .ok (.iadd, 1) := by decide +kernel
theorem dX1_rebuild_51 : decode cX1_rebuild 51 = .ok (.istore_n 2, 1) := by decide +kernel
theorem dX1_rebuild_52 : decode cX1_rebuild 52 = .ok (.iinc 3 (-1), 3) := by decide +kernel
theorem dX1_rebuild_55 : decode cX1_rebuild 55 = .ok (.goto (-36), 3) := by decide +kernel
theorem dX1_rebuild_58 : decode cX1_rebuild 58 = .ok (.aload_n 0, 1) := by decide +kernel
theorem dX1_rebuild_59 : decode cX1_rebuild 59 = .ok (.dup, 1) := by decide +kernel
theorem dX1_rebuild_60 : decode cX1_rebuild 60 = .ok (.getfield 34, 3) := by decide +kernel
theorem dX1_rebuild_63 : decode cX1_rebuild 63 = .ok (.aload_n 0, 1) := by decide +kernel
theorem dX1_rebuild_64 : decode cX1_rebuild 64 = .ok (.getfield 37, 3) := by decide +kernel
theorem dX1_rebuild_67 : decode cX1_rebuild 67 = .ok (.iadd, 1) := by decide +kernel
theorem dX1_rebuild_68 : decode cX1_rebuild 68 = .ok (.putfield 34, 3) := by decide +kernel
theorem dX1_rebuild_71 : decode cX1_rebuild 71 = .ok (.aload_n 0, 1) := by decide +kernel
theorem dX1_rebuild_72 : decode cX1_rebuild 72 = .ok (.aload_n 0, 1) := by decide +kernel
theorem dX1_rebuild_73 : decode cX1_rebuild 73 = .ok (.getfield 37, 3) := by decide +kernel
theorem dX1_rebuild_76 : decode cX1_rebuild 76 = .ok (.putfield 48, 3) := by decide +kernel
theorem dX1_rebuild_79 : decode cX1_rebuild 79 = .ok (.iload_n 1, 1) := by decide +kernel
theorem dX1_rebuild_80 : decode cX1_rebuild 80 = .ok (.ireturn, 1) := by decide +kernel
theorem dX1_gather_0 : decode cX1_gather 0 = .ok (.iconst 0, 1) := by decide +kernel
end
section
set_option maxRecDepth 100000
theorem dX1_gather_1 : decode cX1_gather 1 = .ok (.istore_n 1, 1) := by decide +kernel
theorem dX1_gather_2 : decode cX1_gather 2 = .ok (.iconst 0, 1) := by decide +kernel
theorem dX1_gather_3 : decode cX1_gather 3 = .ok (.istore_n 2, 1) := by decide +kernel
theorem dX1_gather_4 : decode cX1_gather 4 = .ok (.iload_n 2, 1) := by decide +kernel
theorem dX1_gather_5 : decode cX1_gather 5 = .ok (.bipush 10, 2) := by decide +kernel
theorem dX1_gather_7 : decode cX1_gather 7 = .ok (.if_icmp .ge 118, 3) := by decide +kernel
theorem dX1_gather_10 : decode cX1_gather 10 = .ok (.iload_n 2, 1) := by decide +kernel
theorem dX1_gather_11 : decode cX1_gather 11 = .ok (.invokestatic 30, 3) := by decide +kernel
theorem dX1_gather_14 : decode cX1_gather 14 = .ok (.istore_n 3, 1) := by decide +kernel
theorem dX1_gather_15 : decode cX1_gather 15 = .ok (.iload_n 3, 1) := by decide +kernel
theorem dX1_gather_16 : decode cX1_gather 16 = .ok (.iload_n 2, 1) := by decide +kernel
theorem dX1_gather_17 : decode cX1_gather 17 = .ok (.invokestatic 30, 3) := by decide +kernel
theorem dX1_gather_20 : decode cX1_gather 20 = .ok (.aload_n 0, 1) := by decide +kernel
theorem dX1_gather_21 : decode cX1_gather 21 = .ok (.getfield 17, 3) := by decide +kernel
theorem dX1_gather_24 : decode cX1_gather 24 = .ok (.iload_n 2, 1) := by decide +kernel
theorem dX1_gather_25 : decode cX1_gather 25 = .ok (.iaload, 1) := by decide +kernel
theorem dX1_gather_26 : decode cX1_gather 26 = .ok (.iadd, 1) := by decide +kernel
theorem dX1_gather_27 : decode cX1_gather 27 = .ok (.if_icmp .ge 85, 3) := by decide +kernel
theorem dX1_gather_30 : decode cX1_gather 30 = .ok (.aload_n 0, 1) := by decide +kernel
theorem dX1_gather_31 : decode cX1_gather 31 = .ok (.getfield 13, 3) := by decide +kernel
theorem dX1_gather_34 : decode cX1_gather 34 = .ok (.iload_n 3, 1) := by decide +kernel
theorem dX1_gather_35 : decode cX1_gather 35 = .ok (.baload, 1) := by decide +kernel
theorem dX1_gather_36 : decode cX1_gather 36 = .ok (.ifCond .eq 6, 3) := by decide +kernel
theorem dX1_gather_39 : decode cX1_gather 39 = .ok (.goto 67, 3) := by decide +kernel
theorem dX1_gather_42 : decode cX1_gather 42 = .ok (.iload_n 1, 1) := by decide +kernel
theorem dX1_gather_43 : decode cX1_gather 43 = .ok (.iinc 1 1, 3) := by decide +kernel
theorem dX1_gather_46 : decode cX1_gather 46 = .ok (.istore 4, 2) := by decide +kernel
theorem dX1_gather_48 : decode cX1_gather 48 = .ok (.iload 4, 2) := by decide +kernel
theorem dX1_gather_50 : decode cX1_gather 50 = .ok (.ifCond .le 43, 3) := by decide +kernel
theorem dX1_gather_53 : decode cX1_gather 53 = .ok (.aload_n 0, 1) := by decide +kernel
theorem dX1_gather_54 : decode cX1_gather 54 = .ok (.getfield 20, 3) := by decide +kernel
theorem dX1_gather_57 : decode cX1_gather 57 = .ok (.iload 4, 2) := by decide +kernel
theorem dX1_gather_59 : decode cX1_gather 59 = .ok (.iconst 1, 1) := by decide +kernel
theorem dX1_gather_60 : decode cX1_gather 60 = .ok (.isub, 1) := by decide +kernel
theorem dX1_gather_61 : decode cX1_gather 61 = .ok (.iaload, 1) := by decide +kernel
theorem dX1_gather_62 : decode cX1_gather 62 = .ok (.aload_n 0, 1) := by decide +kernel
theorem dX1_gather_63 : decode cX1_gather 63 = .ok (.getfield 7, 3) := by decide +kernel
theorem dX1_gather_66 : decode cX1_gather 66 = .ok (.iload_n 3, 1) := by decide +kernel
theorem dX1_gather_67 : decode cX1_gather 67 = .ok (.iaload, 1) := by decide +kernel
theorem dX1_gather_68 : decode cX1_gather 68 = .ok (.if_icmp .le 25, 3) := by decide +kernel
theorem dX1_gather_71 : decode cX1_gather 71 = .ok (.aload_n 0, 1) := by decide +kernel
theorem dX1_gather_72 : decode cX1_gather 72 = .ok (.getfield 20, 3) := by decide +kernel
theorem dX1_gather_75 : decode cX1_gather 75 = .ok (.iload 4, 2) := by decide +kernel
theorem dX1_gather_77 : decode cX1_gather 77 = .ok (.aload_n 0, 1) := by decide +kernel
theorem dX1_gather_78 : decode cX1_gather 78 = .ok (.getfield 20, 3) := by decide +kernel
theorem dX1_gather_81 : decode cX1_gather 81 = .ok (.iload 4, 2) := by decide +kernel
theorem dX1_gather_83 : decode cX1_gather 83 = .ok (.iconst 1, 1) := by decide +kernel
theorem dX1_gather_84 : decode cX1_gather 84 = .ok (.isub, 1) := by decide +kernel
theorem dX1_gather_85 : decode cX1_gather 85 = .ok (.iaload, 1) := by decide +kernel
theorem dX1_gather_86 : decode cX1_gather 86 = .ok (.iastore, 1) := by decide +kernel
theorem dX1_gather_87 : decode cX1_gather 87 = .ok (.iinc 4 (-1), 3) := by decide +kernel
theorem dX1_gather_90 : decode cX1_gather 90 = .ok (.goto (-42), 3) := by decide +kernel
theorem dX1_gather_93 : decode cX1_gather 93 = .ok (.aload_n 0, 1) := by decide +kernel
theorem dX1_gather_94 : decode cX1_gather 94 = .ok (.getfield 20, 3) := by decide +kernel
theorem dX1_gather_97 : decode cX1_gather 97 = .ok (.iload 4, 2) := by decide +kernel
theorem dX1_gather_99 : decode cX1_gather 99 = .ok (.aload_n 0, 1) := by decide +kernel
theorem dX1_gather_100 : decode cX1_gather 100 = .ok (.getfield 7, 3) := by decide +kernel
theorem dX1_gather_103 : decode cX1_gather 103 = .ok (.iload_n 3, 1) := by decide +kernel
theorem dX1_gather_104 : decode cX1_gather 104 = .ok (.iaload, 1) := by decide +kernel
theorem dX1_gather_105 : decode cX1_gather 105 = .ok (.iastore, 1) := by decide +kernel
theorem dX1_gather_106 : decode cX1_gather 106 = .ok (.iinc 3 1, 3) := by decide +kernel
theorem dX1_gather_109 : decode cX1_gather 109 = .ok (.goto (-94), 3) := by decide +kernel
theorem dX1_gather_112 : decode cX1_gather 112 = .ok (.aload_n 0, 1) := by decide +kernel
theorem dX1_gather_113 : decode cX1_gather 113 = .ok (.getfield 17, 3) := by decide +kernel
theorem dX1_gather_116 : decode cX1_gather 116 = .ok (.iload_n 2, 1) := by decide +kernel
theorem dX1_gather_117 : decode cX1_gather 117 = .ok (.iconst 0, 1) := by decide +kernel
theorem dX1_gather_118 : decode cX1_gather 118 = .ok (.iastore, 1) := by decide +kernel
theorem dX1_gather_119 : decode cX1_gather 119 = .ok (.iinc 2 1, 3) := by decide +kernel
theorem dX1_gather_122 : decode cX1_gather 122 = .ok (.goto (-118), 3) := by decide +kernel
theorem dX1_gather_125 : decode cX1_gather 125 = .ok (.iconst 0, 1) := by decide +kernel
theorem dX1_gather_126 : decode cX1_gather 126 = .ok (.istore_n 2, 1) := by decide +kernel
theorem dX1_gather_127 : decode cX1_gather 127 = .ok (.iload_n 2, 1) := by decide +kernel
theorem dX1_gather_128 : decode cX1_gather 128 = .ok (.iload_n 1, 1) := by decide +kernel
theorem dX1_gather_129 : decode cX1_gather 129 = .ok (.if_icmp .ge 16, 3) := by decide +kernel
theorem dX1_gather_132 : decode cX1_gather 132 = .ok (.aload_n 0, 1) := by decide +kernel
theorem dX1_gather_133 : decode cX1_gather 133 = .ok (.getfield 23, 3) := by decide +kernel
theorem dX1_gather_136 : decode cX1_gather 136 = .ok (.iload_n 2, 1) := by decide +kernel
theorem dX1_gather_137 : decode cX1_gather 137 = .ok (.iconst 0, 1) := by decide +kernel
theorem dX1_gather_138 : decode cX1_gather 138 = .ok (.bastore, 1) := by decide +kernel
theorem dX1_gather_139 : decode cX1_gather 139 = .ok (.iinc 2 1, 3) := by decide +kernel
theorem dX1_gather_142 : decode cX1_gather 142 = .ok (.goto (-15), 3) := by decide +kernel
theorem dX1_gather_145 : decode cX1_gather 145 = .ok (.return_, 1) := by decide +kernel
theorem dX1_count_0 : decode cX1_count 0 = .ok (.aload_n 0, 1) := by decide +kernel
theorem dX1_count_1 : decode cX1_count 1 = .ok (.iconst 0, 1) := by decide +kernel
theorem dX1_count_2 : decode cX1_count 2 = .ok (.putfield 62, 3) := by decide +kernel
theorem dX1_count_5 : decode cX1_count 5 = .ok (.aload_n 0, 1) := by decide +kernel
theorem dX1_count_6 : decode cX1_count 6 = .ok (.iload_n 1, 1) := by decide +kernel
theorem dX1_count_7 : decode cX1_count 7 = .ok (.i2l, 1) := by decide +kernel
theorem dX1_count_8 : decode cX1_count 8 = .ok (.invokevirtual 72, 3) := by decide +kernel
theorem dX1_count_11 : decode cX1_count 11 = .ok (.istore_n 2, 1) := by decide +kernel
theorem dX1_count_12 : decode cX1_count 12 = .ok (.aload_n 0, 1) := by decide +kernel
theorem dX1_count_13 : decode cX1_count 13 = .ok (.iload_n 1, 1) := by decide +kernel
theorem dX1_count_14 : decode cX1_count 14 = .ok (.i2l, 1) := by decide +kernel
theorem dX1_count_15 : decode cX1_count 15 = .ok (.lconst 1, 1) := by decide +kernel
theorem dX1_count_16 : decode cX1_count 16 = .ok (.ladd, 1) := by decide +kernel
theorem dX1_count_17 : decode cX1_count 17 = .ok (.invokevirtual 72, 3) := by decide +kernel
theorem dX1_count_20 : decode cX1_count 20 = .ok (.iload_n 2, 1) := by decide +kernel
theorem dX1_count_21 : decode cX1_count 21 = .ok (.isub, 1) := by decide +kernel
theorem dX1_count_22 : decode cX1_count 22 = .ok (.ireturn, 1) := by decide +kernel
theorem dX1_below_0 : decode cX1_below 0 = .ok (.iconst 0, 1) := by decide +kernel
theorem dX1_below_1 : decode cX1_below 1 = .ok (.istore_n 3, 1) := by decide +kernel
theorem dX1_below_2 : decode cX1_below 2 = .ok (.iconst 0, 1) := by decide +kernel
theorem dX1_below_3 : decode cX1_below 3 = .ok (.istore 4, 2) := by decide +kernel
theorem dX1_below_5 : decode cX1_below 5 = .ok (.iload 4, 2) := by decide +kernel
theorem dX1_below_7 : decode cX1_below 7 = .ok (.bipush 10, 2) := by decide +kernel
theorem dX1_below_9 : decode cX1_below 9 = .ok (.if_icmp .ge 25, 3) := by decide +kernel
theorem dX1_below_12 : decode cX1_below 12 = .ok (.iload_n 3, 1) := by decide +kernel
theorem dX1_below_13 : decode cX1_below 13 = .ok (.aload_n 0, 1) := by decide +kernel
theorem dX1_below_14 : decode cX1_below 14 = .ok (.iload 4, 2) := by decide +kernel
theorem dX1_below_16 : decode cX1_below 16 = .ok (.aload_n 0, 1) := by decide +kernel
theorem dX1_below_17 : decode cX1_below 17 = .ok (.iload 4, 2) := by decide +kernel
theorem dX1_below_19 : decode cX1_below 19 = .ok (.lload_n 1, 1) := by decide +kernel
theorem dX1_below_20 : decode cX1_below 20 = .ok (.invokevirtual 65, 3) := by decide +kernel
theorem dX1_below_23 : decode cX1_below 23 = .ok (.invokevirtual 69, 3) := by decide +kernel
theorem dX1_below_26 : decode cX1_below 26 = .ok (.iadd, 1) := by decide +kernel
theorem dX1_below_27 : decode cX1_below 27 = .ok (.istore_n 3, 1) := by decide +kernel
theorem dX1_below_28 : decode cX1_below 28 = .ok (.iinc 4 1, 3) := by decide +kernel
theorem dX1_below_31 : decode cX1_below 31 = .ok (.goto (-26), 3) := by decide +kernel
theorem dX1_below_34 : decode cX1_below 34 = .ok (.iload_n 3, 1) := by decide +kernel
theorem dX1_below_35 : decode cX1_below 35 = .ok (.ireturn, 1) := by decide +kernel
theorem dX1_search_0 : decode cX1_search 0 = .ok (.iconst 0, 1) := by decide +kernel
theorem dX1_search_1 : decode cX1_search 1 = .ok (.istore 4, 2) := by decide +kernel
theorem dX1_search_3 : decode cX1_search 3 = .ok (.aload_n 0, 1) := by decide +kernel
theorem dX1_search_4 : decode cX1_search 4 = .ok (.getfield 17, 3) := by decide +kernel
theorem dX1_search_7 : decode cX1_search 7 = .ok (.iload_n 1, 1) := by decide +kernel
theorem dX1_search_8 : decode cX1_search 8 = .ok (.iaload, 1) := by decide +kernel
theorem dX1_search_9 : decode cX1_search 9 = .ok (.istore 5, 2) := by decide +kernel
theorem dX1_search_11 : decode cX1_search 11 = .ok (.iload 4, 2) := by decide +kernel
theorem dX1_search_13 : decode cX1_search 13 = .ok (.iload 5, 2) := by decide +kernel
theorem dX1_search_15 : decode cX1_search 15 = .ok (.if_icmp .ge 56, 3) := by decide +kernel
theorem dX1_search_18 : decode cX1_search 18 = .ok (.iload 4, 2) := by decide +kernel
theorem dX1_search_20 : decode cX1_search 20 = .ok (.iload 5, 2) := by decide +kernel
theorem dX1_search_22 : decode cX1_search 22 = .ok (.iadd, 1) := by decide +kernel
theorem dX1_search_23 : decode cX1_search 23 = .ok (.iconst 1, 1) := by decide +kernel
theorem dX1_search_24 : decode cX1_search 24 = .ok (.ishr, 1) := by decide +kernel
theorem dX1_search_25 : decode cX1_search 25 = .ok (.istore 6, 2) := by decide +kernel
theorem dX1_search_27 : decode cX1_search 27 = .ok (.aload_n 0, 1) := by decide +kernel
theorem dX1_search_28 : decode cX1_search 28 = .ok (.dup, 1) := by decide +kernel
theorem dX1_search_29 : decode cX1_search 29 = .ok (.getfield 62, 3) := by decide +kernel
theorem dX1_search_32 : decode cX1_search 32 = .ok (.iconst 1, 1) := by decide +kernel
theorem dX1_search_33 : decode cX1_search 33 = .ok (.iadd, 1) := by decide +kernel
theorem dX1_search_34 : decode cX1_search 34 = .ok (.putfield 62, 3) := by decide +kernel
theorem dX1_search_37 : decode cX1_search 37 = .ok (.aload_n 0, 1) := by decide +kernel
theorem dX1_search_38 : decode cX1_search 38 = .ok (.getfield 7, 3) := by decide +kernel
theorem dX1_search_41 : decode cX1_search 41 = .ok (.iload_n 1, 1) := by decide +kernel
theorem dX1_search_42 : decode cX1_search 42 = .ok (.invokestatic 30, 3) := by decide +kernel
theorem dX1_search_45 : decode cX1_search 45 = .ok (.iload 6, 2) := by decide +kernel
theorem dX1_search_47 : decode cX1_search 47 = .ok (.iadd, 1) := by decide +kernel
theorem dX1_search_48 : decode cX1_search 48 = .ok (.iaload, 1) := by decide +kernel
theorem dX1_search_49 : decode cX1_search 49 = .ok (.i2l, 1) := by decide +kernel
theorem dX1_search_50 : decode cX1_search 50 = .ok (.lload_n 2, 1) := by decide +kernel
theorem dX1_search_51 : decode cX1_search 51 = .ok (.lcmp, 1) := by decide +kernel
theorem dX1_search_52 : decode cX1_search 52 = .ok (.ifCond .ge 12, 3) := by decide +kernel
theorem dX1_search_55 : decode cX1_search 55 = .ok (.iload 6, 2) := by decide +kernel
theorem dX1_search_57 : decode cX1_search 57 = .ok (.iconst 1, 1) := by decide +kernel
theorem dX1_search_58 : decode cX1_search 58 = .ok (.iadd, 1) := by decide +kernel
theorem dX1_search_59 : decode cX1_search 59 = .ok (.istore 4, 2) := by decide +kernel
theorem dX1_search_61 : decode cX1_search 61 = .ok (.goto 7, 3) := by decide +kernel
theorem dX1_search_64 : decode cX1_search 64 = .ok (.iload 6, 2) := by decide +kernel
theorem dX1_search_66 : decode cX1_search 66 = .ok (.istore 5, 2) := by decide +kernel
theorem dX1_search_68 : decode cX1_search 68 = .ok (.goto (-57), 3) := by decide +kernel
theorem dX1_search_71 : decode cX1_search 71 = .ok (.iload 4, 2) := by decide +kernel
theorem dX1_search_73 : decode cX1_search 73 = .ok (.ireturn, 1) := by decide +kernel
theorem dX1_livingBefore_0 : decode cX1_livingBefore 0 = .ok (.iconst 0, 1) := by decide +kernel
theorem dX1_livingBefore_1 : decode cX1_livingBefore 1 = .ok (.istore_n 3, 1) := by decide +kernel
theorem dX1_livingBefore_2 : decode cX1_livingBefore 2 = .ok (.iload_n 1, 1) := by decide +kernel
theorem dX1_livingBefore_3 : decode cX1_livingBefore 3 = .ok (.invokestatic 30, 3) := by decide +kernel
theorem dX1_livingBefore_6 : decode cX1_livingBefore 6 = .ok (.istore 4, 2) := by decide +kernel
theorem dX1_livingBefore_8 : decode cX1_livingBefore 8 = .ok (.iload 4, 2) := by decide +kernel
theorem dX1_livingBefore_10 : decode cX1_livingBefore 10 = .ok (.iload_n 1, 1) := by decide +kernel
theorem dX1_livingBefore_11 : decode cX1_livingBefore 11 = .ok (.invokestatic 30, 3) := by decide +kernel
theorem dX1_livingBefore_14 : decode cX1_livingBefore 14 = .ok (.iload_n 2, 1) := by decide +kernel
theorem dX1_livingBefore_15 : decode cX1_livingBefore 15 = .ok (.iadd, 1) := by decide +kernel
theorem dX1_livingBefore_16 : decode cX1_livingBefore 16 = .ok (.if_icmp .ge 27, 3) := by decide +kernel
theorem dX1_livingBefore_19 : decode cX1_livingBefore 19 = .ok (.iload_n 3, 1) := by decide +kernel
theorem dX1_livingBefore_20 : decode cX1_livingBefore 20 = .ok (.aload_n 0, 1) := by decide +kernel
theorem dX1_livingBefore_21 : decode cX1_livingBefore 21 = .ok (.getfield 13, 3) := by decide +kernel
theorem dX1_livingBefore_24 : decode cX1_livingBefore 24 = .ok (.iload 4, 2) := by decide +kernel
theorem dX1_livingBefore_26 : decode cX1_livingBefore 26 = .ok (.baload, 1) := by decide +kernel
theorem dX1_livingBefore_27 : decode cX1_livingBefore 27 = .ok (.ifCond .eq 7, 3) := by decide +kernel
theorem dX1_livingBefore_30 : decode cX1_livingBefore 30 = .ok (.iconst 0, 1) := by decide +kernel
theorem dX1_livingBefore_31 : decode cX1_livingBefore 31 = .ok (.goto 4, 3) := by decide +kernel
theorem dX1_livingBefore_34 : decode cX1_livingBefore 34 = .ok (.iconst 1, 1) := by decide +kernel
theorem dX1_livingBefore_35 : decode cX1_livingBefore 35 = .ok (.iadd, 1) := by decide +kernel
theorem dX1_livingBefore_36 : decode cX1_livingBefore 36 = .ok (.istore_n 3, 1) := by decide +kernel
theorem dX1_livingBefore_37 : decode cX1_livingBefore 37 = .ok (.iinc 4 1, 3) := by decide +kernel
theorem dX1_livingBefore_40 : decode cX1_livingBefore 40 = .ok (.goto (-32), 3) := by decide +kernel
theorem dX1_livingBefore_43 : decode cX1_livingBefore 43 = .ok (.iload_n 3, 1) := by decide +kernel
theorem dX1_livingBefore_44 : decode cX1_livingBefore 44 = .ok (.ireturn, 1) := by decide +kernel
theorem dX1_rank_0 : decode cX1_rank 0 = .ok (.aload_n 0, 1) := by decide +kernel
theorem dX1_rank_1 : decode cX1_rank 1 = .ok (.iconst 0, 1) := by decide +kernel
theorem dX1_rank_2 : decode cX1_rank 2 = .ok (.putfield 62, 3) := by decide +kernel
theorem dX1_rank_5 : decode cX1_rank 5 = .ok (.aload_n 0, 1) := by decide +kernel
theorem dX1_rank_6 : decode cX1_rank 6 = .ok (.iload_n 1, 1) := by decide +kernel
theorem dX1_rank_7 : decode cX1_rank 7 = .ok (.i2l, 1) := by decide +kernel
theorem dX1_rank_8 : decode cX1_rank 8 = .ok (.invokevirtual 72, 3) := by decide +kernel
theorem dX1_rank_11 : decode cX1_rank 11 = .ok (.ireturn, 1) := by decide +kernel
theorem dX1_select_0 : decode cX1_select 0 = .ok (.aload_n 0, 1) := by decide +kernel
theorem dX1_select_1 : decode cX1_select 1 = .ok (.iconst 0, 1) := by decide +kernel
theorem dX1_select_2 : decode cX1_select 2 = .ok (.putfield 62, 3) := by decide +kernel
theorem dX1_select_5 : decode cX1_select 5 = .ok (.iload_n 1, 1) := by decide +kernel
theorem dX1_select_6 : decode cX1_select 6 = .ok (.ifCond .lt 11, 3) := by decide +kernel
theorem dX1_select_9 : decode cX1_select 9 = .ok (.iload_n 1, 1) := by decide +kernel
theorem dX1_select_10 : decode cX1_select 10 = .ok (.aload_n 0, 1) := by decide +kernel
theorem dX1_select_11 : decode cX1_select 11 = .ok (.getfield 37, 3) := by decide +kernel
theorem dX1_select_14 : decode cX1_select 14 = .ok (.if_icmp .lt 5, 3) := by decide +kernel
theorem dX1_select_17 : decode cX1_select 17 = .ok (.iconst 0, 1) := by decide +kernel
theorem dX1_select_18 : decode cX1_select 18 = .ok (.ireturn, 1) := by decide +kernel
theorem dX1_select_19 : decode cX1_select 19 = .ok (.ldc2_w 76, 3) := by decide +kernel
theorem dX1_select_22 : decode cX1_select 22 = .ok (.lstore_n 2, 1) := by decide +kernel
theorem dX1_select_23 : decode cX1_select 23 = .ok (.ldc2_w 78, 3) := by decide +kernel
theorem dX1_select_26 : decode cX1_select 26 = .ok (.lstore 4, 2) := by decide +kernel
theorem dX1_select_28 : decode cX1_select 28 = .ok (.lload_n 2, 1) := by decide +kernel
theorem dX1_select_29 : decode cX1_select 29 = .ok (.lload 4, 2) := by decide +kernel
theorem dX1_select_31 : decode cX1_select 31 = .ok (.lcmp, 1) := by decide +kernel
theorem dX1_select_32 : decode cX1_select 32 = .ok (.ifCond .ge 38, 3) := by decide +kernel
theorem dX1_select_35 : decode cX1_select 35 = .ok (.lload_n 2, 1) := by decide +kernel
theorem dX1_select_36 : decode cX1_select 36 = .ok (.lload 4, 2) := by decide +kernel
theorem dX1_select_38 : decode cX1_select 38 = .ok (.ladd, 1) := by decide +kernel
theorem dX1_select_39 : decode cX1_select 39 = .ok (.iconst 1, 1) := by decide +kernel
theorem dX1_select_40 : decode cX1_select 40 = .ok (.lshr, 1) := by decide +kernel
theorem dX1_select_41 : decode cX1_select 41 = .ok (.lstore 6, 2) := by decide +kernel
theorem dX1_select_43 : decode cX1_select 43 = .ok (.aload_n 0, 1) := by decide +kernel
theorem dX1_select_44 : decode cX1_select 44 = .ok (.lload 6, 2) := by decide +kernel
theorem dX1_select_46 : decode cX1_select 46 = .ok (.lconst 1, 1) := by decide +kernel
theorem dX1_select_47 : decode cX1_select 47 = .ok (.ladd, 1) := by decide +kernel
theorem dX1_select_48 : decode cX1_select 48 = .ok (.invokevirtual 72, 3) := by decide +kernel
theorem dX1_select_51 : decode cX1_select 51 = .ok (.iload_n 1, 1) := by decide +kernel
theorem dX1_select_52 : decode cX1_select 52 = .ok (.if_icmp .le 10, 3) := by decide +kernel
theorem dX1_select_55 : decode cX1_select 55 = .ok (.lload 6, 2) := by decide +kernel
theorem dX1_select_57 : decode cX1_select 57 = .ok (.lstore 4, 2) := by decide +kernel
theorem dX1_select_59 : decode cX1_select 59 = .ok (.goto 8, 3) := by decide +kernel
theorem dX1_select_62 : decode cX1_select 62 = .ok (.lload 6, 2) := by decide +kernel
theorem dX1_select_64 : decode cX1_select 64 = .ok (.lconst 1, 1) := by decide +kernel
theorem dX1_select_65 : decode cX1_select 65 = .ok (.ladd, 1) := by decide +kernel
theorem dX1_select_66 : decode cX1_select 66 = .ok (.lstore_n 2, 1) := by decide +kernel
theorem dX1_select_67 : decode cX1_select 67 = .ok (.goto (-39), 3) := by decide +kernel
theorem dX1_select_70 : decode cX1_select 70 = .ok (.lload_n 2, 1) := by decide +kernel
theorem dX1_select_71 : decode cX1_select 71 = .ok (.l2i, 1) := by decide +kernel
theorem dX1_select_72 : decode cX1_select 72 = .ok (.ireturn, 1) := by decide +kernel
theorem dX1_has_0 : decode cX1_has 0 = .ok (.aload_n 0, 1) := by decide +kernel
theorem dX1_has_1 : decode cX1_has 1 = .ok (.iconst 0, 1) := by decide +kernel
theorem dX1_has_2 : decode cX1_has 2 = .ok (.putfield 62, 3) := by decide +kernel
theorem dX1_has_5 : decode cX1_has 5 = .ok (.iload_n 1, 1) := by decide +kernel
theorem dX1_has_6 : decode cX1_has 6 = .ok (.ifCond .lt 15, 3) := by decide +kernel
theorem dX1_has_9 : decode cX1_has 9 = .ok (.iload_n 1, 1) := by decide +kernel
theorem dX1_has_10 : decode cX1_has 10 = .ok (.aload_n 0, 1) := by decide +kernel
theorem dX1_has_11 : decode cX1_has 11 = .ok (.getfield 37, 3) := by decide +kernel
theorem dX1_has_14 : decode cX1_has 14 = .ok (.if_icmp .ge 7, 3) := by decide +kernel
theorem dX1_has_17 : decode cX1_has 17 = .ok (.iconst 1, 1) := by decide +kernel
theorem dX1_has_18 : decode cX1_has 18 = .ok (.goto 4, 3) := by decide +kernel
theorem dX1_has_21 : decode cX1_has 21 = .ok (.iconst 0, 1) := by decide +kernel
theorem dX1_has_22 : decode cX1_has 22 = .ok (.ireturn, 1) := by decide +kernel
theorem dX1_pred_0 : decode cX1_pred 0 = .ok (.aload_n 0, 1) := by decide +kernel
theorem dX1_pred_1 : decode cX1_pred 1 = .ok (.iconst 0, 1) := by decide +kernel
theorem dX1_pred_2 : decode cX1_pred 2 = .ok (.putfield 62, 3) := by decide +kernel
theorem dX1_pred_5 : decode cX1_pred 5 = .ok (.aload_n 0, 1) := by decide +kernel
theorem dX1_pred_6 : decode cX1_pred 6 = .ok (.iload_n 1, 1) := by decide +kernel
theorem dX1_pred_7 : decode cX1_pred 7 = .ok (.i2l, 1) := by decide +kernel
theorem dX1_pred_8 : decode cX1_pred 8 = .ok (.invokevirtual 72, 3) := by decide +kernel
theorem dX1_pred_11 : decode cX1_pred 11 = .ok (.iconst 1, 1) := by decide +kernel
theorem dX1_pred_12 : decode cX1_pred 12 = .ok (.isub, 1) := by decide +kernel
theorem dX1_pred_13 : decode cX1_pred 13 = .ok (.ireturn, 1) := by decide +kernel
theorem dX1_succ_0 : decode cX1_succ 0 = .ok (.aload_n 0, 1) := by decide +kernel
theorem dX1_succ_1 : decode cX1_succ 1 = .ok (.iconst 0, 1) := by decide +kernel
theorem dX1_succ_2 : decode cX1_succ 2 = .ok (.putfield 62, 3) := by decide +kernel
theorem dX1_succ_5 : decode cX1_succ 5 = .ok (.aload_n 0, 1) := by decide +kernel
theorem dX1_succ_6 : decode cX1_succ 6 = .ok (.iload_n 1, 1) := by decide +kernel
theorem dX1_succ_7 : decode cX1_succ 7 = .ok (.i2l, 1) := by decide +kernel
theorem dX1_succ_8 : decode cX1_succ 8 = .ok (.lconst 1, 1) := by decide +kernel
theorem dX1_succ_9 : decode cX1_succ 9 = .ok (.ladd, 1) := by decide +kernel
theorem dX1_succ_10 : decode cX1_succ 10 = .ok (.invokevirtual 72, 3) := by decide +kernel
theorem dX1_succ_13 : decode cX1_succ 13 = .ok (.istore_n 2, 1) := by decide +kernel
theorem dX1_succ_14 : decode cX1_succ 14 = .ok (.iload_n 2, 1) := by decide +kernel
theorem dX1_succ_15 : decode cX1_succ 15 = .ok (.aload_n 0, 1) := by decide +kernel
theorem dX1_succ_16 : decode cX1_succ 16 = .ok (.getfield 37, 3) := by decide +kernel
theorem dX1_succ_19 : decode cX1_succ 19 = .ok (.if_icmp .ge 7, 3) := by decide +kernel
theorem dX1_succ_22 : decode cX1_succ 22 = .ok (.iload_n 2, 1) := by decide +kernel
theorem dX1_succ_23 : decode cX1_succ 23 = .ok (.goto 4, 3) := by decide +kernel
theorem dX1_succ_26 : decode cX1_succ 26 = .ok (.iconst (-1), 1) := by decide +kernel
theorem dX1_succ_27 : decode cX1_succ 27 = .ok (.ireturn, 1) := by decide +kernel
theorem dX1_rangeCount_0 : decode cX1_rangeCount 0 = .ok (.aload_n 0, 1) := by decide +kernel
theorem dX1_rangeCount_1 : decode cX1_rangeCount 1 = .ok (.iconst 0, 1) := by decide +kernel
theorem dX1_rangeCount_2 : decode cX1_rangeCount 2 = .ok (.putfield 62, 3) := by decide +kernel
theorem dX1_rangeCount_5 : decode cX1_rangeCount 5 = .ok (.iload_n 1, 1) := by decide +kernel
theorem dX1_rangeCount_6 : decode cX1_rangeCount 6 = .ok (.iload_n 2, 1) := by decide +kernel
theorem dX1_rangeCount_7 : decode cX1_rangeCount 7 = .ok (.if_icmp .le 5, 3) := by decide +kernel
theorem dX1_rangeCount_10 : decode cX1_rangeCount 10 = .ok (.iconst 0, 1) := by decide +kernel
theorem dX1_rangeCount_11 : decode cX1_rangeCount 11 = .ok (.ireturn, 1) := by decide +kernel
theorem dX1_rangeCount_12 : decode cX1_rangeCount 12 = .ok (.aload_n 0, 1) := by decide +kernel
theorem dX1_rangeCount_13 : decode cX1_rangeCount 13 = .ok (.iload_n 1, 1) := by decide +kernel
theorem dX1_rangeCount_14 : decode cX1_rangeCount 14 = .ok (.i2l, 1) := by decide +kernel
theorem dX1_rangeCount_15 : decode cX1_rangeCount 15 = .ok (.invokevirtual 72, 3) := by decide +kernel
theorem dX1_rangeCount_18 : decode cX1_rangeCount 18 = .ok (.istore_n 3, 1) := by decide +kernel
theorem dX1_rangeCount_19 : decode cX1_rangeCount 19 = .ok (.aload_n 0, 1) := by decide +kernel
theorem dX1_rangeCount_20 : decode cX1_rangeCount 20 = .ok (.iload_n 2, 1) := by decide +kernel
theorem dX1_rangeCount_21 : decode cX1_rangeCount 21 = .ok (.i2l, 1) := by decide +kernel
theorem dX1_rangeCount_22 : decode cX1_rangeCount 22 = .ok (.lconst 1, 1) := by decide +kernel
theorem dX1_rangeCount_23 : decode cX1_rangeCount 23 = .ok (.ladd, 1) := by decide +kernel
theorem dX1_rangeCount_24 : decode cX1_rangeCount 24 = .ok (.invokevirtual 72, 3) := by decide +kernel
theorem dX1_rangeCount_27 : decode cX1_rangeCount 27 = .ok (.iload_n 3, 1) := by decide +kernel
theorem dX1_rangeCount_28 : decode cX1_rangeCount 28 = .ok (.isub, 1) := by decide +kernel
theorem dX1_rangeCount_29 : decode cX1_rangeCount 29 = .ok (.ireturn, 1) := by decide +kernel
theorem dX1_size_0 : decode cX1_size 0 = .ok (.aload_n 0, 1) := by decide +kernel
theorem dX1_size_1 : decode cX1_size 1 = .ok (.getfield 37, 3) := by decide +kernel
theorem dX1_size_4 : decode cX1_size 4 = .ok (.ireturn, 1) := by decide +kernel
theorem dX1_movesMade_0 : decode cX1_movesMade 0 = .ok (.aload_n 0, 1) := by decide +kernel
theorem dX1_movesMade_1 : decode cX1_movesMade 1 = .ok (.getfield 34, 3) := by decide +kernel
theorem dX1_movesMade_4 : decode cX1_movesMade 4 = .ok (.ireturn, 1) := by decide +kernel
theorem dX1_probesLast_0 : decode cX1_probesLast 0 = .ok (.aload_n 0, 1) := by decide +kernel
theorem dX1_probesLast_1 : decode cX1_probesLast 1 = .ok (.getfield 62, 3) := by decide +kernel
theorem dX1_probesLast_4 : decode cX1_probesLast 4 = .ok (.ireturn, 1) := by decide +kernel
theorem dX1_cellsOf_0 : decode cX1_cellsOf 0 = .ok (.iload_n 1, 1) := by decide +kernel
theorem dX1_cellsOf_1 : decode cX1_cellsOf 1 = .ok (.iconst (-1), 1) := by decide +kernel
theorem dX1_cellsOf_2 : decode cX1_cellsOf 2 = .ok (.if_icmp .ne 15, 3) := by decide +kernel
theorem dX1_cellsOf_5 : decode cX1_cellsOf 5 = .ok (.aload_n 0, 1) := by decide +kernel
theorem dX1_cellsOf_6 : decode cX1_cellsOf 6 = .ok (.getfield 48, 3) := by decide +kernel
theorem dX1_cellsOf_9 : decode cX1_cellsOf 9 = .ok (.aload_n 0, 1) := by decide +kernel
theorem dX1_cellsOf_10 : decode cX1_cellsOf 10 = .ok (.getfield 37, 3) := by decide +kernel
theorem dX1_cellsOf_13 : decode cX1_cellsOf 13 = .ok (.isub, 1) := by decide +kernel
theorem dX1_cellsOf_14 : decode cX1_cellsOf 14 = .ok (.goto 23, 3) := by decide +kernel
theorem dX1_cellsOf_17 : decode cX1_cellsOf 17 = .ok (.iload_n 1, 1) := by decide +kernel
theorem dX1_cellsOf_18 : decode cX1_cellsOf 18 = .ok (.ifCond .lt 18, 3) := by decide +kernel
theorem dX1_cellsOf_21 : decode cX1_cellsOf 21 = .ok (.iload_n 1, 1) := by decide +kernel
theorem dX1_cellsOf_22 : decode cX1_cellsOf 22 = .ok (.bipush 10, 2) := by decide +kernel
theorem dX1_cellsOf_24 : decode cX1_cellsOf 24 = .ok (.if_icmp .ge 12, 3) := by decide +kernel
theorem dX1_cellsOf_27 : decode cX1_cellsOf 27 = .ok (.aload_n 0, 1) := by decide +kernel
theorem dX1_cellsOf_28 : decode cX1_cellsOf 28 = .ok (.getfield 17, 3) := by decide +kernel
theorem dX1_cellsOf_31 : decode cX1_cellsOf 31 = .ok (.iload_n 1, 1) := by decide +kernel
theorem dX1_cellsOf_32 : decode cX1_cellsOf 32 = .ok (.iaload, 1) := by decide +kernel
theorem dX1_cellsOf_33 : decode cX1_cellsOf 33 = .ok (.goto 4, 3) := by decide +kernel
theorem dX1_cellsOf_36 : decode cX1_cellsOf 36 = .ok (.iconst 0, 1) := by decide +kernel
theorem dX1_cellsOf_37 : decode cX1_cellsOf 37 = .ok (.ireturn, 1) := by decide +kernel
theorem dX1_cell_0 : decode cX1_cell 0 = .ok (.iload_n 1, 1) := by decide +kernel
theorem dX1_cell_1 : decode cX1_cell 1 = .ok (.ifCond .lt 37, 3) := by decide +kernel
theorem dX1_cell_4 : decode cX1_cell 4 = .ok (.iload_n 1, 1) := by decide +kernel
theorem dX1_cell_5 : decode cX1_cell 5 = .ok (.bipush 10, 2) := by decide +kernel
theorem dX1_cell_7 : decode cX1_cell 7 = .ok (.if_icmp .ge 31, 3) := by decide +kernel
theorem dX1_cell_10 : decode cX1_cell 10 = .ok (.iload_n 2, 1) := by decide +kernel
theorem dX1_cell_11 : decode cX1_cell 11 = .ok (.ifCond .lt 27, 3) := by decide +kernel
theorem dX1_cell_14 : decode cX1_cell 14 = .ok (.iload_n 2, 1) := by decide +kernel
theorem dX1_cell_15 : decode cX1_cell 15 = .ok (.aload_n 0, 1) := by decide +kernel
theorem dX1_cell_16 : decode cX1_cell 16 = .ok (.getfield 17, 3) := by decide +kernel
theorem dX1_cell_19 : decode cX1_cell 19 = .ok (.iload_n 1, 1) := by decide +kernel
theorem dX1_cell_20 : decode cX1_cell 20 = .ok (.iaload, 1) := by decide +kernel
theorem dX1_cell_21 : decode cX1_cell 21 = .ok (.if_icmp .ge 17, 3) := by decide +kernel
theorem dX1_cell_24 : decode cX1_cell 24 = .ok (.aload_n 0, 1) := by decide +kernel
theorem dX1_cell_25 : decode cX1_cell 25 = .ok (.getfield 7, 3) := by decide +kernel
theorem dX1_cell_28 : decode cX1_cell 28 = .ok (.iload_n 1, 1) := by decide +kernel
theorem dX1_cell_29 : decode cX1_cell 29 = .ok (.invokestatic 30, 3) := by decide +kernel
theorem dX1_cell_32 : decode cX1_cell 32 = .ok (.iload_n 2, 1) := by decide +kernel
theorem dX1_cell_33 : decode cX1_cell 33 = .ok (.iadd, 1) := by decide +kernel
theorem dX1_cell_34 : decode cX1_cell 34 = .ok (.iaload, 1) := by decide +kernel
theorem dX1_cell_35 : decode cX1_cell 35 = .ok (.goto 4, 3) := by decide +kernel
theorem dX1_cell_38 : decode cX1_cell 38 = .ok (.iconst 0, 1) := by decide +kernel
theorem dX1_cell_39 : decode cX1_cell 39 = .ok (.ireturn, 1) := by decide +kernel
end
section
set_option maxRecDepth 100000
theorem dX2_init_0 : decode cX2_init 0 = .ok (.aload_n 0, 1) := by decide +kernel
theorem dX2_init_1 : decode cX2_init 1 = .ok (.invokespecial 1, 3) := by decide +kernel
theorem dX2_init_4 : decode cX2_init 4 = .ok (.aload_n 0, 1) := by decide +kernel
theorem dX2_init_5 : decode cX2_init 5 = .ok (.sipush 1024, 3) := by decide +kernel
theorem dX2_init_8 : decode cX2_init 8 = .ok (.newarray .int, 2) := by decide +kernel
theorem dX2_init_10 : decode cX2_init 10 = .ok (.putfield 7, 3) := by decide +kernel
theorem dX2_init_13 : decode cX2_init 13 = .ok (.aload_n 0, 1) := by decide +kernel
theorem dX2_init_14 : decode cX2_init 14 = .ok (.sipush 1024, 3) := by decide +kernel
theorem dX2_init_17 : decode cX2_init 17 = .ok (.newarray .boolean, 2) := by decide +kernel
theorem dX2_init_19 : decode cX2_init 19 = .ok (.putfield 13, 3) := by decide +kernel
theorem dX2_init_22 : decode cX2_init 22 = .ok (.aload_n 0, 1) := by decide +kernel
theorem dX2_init_23 : decode cX2_init 23 = .ok (.bipush 10, 2) := by decide +kernel
theorem dX2_init_25 : decode cX2_init 25 = .ok (.newarray .boolean, 2) := by decide +kernel
theorem dX2_init_27 : decode cX2_init 27 = .ok (.putfield 17, 3) := by decide +kernel
theorem dX2_init_30 : decode cX2_init 30 = .ok (.aload_n 0, 1) := by decide +kernel
theorem dX2_init_31 : decode cX2_init 31 = .ok (.sipush 1024, 3) := by decide +kernel
theorem dX2_init_34 : decode cX2_init 34 = .ok (.newarray .int, 2) := by decide +kernel
theorem dX2_init_36 : decode cX2_init 36 = .ok (.putfield 20, 3) := by decide +kernel
theorem dX2_init_39 : decode cX2_init 39 = .ok (.aload_n 0, 1) := by decide +kernel
theorem dX2_init_40 : decode cX2_init 40 = .ok (.sipush 1024, 3) := by decide +kernel
theorem dX2_init_43 : decode cX2_init 43 = .ok (.newarray .boolean, 2) := by decide +kernel
theorem dX2_init_45 : decode cX2_init 45 = .ok (.putfield 23, 3) := by decide +kernel
theorem dX2_init_48 : decode cX2_init 48 = .ok (.aload_n 0, 1) := by decide +kernel
theorem dX2_init_49 : decode cX2_init 49 = .ok (.sipush 1024, 3) := by decide +kernel
theorem dX2_init_52 : decode cX2_init 52 = .ok (.newarray .int, 2) := by decide +kernel
theorem dX2_init_54 : decode cX2_init 54 = .ok (.putfield 26, 3) := by decide +kernel
theorem dX2_init_57 : decode cX2_init 57 = .ok (.aload_n 0, 1) := by decide +kernel
theorem dX2_init_58 : decode cX2_init 58 = .ok (.sipush 1024, 3) := by decide +kernel
theorem dX2_init_61 : decode cX2_init 61 = .ok (.newarray .boolean, 2) := by decide +kernel
theorem dX2_init_63 : decode cX2_init 63 = .ok (.putfield 29, 3) := by decide +kernel
theorem dX2_init_66 : decode cX2_init 66 = .ok (.aload_n 0, 1) := by decide +kernel
theorem dX2_init_67 : decode cX2_init 67 = .ok (.iload_n 1, 1) := by decide +kernel
theorem dX2_init_68 : decode cX2_init 68 = .ok (.iconst 1, 1) := by decide +kernel
theorem dX2_init_69 : decode cX2_init 69 = .ok (.if_icmp .ge 7, 3) := by decide +kernel
theorem dX2_init_72 : decode cX2_init 72 = .ok (.iconst 1, 1) := by decide +kernel
theorem dX2_init_73 : decode cX2_init 73 = .ok (.goto 17, 3) := by decide +kernel
theorem dX2_init_76 : decode cX2_init 76 = .ok (.iload_n 1, 1) := by decide +kernel
theorem dX2_init_77 : decode cX2_init 77 = .ok (.sipush 256, 3) := by decide +kernel
theorem dX2_init_80 : decode cX2_init 80 = .ok (.if_icmp .le 9, 3) := by decide +kernel
theorem dX2_init_83 : decode cX2_init 83 = .ok (.sipush 256, 3) := by decide +kernel
theorem dX2_init_86 : decode cX2_init 86 = .ok (.goto 4, 3) := by decide +kernel
theorem dX2_init_89 : decode cX2_init 89 = .ok (.iload_n 1, 1) := by decide +kernel
theorem dX2_init_90 : decode cX2_init 90 = .ok (.putfield 32, 3) := by decide +kernel
theorem dX2_init_93 : decode cX2_init 93 = .ok (.return_, 1) := by decide +kernel
theorem dX2_insert_0 : decode cX2_insert 0 = .ok (.aload_n 0, 1) := by decide +kernel
theorem dX2_insert_1 : decode cX2_insert 1 = .ok (.getfield 36, 3) := by decide +kernel
theorem dX2_insert_4 : decode cX2_insert 4 = .ok (.aload_n 0, 1) := by decide +kernel
theorem dX2_insert_5 : decode cX2_insert 5 = .ok (.getfield 32, 3) := by decide +kernel
theorem dX2_insert_8 : decode cX2_insert 8 = .ok (.if_icmp .ne 6, 3) := by decide +kernel
theorem dX2_insert_11 : decode cX2_insert 11 = .ok (.bipush (-2), 2) := by decide +kernel
theorem dX2_insert_13 : decode cX2_insert 13 = .ok (.ireturn, 1) := by decide +kernel
theorem dX2_insert_14 : decode cX2_insert 14 = .ok (.aload_n 0, 1) := by decide +kernel
theorem dX2_insert_15 : decode cX2_insert 15 = .ok (.dup, 1) := by decide +kernel
theorem dX2_insert_16 : decode cX2_insert 16 = .ok (.getfield 36, 3) := by decide +kernel
theorem dX2_insert_19 : decode cX2_insert 19 = .ok (.iconst 1, 1) := by decide +kernel
theorem dX2_insert_20 : decode cX2_insert 20 = .ok (.iadd, 1) := by decide +kernel
theorem dX2_insert_21 : decode cX2_insert 21 = .ok (.putfield 36, 3) := by decide +kernel
theorem dX2_insert_24 : decode cX2_insert 24 = .ok (.aload_n 0, 1) := by decide +kernel
theorem dX2_insert_25 : decode cX2_insert 25 = .ok (.dup, 1) := by decide +kernel
theorem dX2_insert_26 : decode cX2_insert 26 = .ok (.getfield 39, 3) := by decide +kernel
theorem dX2_insert_29 : decode cX2_insert 29 = .ok (.iconst 1, 1) := by decide +kernel
theorem dX2_insert_30 : decode cX2_insert 30 = .ok (.iadd, 1) := by decide +kernel
theorem dX2_insert_31 : decode cX2_insert 31 = .ok (.putfield 39, 3) := by decide +kernel
theorem dX2_insert_34 : decode cX2_insert 34 = .ok (.aload_n 0, 1) := by decide +kernel
theorem dX2_insert_35 : decode cX2_insert 35 = .ok (.getfield 20, 3) := by decide +kernel
theorem dX2_insert_38 : decode cX2_insert 38 = .ok (.iconst 0, 1) := by decide +kernel
theorem dX2_insert_39 : decode cX2_insert 39 = .ok (.iload_n 1, 1) := by decide +kernel
theorem dX2_insert_40 : decode cX2_insert 40 = .ok (.iastore, 1) := by decide +kernel
theorem dX2_insert_41 : decode cX2_insert 41 = .ok (.aload_n 0, 1) := by decide +kernel
theorem dX2_insert_42 : decode cX2_insert 42 = .ok (.getfield 23, 3) := by decide +kernel
theorem dX2_insert_45 : decode cX2_insert 45 = .ok (.iconst 0, 1) := by decide +kernel
theorem dX2_insert_46 : decode cX2_insert 46 = .ok (.iconst 1, 1) := by decide +kernel
theorem dX2_insert_47 : decode cX2_insert 47 = .ok (.bastore, 1) := by decide +kernel
theorem dX2_insert_48 : decode cX2_insert 48 = .ok (.iconst 0, 1) := by decide +kernel
theorem dX2_insert_49 : decode cX2_insert 49 = .ok (.istore_n 2, 1) := by decide +kernel
theorem dX2_insert_50 : decode cX2_insert 50 = .ok (.aload_n 0, 1) := by decide +kernel
theorem dX2_insert_51 : decode cX2_insert 51 = .ok (.getfield 17, 3) := by decide +kernel
theorem dX2_insert_54 : decode cX2_insert 54 = .ok (.iload_n 2, 1) := by decide +kernel
theorem dX2_insert_55 : decode cX2_insert 55 = .ok (.baload, 1) := by decide +kernel
theorem dX2_insert_56 : decode cX2_insert 56 = .ok (.ifCond .eq 19, 3) := by decide +kernel
theorem dX2_insert_59 : decode cX2_insert 59 = .ok (.aload_n 0, 1) := by decide +kernel
theorem dX2_insert_60 : decode cX2_insert 60 = .ok (.iload_n 2, 1) := by decide +kernel
theorem dX2_insert_61 : decode cX2_insert 61 = .ok (.invokevirtual 42, 3) := by decide +kernel
theorem dX2_insert_64 : decode cX2_insert 64 = .ok (.aload_n 0, 1) := by decide +kernel
theorem dX2_insert_65 : decode cX2_insert 65 = .ok (.iload_n 2, 1) := by decide +kernel
theorem dX2_insert_66 : decode cX2_insert 66 = .ok (.invokevirtual 46, 3) := by decide +kernel
theorem dX2_insert_69 : decode cX2_insert 69 = .ok (.iinc 2 1, 3) := by decide +kernel
theorem dX2_insert_72 : decode cX2_insert 72 = .ok (.goto (-22), 3) := by decide +kernel
theorem dX2_insert_75 : decode cX2_insert 75 = .ok (.iconst 0, 1) := by decide +kernel
theorem dX2_insert_76 : decode cX2_insert 76 = .ok (.istore_n 3, 1) := by decide +kernel
theorem dX2_insert_77 : decode cX2_insert 77 = .ok (.iload_n 3, 1) := by decide +kernel
theorem dX2_insert_78 : decode cX2_insert 78 = .ok (.iconst 1, 1) := by decide +kernel
theorem dX2_insert_79 : decode cX2_insert 79 = .ok (.iload_n 2, 1) := by decide +kernel
theorem dX2_insert_80 : decode cX2_insert 80 = .ok (.ishl, 1) := by decide +kernel
theorem dX2_insert_81 : decode cX2_insert 81 = .ok (.if_icmp .ge 43, 3) := by decide +kernel
theorem dX2_insert_84 : decode cX2_insert 84 = .ok (.aload_n 0, 1) := by decide +kernel
theorem dX2_insert_85 : decode cX2_insert 85 = .ok (.getfield 7, 3) := by decide +kernel
theorem dX2_insert_88 : decode cX2_insert 88 = .ok (.iload_n 2, 1) := by decide +kernel
theorem dX2_insert_89 : decode cX2_insert 89 = .ok (.invokestatic 49, 3) := by decide +kernel
theorem dX2_insert_92 : decode cX2_insert 92 = .ok (.iload_n 3, 1) := by decide +kernel
theorem dX2_insert_93 : decode cX2_insert 93 = .ok (.iadd, 1) := by decide +kernel
theorem dX2_insert_94 : decode cX2_insert 94 = .ok (.aload_n 0, 1) := by decide +kernel
theorem dX2_insert_95 : decode cX2_insert 95 = .ok (.getfield 20, 3) := by decide +kernel
theorem dX2_insert_98 : decode cX2_insert 98 = .ok (.iload_n 3, 1) := by decide +kernel
theorem dX2_insert_99 : decode cX2_insert 99 = .ok (.iaload, 1) := by decide +kernel
theorem dX2_insert_100 : decode cX2_insert 100 = .ok (.iastore, 1) := by decide +kernel
theorem dX2_insert_101 : decode cX2_insert 101 = .ok (.aload_n 0, 1) := by decide +kernel
theorem dX2_insert_102 : decode cX2_insert 102 = .ok (.getfield 13, 3) := by decide +kernel
theorem dX2_insert_105 : decode cX2_insert 105 = .ok (.iload_n 2, 1) := by decide +kernel
theorem dX2_insert_106 : decode cX2_insert 106 = .ok (.invokestatic 49, 3) := by decide +kernel
theorem dX2_insert_109 : decode cX2_insert 109 = .ok (.iload_n 3, 1) := by decide +kernel
theorem dX2_insert_110 : decode cX2_insert 110 = .ok (.iadd, 1) := by decide +kernel
theorem dX2_insert_111 : decode cX2_insert 111 = .ok (.aload_n 0, 1) := by decide +kernel
theorem dX2_insert_112 : decode cX2_insert 112 = .ok (.getfield 23, 3) := by decide +kernel
theorem dX2_insert_115 : decode cX2_insert 115 = .ok (.iload_n 3, 1) := by decide +kernel
theorem dX2_insert_116 : decode cX2_insert 116 = .ok (.baload, 1) := by decide +kernel
theorem dX2_insert_117 : decode cX2_insert 117 = .ok (.bastore, 1) := by decide +kernel
theorem dX2_insert_118 : decode cX2_insert 118 = .ok (.iinc 3 1, 3) := by decide +kernel
theorem dX2_insert_121 : decode cX2_insert 121 = .ok (.goto (-44), 3) := by decide +kernel
theorem dX2_insert_124 : decode cX2_insert 124 = .ok (.aload_n 0, 1) := by decide +kernel
theorem dX2_insert_125 : decode cX2_insert 125 = .ok (.getfield 17, 3) := by decide +kernel
theorem dX2_insert_128 : decode cX2_insert 128 = .ok (.iload_n 2, 1) := by decide +kernel
theorem dX2_insert_129 : decode cX2_insert 129 = .ok (.iconst 1, 1) := by decide +kernel
theorem dX2_insert_130 : decode cX2_insert 130 = .ok (.bastore, 1) := by decide +kernel
theorem dX2_insert_131 : decode cX2_insert 131 = .ok (.iconst 0, 1) := by decide +kernel
theorem dX2_insert_132 : decode cX2_insert 132 = .ok (.ireturn, 1) := by decide +kernel
theorem dX2_join_0 : decode cX2_join 0 = .ok (.iconst 1, 1) := by decide +kernel
theorem dX2_join_1 : decode cX2_join 1 = .ok (.iload_n 1, 1) := by decide +kernel
theorem dX2_join_2 : decode cX2_join 2 = .ok (.ishl, 1) := by decide +kernel
theorem dX2_join_3 : decode cX2_join 3 = .ok (.istore_n 2, 1) := by decide +kernel
theorem dX2_join_4 : decode cX2_join 4 = .ok (.iconst 0, 1) := by decide +kernel
theorem dX2_join_5 : decode cX2_join 5 = .ok (.istore_n 3, 1) := by decide +kernel
theorem dX2_join_6 : decode cX2_join 6 = .ok (.iconst 0, 1) := by decide +kernel
theorem dX2_join_7 : decode cX2_join 7 = .ok (.istore 4, 2) := by decide +kernel
theorem dX2_join_9 : decode cX2_join 9 = .ok (.iconst 0, 1) := by decide +kernel
theorem dX2_join_10 : decode cX2_join 10 = .ok (.istore 5, 2) := by decide +kernel
theorem dX2_join_12 : decode cX2_join 12 = .ok (.iload 5, 2) := by decide +kernel
theorem dX2_join_14 : decode cX2_join 14 = .ok (.iconst 2, 1) := by decide +kernel
theorem dX2_join_15 : decode cX2_join 15 = .ok (.iload_n 2, 1) := by decide +kernel
theorem dX2_join_16 : decode cX2_join 16 = .ok (.imul, 1) := by decide +kernel
theorem dX2_join_17 : decode cX2_join 17 = .ok (.if_icmp .ge 143, 3) := by decide +kernel
theorem dX2_join_20 : decode cX2_join 20 = .ok (.iload 4, 2) := by decide +kernel
theorem dX2_join_22 : decode cX2_join 22 = .ok (.iload_n 2, 1) := by decide +kernel
theorem dX2_join_23 : decode cX2_join 23 = .ok (.if_icmp .eq 29, 3) := by decide +kernel
theorem dX2_join_26 : decode cX2_join 26 = .ok (.iload_n 3, 1) := by decide +kernel
theorem dX2_join_27 : decode cX2_join 27 = .ok (.iload_n 2, 1) := by decide +kernel
theorem dX2_join_28 : decode cX2_join 28 = .ok (.if_icmp .ge 28, 3) := by decide +kernel
theorem dX2_join_31 : decode cX2_join 31 = .ok (.aload_n 0, 1) := by decide +kernel
theorem dX2_join_32 : decode cX2_join 32 = .ok (.getfield 7, 3) := by decide +kernel
theorem dX2_join_35 : decode cX2_join 35 = .ok (.iload_n 1, 1) := by decide +kernel
theorem dX2_join_36 : decode cX2_join 36 = .ok (.invokestatic 49, 3) := by decide +kernel
theorem dX2_join_39 : decode cX2_join 39 = .ok (.iload_n 3, 1) := by decide +kernel
theorem dX2_join_40 : decode cX2_join 40 = .ok (.iadd, 1) := by decide +kernel
theorem dX2_join_41 : decode cX2_join 41 = .ok (.iaload, 1) := by decide +kernel
theorem dX2_join_42 : decode cX2_join 42 = .ok (.aload_n 0, 1) := by decide +kernel
theorem dX2_join_43 : decode cX2_join 43 = .ok (.getfield 20, 3) := by decide +kernel
theorem dX2_join_46 : decode cX2_join 46 = .ok (.iload 4, 2) := by decide +kernel
theorem dX2_join_48 : decode cX2_join 48 = .ok (.iaload, 1) := by decide +kernel
theorem dX2_join_49 : decode cX2_join 49 = .ok (.if_icmp .gt 7, 3) := by decide +kernel
theorem dX2_join_52 : decode cX2_join 52 = .ok (.iconst 1, 1) := by decide +kernel
theorem dX2_join_53 : decode cX2_join 53 = .ok (.goto 4, 3) := by decide +kernel
theorem dX2_join_56 : decode cX2_join 56 = .ok (.iconst 0, 1) := by decide +kernel
theorem dX2_join_57 : decode cX2_join 57 = .ok (.istore 6, 2) := by decide +kernel
theorem dX2_join_59 : decode cX2_join 59 = .ok (.aload_n 0, 1) := by decide +kernel
theorem dX2_join_60 : decode cX2_join 60 = .ok (.getfield 26, 3) := by decide +kernel
theorem dX2_join_63 : decode cX2_join 63 = .ok (.iload 5, 2) := by decide +kernel
theorem dX2_join_65 : decode cX2_join 65 = .ok (.iload 6, 2) := by decide +kernel
theorem dX2_join_67 : decode cX2_join 67 = .ok (.ifCond .eq 17, 3) := by decide +kernel
theorem dX2_join_70 : decode cX2_join 70 = .ok (.aload_n 0, 1) := by decide +kernel
theorem dX2_join_71 : decode cX2_join 71 = .ok (.getfield 7, 3) := by decide +kernel
theorem dX2_join_74 : decode cX2_join 74 = .ok (.iload_n 1, 1) := by decide +kernel
theorem dX2_join_75 : decode cX2_join 75 = .ok (.invokestatic 49, 3) := by decide +kernel
theorem dX2_join_78 : decode cX2_join 78 = .ok (.iload_n 3, 1) := by decide +kernel
theorem dX2_join_79 : decode cX2_join 79 = .ok (.iadd, 1) := by decide +kernel
theorem dX2_join_80 : decode cX2_join 80 = .ok (.iaload, 1) := by decide +kernel
theorem dX2_join_81 : decode cX2_join 81 = .ok (.goto 10, 3) := by decide +kernel
theorem dX2_join_84 : decode cX2_join 84 = .ok (.aload_n 0, 1) := by decide +kernel
theorem dX2_join_85 : decode cX2_join 85 = .ok (.getfield 20, 3) := by decide +kernel
theorem dX2_join_88 : decode cX2_join 88 = .ok (.iload 4, 2) := by decide +kernel
theorem dX2_join_90 : decode cX2_join 90 = .ok (.iaload, 1) := by decide +kernel
theorem dX2_join_91 : decode cX2_join 91 = .ok (.iastore, 1) := by decide +kernel
theorem dX2_join_92 : decode cX2_join 92 = .ok (.aload_n 0, 1) := by decide +kernel
theorem dX2_join_93 : decode cX2_join 93 = .ok (.getfield 29, 3) := by decide +kernel
theorem dX2_join_96 : decode cX2_join 96 = .ok (.iload 5, 2) := by decide +kernel
theorem dX2_join_98 : decode cX2_join 98 = .ok (.iload 6, 2) := by decide +kernel
theorem dX2_join_100 : decode cX2_join 100 = .ok (.ifCond .eq 17, 3) := by decide +kernel
theorem dX2_join_103 : decode cX2_join 103 = .ok (.aload_n 0, 1) := by decide +kernel
theorem dX2_join_104 : decode cX2_join 104 = .ok (.getfield 13, 3) := by decide +kernel
theorem dX2_join_107 : decode cX2_join 107 = .ok (.iload_n 1, 1) := by decide +kernel
theorem dX2_join_108 : decode cX2_join 108 = .ok (.invokestatic 49, 3) := by decide +kernel
theorem dX2_join_111 : decode cX2_join 111 = .ok (.iload_n 3, 1) := by decide +kernel
theorem dX2_join_112 : decode cX2_join 112 = .ok (.iadd, 1) := by decide +kernel
theorem dX2_join_113 : decode cX2_join 113 = .ok (.baload, 1) := by decide +kernel
theorem dX2_join_114 : decode cX2_join 114 = .ok (.goto 10, 3) := by decide +kernel
theorem dX2_join_117 : decode cX2_join 117 = .ok (.aload_n 0, 1) := by decide +kernel
theorem dX2_join_118 : decode cX2_join 118 = .ok (.getfield 23, 3) := by decide +kernel
theorem dX2_join_121 : decode cX2_join 121 = .ok (.iload 4, 2) := by decide +kernel
theorem dX2_join_123 : decode cX2_join 123 = .ok (.baload, 1) := by decide +kernel
theorem dX2_join_124 : decode cX2_join 124 = .ok (.bastore, 1) := by decide +kernel
theorem dX2_join_125 : decode cX2_join 125 = .ok (.iload 6, 2) := by decide +kernel
theorem dX2_join_127 : decode cX2_join 127 = .ok (.ifCond .eq 9, 3) := by decide +kernel
theorem dX2_join_130 : decode cX2_join 130 = .ok (.iload_n 3, 1) := by decide +kernel
theorem dX2_join_131 : decode cX2_join 131 = .ok (.iconst 1, 1) := by decide +kernel
theorem dX2_join_132 : decode cX2_join 132 = .ok (.iadd, 1) := by decide +kernel
theorem dX2_join_133 : decode cX2_join 133 = .ok (.goto 4, 3) := by decide +kernel
theorem dX2_join_136 : decode cX2_join 136 = .ok (.iload_n 3, 1) := by decide +kernel
theorem dX2_join_137 : decode cX2_join 137 = .ok (.istore_n 3, 1) := by decide +kernel
theorem dX2_join_138 : decode cX2_join 138 = .ok (.iload 6, 2) := by decide +kernel
theorem dX2_join_140 : decode cX2_join 140 = .ok (.ifCond .eq 8, 3) := by decide +kernel
theorem dX2_join_143 : decode cX2_join 143 = .ok (.iload 4, 2) := by decide +kernel
theorem dX2_join_145 : decode cX2_join 145 = .ok (.goto 7, 3) := by decide +kernel
theorem dX2_join_148 : decode cX2_join 148 = .ok (.iload 4, 2) := by decide +kernel
theorem dX2_join_150 : decode cX2_join 150 = .ok (.iconst 1, 1) := by decide +kernel
theorem dX2_join_151 : decode cX2_join 151 = .ok (.iadd, 1) := by decide +kernel
theorem dX2_join_152 : decode cX2_join 152 = .ok (.istore 4, 2) := by decide +kernel
theorem dX2_join_154 : decode cX2_join 154 = .ok (.iinc 5 1, 3) := by decide +kernel
theorem dX2_join_157 : decode cX2_join 157 = .ok (.goto (-145), 3) := by decide +kernel
theorem dX2_join_160 : decode cX2_join 160 = .ok (.iconst 0, 1) := by decide +kernel
theorem dX2_join_161 : decode cX2_join 161 = .ok (.istore 5, 2) := by decide +kernel
theorem dX2_join_163 : decode cX2_join 163 = .ok (.iload 5, 2) := by decide +kernel
theorem dX2_join_165 : decode cX2_join 165 = .ok (.iconst 2, 1) := by decide +kernel
theorem dX2_join_166 : decode cX2_join 166 = .ok (.iload_n 2, 1) := by decide +kernel
theorem dX2_join_167 : decode cX2_join 167 = .ok (.imul, 1) := by decide +kernel
theorem dX2_join_168 : decode cX2_join 168 = .ok (.if_icmp .ge 37, 3) := by decide +kernel
theorem dX2_join_171 : decode cX2_join 171 = .ok (.aload_n 0, 1) := by decide +kernel
theorem dX2_join_172 : decode cX2_join 172 = .ok (.getfield 20, 3) := by decide +kernel
theorem dX2_join_175 : decode cX2_join 175 = .ok (.iload 5, 2) := by decide +kernel
theorem dX2_join_177 : decode cX2_join 177 = .ok (.aload_n 0, 1) := by decide +kernel
theorem dX2_join_178 : decode cX2_join 178 = .ok (.getfield 26, 3) := by decide +kernel
theorem dX2_join_181 : decode cX2_join 181 = .ok (.iload 5, 2) := by decide +kernel
theorem dX2_join_183 : decode cX2_join 183 = .ok (.iaload, 1) := by decide +kernel
theorem dX2_join_184 : decode cX2_join 184 = .ok (.iastore, 1) := by decide +kernel
theorem dX2_join_185 : decode cX2_join 185 = .ok (.aload_n 0, 1) := by decide +kernel
theorem dX2_join_186 : decode cX2_join 186 = .ok (.getfield 23, 3) := by decide +kernel
theorem dX2_join_189 : decode cX2_join 189 = .ok (.iload 5, 2) := by decide +kernel
theorem dX2_join_191 : decode cX2_join 191 = .ok (.aload_n 0, 1) := by decide +kernel
theorem dX2_join_192 : decode cX2_join 192 = .ok (.getfield 29, 3) := by decide +kernel
theorem dX2_join_195 : decode cX2_join 195 = .ok (.iload 5, 2) := by decide +kernel
theorem dX2_join_197 : decode cX2_join 197 = .ok (.baload, 1) := by decide +kernel
theorem dX2_join_198 : decode cX2_join 198 = .ok (.bastore, 1) := by decide +kernel
theorem dX2_join_199 : decode cX2_join 199 = .ok (.iinc 5 1, 3) := by decide +kernel
theorem dX2_join_202 : decode cX2_join 202 = .ok (.goto (-39), 3) := by decide +kernel
theorem dX2_join_205 : decode cX2_join 205 = .ok (.aload_n 0, 1) := by decide +kernel
theorem dX2_join_206 : decode cX2_join 206 = .ok (.aload_n 0, 1) := by decide +kernel
theorem dX2_join_207 : decode cX2_join 207 = .ok (.getfield 39, 3) := by decide +kernel
theorem dX2_join_210 : decode cX2_join 210 = .ok (.iconst 2, 1) := by decide +kernel
theorem dX2_join_211 : decode cX2_join 211 = .ok (.iload_n 2, 1) := by decide +kernel
theorem dX2_join_212 : decode cX2_join 212 = .ok (.imul, 1) := by decide +kernel
theorem dX2_join_213 : decode cX2_join 213 = .ok (.iadd, 1) := by decide +kernel
theorem dX2_join_214 : decode cX2_join 214 = .ok (.putfield 39, 3) := by decide +kernel
theorem dX2_join_217 : decode cX2_join 217 = .ok (.return_, 1) := by decide +kernel
theorem dX2_from_0 : decode cX2_from 0 = .ok (.iconst 1, 1) := by decide +kernel
theorem dX2_from_1 : decode cX2_from 1 = .ok (.iload_n 0, 1) := by decide +kernel
theorem dX2_from_2 : decode cX2_from 2 = .ok (.ishl, 1) := by decide +kernel
theorem dX2_from_3 : decode cX2_from 3 = .ok (.iconst 1, 1) := by decide +kernel
theorem dX2_from_4 : decode cX2_from 4 = .ok (.isub, 1) := by decide +kernel
theorem dX2_from_5 : decode cX2_from 5 = .ok (.ireturn, 1) := by decide +kernel
theorem dX2_leave_0 : decode cX2_leave 0 = .ok (.aload_n 0, 1) := by decide +kernel
theorem dX2_leave_1 : decode cX2_leave 1 = .ok (.getfield 17, 3) := by decide +kernel
theorem dX2_leave_4 : decode cX2_leave 4 = .ok (.iload_n 1, 1) := by decide +kernel
theorem dX2_leave_5 : decode cX2_leave 5 = .ok (.iconst 0, 1) := by decide +kernel
theorem dX2_leave_6 : decode cX2_leave 6 = .ok (.bastore, 1) := by decide +kernel
theorem dX2_leave_7 : decode cX2_leave 7 = .ok (.iconst 0, 1) := by decide +kernel
theorem dX2_leave_8 : decode cX2_leave 8 = .ok (.istore_n 2, 1) := by decide +kernel
theorem dX2_leave_9 : decode cX2_leave 9 = .ok (.iload_n 2, 1) := by decide +kernel
theorem dX2_leave_10 : decode cX2_leave 10 = .ok (.iconst 1, 1) := by decide +kernel
theorem dX2_leave_11 : decode cX2_leave 11 = .ok (.iload_n 1, 1) := by decide +kernel
theorem dX2_leave_12 : decode cX2_leave 12 = .ok (.ishl, 1) := by decide +kernel
theorem dX2_leave_13 : decode cX2_leave 13 = .ok (.if_icmp .ge 21, 3) := by decide +kernel
theorem dX2_leave_16 : decode cX2_leave 16 = .ok (.aload_n 0, 1) := by decide +kernel
theorem dX2_leave_17 : decode cX2_leave 17 = .ok (.getfield 13, 3) := by decide +kernel
theorem dX2_leave_20 : decode cX2_leave 20 = .ok (.iload_n 1, 1) := by decide +kernel
theorem dX2_leave_21 : decode cX2_leave 21 = .ok (.invokestatic 49, 3) := by decide +kernel
theorem dX2_leave_24 : decode cX2_leave 24 = .ok (.iload_n 2, 1) := by decide +kernel
theorem dX2_leave_25 : decode cX2_leave 25 = .ok (.iadd, 1) := by decide +kernel
theorem dX2_leave_26 : decode cX2_leave 26 = .ok (.iconst 0, 1) := by decide +kernel
theorem dX2_leave_27 : decode cX2_leave 27 = .ok (.bastore, 1) := by decide +kernel
theorem dX2_leave_28 : decode cX2_leave 28 = .ok (.iinc 2 1, 3) := by decide +kernel
theorem dX2_leave_31 : decode cX2_leave 31 = .ok (.goto (-22), 3) := by decide +kernel
theorem dX2_leave_34 : decode cX2_leave 34 = .ok (.return_, 1) := by decide +kernel
theorem dX2_remove_0 : decode cX2_remove 0 = .ok (.iconst 0, 1) := by decide +kernel
theorem dX2_remove_1 : decode cX2_remove 1 = .ok (.istore_n 2, 1) := by decide +kernel
theorem dX2_remove_2 : decode cX2_remove 2 = .ok (.iload_n 2, 1) := by decide +kernel
theorem dX2_remove_3 : decode cX2_remove 3 = .ok (.bipush 10, 2) := by decide +kernel
theorem dX2_remove_5 : decode cX2_remove 5 = .ok (.if_icmp .ge 109, 3) := by decide +kernel
theorem dX2_remove_8 : decode cX2_remove 8 = .ok (.iconst 0, 1) := by decide +kernel
theorem dX2_remove_9 : decode cX2_remove 9 = .ok (.istore_n 3, 1) := by decide +kernel
theorem dX2_remove_10 : decode cX2_remove 10 = .ok (.iload_n 3, 1) := by decide +kernel
theorem dX2_remove_11 : decode cX2_remove 11 = .ok (.iconst 1, 1) := by decide +kernel
theorem dX2_remove_12 : decode cX2_remove 12 = .ok (.iload_n 2, 1) := by decide +kernel
theorem dX2_remove_13 : decode cX2_remove 13 = .ok (.ishl, 1) := by decide +kernel
theorem dX2_remove_14 : decode cX2_remove 14 = .ok (.if_icmp .ge 94, 3) := by decide +kernel
theorem dX2_remove_17 : decode cX2_remove 17 = .ok (.aload_n 0, 1) := by decide +kernel
theorem dX2_remove_18 : decode cX2_remove 18 = .ok (.getfield 17, 3) := by decide +kernel
theorem dX2_remove_21 : decode cX2_remove 21 = .ok (.iload_n 2, 1) := by decide +kernel
theorem dX2_remove_22 : decode cX2_remove 22 = .ok (.baload, 1) := by decide +kernel
theorem dX2_remove_23 : decode cX2_remove 23 = .ok (.ifCond .eq 85, 3) := by decide +kernel
theorem dX2_remove_26 : decode cX2_remove 26 = .ok (.iload_n 2, 1) := by decide +kernel
theorem dX2_remove_27 : decode cX2_remove 27 = .ok (.invokestatic 49, 3) := by decide +kernel
theorem dX2_remove_30 : decode cX2_remove 30 = .ok (.iload_n 3, 1) := by decide +kernel
theorem dX2_remove_31 : decode cX2_remove 31 = .ok (.iadd, 1) := by decide +kernel
theorem dX2_remove_32 : decode cX2_remove 32 = .ok (.istore 4, 2) := by decide +kernel
theorem dX2_remove_34 : decode cX2_remove 34 = .ok (.aload_n 0, 1) := by decide +kernel
theorem dX2_remove_35 : decode cX2_remove 35 = .ok (.getfield 13, 3) := by decide +kernel
theorem dX2_remove_38 : decode cX2_remove 38 = .ok (.iload 4, 2) := by decide +kernel
theorem dX2_remove_40 : decode cX2_remove 40 = .ok (.baload, 1) := by decide +kernel
theorem dX2_remove_41 : decode cX2_remove 41 = .ok (.ifCond .eq 61, 3) := by decide +kernel
theorem dX2_remove_44 : decode cX2_remove 44 = .ok (.aload_n 0, 1) := by decide +kernel
theorem dX2_remove_45 : decode cX2_remove 45 = .ok (.getfield 7, 3) := by decide +kernel
theorem dX2_remove_48 : decode cX2_remove 48 = .ok (.iload 4, 2) := by decide +kernel
theorem dX2_remove_50 : decode cX2_remove 50 = .ok (.iaload, 1) := by decide +kernel
theorem dX2_remove_51 : decode cX2_remove 51 = .ok (.iload_n 1, 1) := by decide +kernel
theorem dX2_remove_52 : decode cX2_remove 52 = .ok (.if_icmp .ne 50, 3) := by decide +kernel
theorem dX2_remove_55 : decode cX2_remove 55 = .ok (.aload_n 0, 1) := by decide +kernel
theorem dX2_remove_56 : decode cX2_remove 56 = .ok (.getfield 13, 3) := by decide +kernel
theorem dX2_remove_59 : decode cX2_remove 59 = .ok (.iload 4, 2) := by decide +kernel
theorem dX2_remove_61 : decode cX2_remove 61 = .ok (.iconst 0, 1) := by decide +kernel
theorem dX2_remove_62 : decode cX2_remove 62 = .ok (.bastore, 1) := by decide +kernel
theorem dX2_remove_63 : decode cX2_remove 63 = .ok (.aload_n 0, 1) := by decide +kernel
theorem dX2_remove_64 : decode cX2_remove 64 = .ok (.dup, 1) := by decide +kernel
theorem dX2_remove_65 : decode cX2_remove 65 = .ok (.getfield 36, 3) := by decide +kernel
theorem dX2_remove_68 : decode cX2_remove 68 = .ok (.iconst 1, 1) := by decide +kernel
theorem dX2_remove_69 : decode cX2_remove 69 = .ok (.isub, 1) := by decide +kernel
theorem dX2_remove_70 : decode cX2_remove 70 = .ok (.putfield 36, 3) := by decide +kernel
theorem dX2_remove_73 : decode cX2_remove 73 = .ok (.aload_n 0, 1) := by decide +kernel
theorem dX2_remove_74 : decode cX2_remove 74 = .ok (.dup, 1) := by decide +kernel
theorem dX2_remove_75 : decode cX2_remove 75 = .ok (.getfield 53, 3) := by decide +kernel
theorem dX2_remove_78 : decode cX2_remove 78 = .ok (.iconst 1, 1) := by decide +kernel
theorem dX2_remove_79 : decode cX2_remove 79 = .ok (.iadd, 1) := by decide +kernel
theorem dX2_remove_80 : decode cX2_remove 80 = .ok (.putfield 53, 3) := by decide +kernel
theorem dX2_remove_83 : decode cX2_remove 83 = .ok (.aload_n 0, 1) := by decide +kernel
theorem dX2_remove_84 : decode cX2_remove 84 = .ok (.getfield 53, 3) := by decide +kernel
theorem dX2_remove_87 : decode cX2_remove 87 = .ok (.aload_n 0, 1) := by decide +kernel
theorem dX2_remove_88 : decode cX2_remove 88 = .ok (.getfield 36, 3) := by decide +kernel
theorem dX2_remove_91 : decode cX2_remove 91 = .ok (.if_icmp .le 9, 3) := by decide +kernel
theorem dX2_remove_94 : decode cX2_remove 94 = .ok (.aload_n 0, 1) := by decide +kernel
theorem dX2_remove_95 : decode cX2_remove 95 = .ok (.invokevirtual 56, 3) := by decide +kernel
theorem dX2_remove_98 : decode cX2_remove 98 = .ok (.istore 5, 2) := by decide +kernel
theorem dX2_remove_100 : decode cX2_remove 100 = .ok (.iconst 1, 1) := by decide +kernel
theorem dX2_remove_101 : decode cX2_remove 101 = .ok (.ireturn, 1) := by decide +kernel
theorem dX2_remove_102 : decode cX2_remove 102 = .ok (.iinc 3 1, 3) := by decide +kernel
theorem dX2_remove_105 : decode cX2_remove 105 = .ok (.goto (-95), 3) := by decide +kernel
theorem dX2_remove_108 : decode cX2_remove 108 = .ok (.iinc 2 1, 3) := by decide +kernel
theorem dX2_remove_111 : decode cX2_remove 111 = .ok (.goto (-109), 3) := by decide +kernel
theorem dX2_remove_114 : decode cX2_remove 114 = .ok (.iconst 0, 1) := by decide +kernel
theorem dX2_remove_115 : decode cX2_remove 115 = .ok (.ireturn, 1) := by decide +kernel
theorem dX2_build_0 : decode cX2_build 0 = .ok (.iconst 0, 1) := by decide +kernel
theorem dX2_build_1 : decode cX2_build 1 = .ok (.istore_n 1, 1) := by decide +kernel
theorem dX2_build_2 : decode cX2_build 2 = .ok (.ldc2_w 60, 3) := by decide +kernel
theorem dX2_build_5 : decode cX2_build 5 = .ok (.lstore_n 2, 1) := by decide +kernel
theorem dX2_build_6 : decode cX2_build 6 = .ok (.iload_n 1, 1) := by decide +kernel
theorem dX2_build_7 : decode cX2_build 7 = .ok (.aload_n 0, 1) := by decide +kernel
theorem dX2_build_8 : decode cX2_build 8 = .ok (.getfield 36, 3) := by decide +kernel
theorem dX2_build_11 : decode cX2_build 11 = .ok (.if_icmp .ge 135, 3) := by decide +kernel
theorem dX2_build_14 : decode cX2_build 14 = .ok (.ldc2_w 62, 3) := by decide +kernel
theorem dX2_build_17 : decode cX2_build 17 = .ok (.lstore 4, 2) := by decide +kernel
theorem dX2_build_19 : decode cX2_build 19 = .ok (.iconst 0, 1) := by decide +kernel
theorem dX2_build_20 : decode cX2_build 20 = .ok (.istore 6, 2) := by decide +kernel
theorem dX2_build_22 : decode cX2_build 22 = .ok (.iload 6, 2) := by decide +kernel
theorem dX2_build_24 : decode cX2_build 24 = .ok (.sipush 1023, 3) := by decide +kernel
theorem dX2_build_27 : decode cX2_build 27 = .ok (.if_icmp .ge 56, 3) := by decide +kernel
theorem dX2_build_30 : decode cX2_build 30 = .ok (.aload_n 0, 1) := by decide +kernel
theorem dX2_build_31 : decode cX2_build 31 = .ok (.getfield 13, 3) := by decide +kernel
theorem dX2_build_34 : decode cX2_build 34 = .ok (.iload 6, 2) := by decide +kernel
theorem dX2_build_36 : decode cX2_build 36 = .ok (.baload, 1) := by decide +kernel
theorem dX2_build_37 : decode cX2_build 37 = .ok (.ifCond .eq 40, 3) := by decide +kernel
theorem dX2_build_40 : decode cX2_build 40 = .ok (.aload_n 0, 1) := by decide +kernel
theorem dX2_build_41 : decode cX2_build 41 = .ok (.getfield 7, 3) := by decide +kernel
theorem dX2_build_44 : decode cX2_build 44 = .ok (.iload 6, 2) := by decide +kernel
theorem dX2_build_46 : decode cX2_build 46 = .ok (.iaload, 1) := by decide +kernel
theorem dX2_build_47 : decode cX2_build 47 = .ok (.i2l, 1) := by decide +kernel
theorem dX2_build_48 : decode cX2_build 48 = .ok (.lload_n 2, 1) := by decide +kernel
theorem dX2_build_49 : decode cX2_build 49 = .ok (.lcmp, 1) := by decide +kernel
theorem dX2_build_50 : decode cX2_build 50 = .ok (.ifCond .le 27, 3) := by decide +kernel
theorem dX2_build_53 : decode cX2_build 53 = .ok (.aload_n 0, 1) := by decide +kernel
theorem dX2_build_54 : decode cX2_build 54 = .ok (.getfield 7, 3) := by decide +kernel
theorem dX2_build_57 : decode cX2_build 57 = .ok (.iload 6, 2) := by decide +kernel
theorem dX2_build_59 : decode cX2_build 59 = .ok (.iaload, 1) := by decide +kernel
theorem dX2_build_60 : decode cX2_build 60 = .ok (.i2l, 1) := by decide +kernel
theorem dX2_build_61 : decode cX2_build 61 = .ok (.lload 4, 2) := by decide +kernel
end
section
set_option maxRecDepth 100000
theorem dX2_build_63 : decode cX2_build 63 = .ok (.lcmp, 1) := by decide +kernel
theorem dX2_build_64 : decode cX2_build 64 = .ok (.ifCond .ge 13, 3) := by decide +kernel
theorem dX2_build_67 : decode cX2_build 67 = .ok (.aload_n 0, 1) := by decide +kernel
theorem dX2_build_68 : decode cX2_build 68 = .ok (.getfield 7, 3) := by decide +kernel
theorem dX2_build_71 : decode cX2_build 71 = .ok (.iload 6, 2) := by decide +kernel
theorem dX2_build_73 : decode cX2_build 73 = .ok (.iaload, 1) := by decide +kernel
theorem dX2_build_74 : decode cX2_build 74 = .ok (.i2l, 1) := by decide +kernel
theorem dX2_build_75 : decode cX2_build 75 = .ok (.lstore 4, 2) := by decide +kernel
theorem dX2_build_77 : decode cX2_build 77 = .ok (.iinc 6 1, 3) := by decide +kernel
theorem dX2_build_80 : decode cX2_build 80 = .ok (.goto (-58), 3) := by decide +kernel
theorem dX2_build_83 : decode cX2_build 83 = .ok (.iconst 0, 1) := by decide +kernel
theorem dX2_build_84 : decode cX2_build 84 = .ok (.istore 6, 2) := by decide +kernel
theorem dX2_build_86 : decode cX2_build 86 = .ok (.iload 6, 2) := by decide +kernel
theorem dX2_build_88 : decode cX2_build 88 = .ok (.sipush 1023, 3) := by decide +kernel
theorem dX2_build_91 : decode cX2_build 91 = .ok (.if_icmp .ge 49, 3) := by decide +kernel
theorem dX2_build_94 : decode cX2_build 94 = .ok (.aload_n 0, 1) := by decide +kernel
theorem dX2_build_95 : decode cX2_build 95 = .ok (.getfield 13, 3) := by decide +kernel
theorem dX2_build_98 : decode cX2_build 98 = .ok (.iload 6, 2) := by decide +kernel
theorem dX2_build_100 : decode cX2_build 100 = .ok (.baload, 1) := by decide +kernel
theorem dX2_build_101 : decode cX2_build 101 = .ok (.ifCond .eq 33, 3) := by decide +kernel
theorem dX2_build_104 : decode cX2_build 104 = .ok (.aload_n 0, 1) := by decide +kernel
theorem dX2_build_105 : decode cX2_build 105 = .ok (.getfield 7, 3) := by decide +kernel
theorem dX2_build_108 : decode cX2_build 108 = .ok (.iload 6, 2) := by decide +kernel
theorem dX2_build_110 : decode cX2_build 110 = .ok (.iaload, 1) := by decide +kernel
theorem dX2_build_111 : decode cX2_build 111 = .ok (.i2l, 1) := by decide +kernel
theorem dX2_build_112 : decode cX2_build 112 = .ok (.lload 4, 2) := by decide +kernel
theorem dX2_build_114 : decode cX2_build 114 = .ok (.lcmp, 1) := by decide +kernel
theorem dX2_build_115 : decode cX2_build 115 = .ok (.ifCond .ne 19, 3) := by decide +kernel
theorem dX2_build_118 : decode cX2_build 118 = .ok (.aload_n 0, 1) := by decide +kernel
theorem dX2_build_119 : decode cX2_build 119 = .ok (.getfield 20, 3) := by decide +kernel
theorem dX2_build_122 : decode cX2_build 122 = .ok (.iload_n 1, 1) := by decide +kernel
theorem dX2_build_123 : decode cX2_build 123 = .ok (.aload_n 0, 1) := by decide +kernel
theorem dX2_build_124 : decode cX2_build 124 = .ok (.getfield 7, 3) := by decide +kernel
theorem dX2_build_127 : decode cX2_build 127 = .ok (.iload 6, 2) := by decide +kernel
theorem dX2_build_129 : decode cX2_build 129 = .ok (.iaload, 1) := by decide +kernel
theorem dX2_build_130 : decode cX2_build 130 = .ok (.iastore, 1) := by decide +kernel
theorem dX2_build_131 : decode cX2_build 131 = .ok (.iinc 1 1, 3) := by decide +kernel
theorem dX2_build_134 : decode cX2_build 134 = .ok (.iinc 6 1, 3) := by decide +kernel
theorem dX2_build_137 : decode cX2_build 137 = .ok (.goto (-51), 3) := by decide +kernel
theorem dX2_build_140 : decode cX2_build 140 = .ok (.lload 4, 2) := by decide +kernel
theorem dX2_build_142 : decode cX2_build 142 = .ok (.lstore_n 2, 1) := by decide +kernel
theorem dX2_build_143 : decode cX2_build 143 = .ok (.goto (-137), 3) := by decide +kernel
theorem dX2_build_146 : decode cX2_build 146 = .ok (.iconst 0, 1) := by decide +kernel
theorem dX2_build_147 : decode cX2_build 147 = .ok (.istore 4, 2) := by decide +kernel
theorem dX2_build_149 : decode cX2_build 149 = .ok (.bipush 9, 2) := by decide +kernel
theorem dX2_build_151 : decode cX2_build 151 = .ok (.istore 5, 2) := by decide +kernel
theorem dX2_build_153 : decode cX2_build 153 = .ok (.iload 5, 2) := by decide +kernel
theorem dX2_build_155 : decode cX2_build 155 = .ok (.ifCond .lt 105, 3) := by decide +kernel
theorem dX2_build_158 : decode cX2_build 158 = .ok (.aload_n 0, 1) := by decide +kernel
theorem dX2_build_159 : decode cX2_build 159 = .ok (.iload 5, 2) := by decide +kernel
theorem dX2_build_161 : decode cX2_build 161 = .ok (.invokevirtual 46, 3) := by decide +kernel
theorem dX2_build_164 : decode cX2_build 164 = .ok (.aload_n 0, 1) := by decide +kernel
theorem dX2_build_165 : decode cX2_build 165 = .ok (.getfield 17, 3) := by decide +kernel
theorem dX2_build_168 : decode cX2_build 168 = .ok (.iload 5, 2) := by decide +kernel
theorem dX2_build_170 : decode cX2_build 170 = .ok (.aload_n 0, 1) := by decide +kernel
theorem dX2_build_171 : decode cX2_build 171 = .ok (.getfield 36, 3) := by decide +kernel
theorem dX2_build_174 : decode cX2_build 174 = .ok (.iload 5, 2) := by decide +kernel
theorem dX2_build_176 : decode cX2_build 176 = .ok (.ishr, 1) := by decide +kernel
theorem dX2_build_177 : decode cX2_build 177 = .ok (.iconst 1, 1) := by decide +kernel
theorem dX2_build_178 : decode cX2_build 178 = .ok (.iand, 1) := by decide +kernel
theorem dX2_build_179 : decode cX2_build 179 = .ok (.iconst 1, 1) := by decide +kernel
theorem dX2_build_180 : decode cX2_build 180 = .ok (.if_icmp .ne 7, 3) := by decide +kernel
theorem dX2_build_183 : decode cX2_build 183 = .ok (.iconst 1, 1) := by decide +kernel
theorem dX2_build_184 : decode cX2_build 184 = .ok (.goto 4, 3) := by decide +kernel
theorem dX2_build_187 : decode cX2_build 187 = .ok (.iconst 0, 1) := by decide +kernel
theorem dX2_build_188 : decode cX2_build 188 = .ok (.bastore, 1) := by decide +kernel
theorem dX2_build_189 : decode cX2_build 189 = .ok (.iconst 0, 1) := by decide +kernel
theorem dX2_build_190 : decode cX2_build 190 = .ok (.istore 6, 2) := by decide +kernel
theorem dX2_build_192 : decode cX2_build 192 = .ok (.iload 6, 2) := by decide +kernel
theorem dX2_build_194 : decode cX2_build 194 = .ok (.iconst 1, 1) := by decide +kernel
theorem dX2_build_195 : decode cX2_build 195 = .ok (.iload 5, 2) := by decide +kernel
theorem dX2_build_197 : decode cX2_build 197 = .ok (.ishl, 1) := by decide +kernel
theorem dX2_build_198 : decode cX2_build 198 = .ok (.if_icmp .ge 56, 3) := by decide +kernel
theorem dX2_build_201 : decode cX2_build 201 = .ok (.aload_n 0, 1) := by decide +kernel
theorem dX2_build_202 : decode cX2_build 202 = .ok (.getfield 17, 3) := by decide +kernel
theorem dX2_build_205 : decode cX2_build 205 = .ok (.iload 5, 2) := by decide +kernel
theorem dX2_build_207 : decode cX2_build 207 = .ok (.baload, 1) := by decide +kernel
theorem dX2_build_208 : decode cX2_build 208 = .ok (.ifCond .eq 46, 3) := by decide +kernel
theorem dX2_build_211 : decode cX2_build 211 = .ok (.aload_n 0, 1) := by decide +kernel
theorem dX2_build_212 : decode cX2_build 212 = .ok (.getfield 7, 3) := by decide +kernel
theorem dX2_build_215 : decode cX2_build 215 = .ok (.iload 5, 2) := by decide +kernel
theorem dX2_build_217 : decode cX2_build 217 = .ok (.invokestatic 49, 3) := by decide +kernel
theorem dX2_build_220 : decode cX2_build 220 = .ok (.iload 6, 2) := by decide +kernel
theorem dX2_build_222 : decode cX2_build 222 = .ok (.iadd, 1) := by decide +kernel
theorem dX2_build_223 : decode cX2_build 223 = .ok (.aload_n 0, 1) := by decide +kernel
theorem dX2_build_224 : decode cX2_build 224 = .ok (.getfield 20, 3) := by decide +kernel
theorem dX2_build_227 : decode cX2_build 227 = .ok (.iload 4, 2) := by decide +kernel
theorem dX2_build_229 : decode cX2_build 229 = .ok (.iaload, 1) := by decide +kernel
theorem dX2_build_230 : decode cX2_build 230 = .ok (.iastore, 1) := by decide +kernel
theorem dX2_build_231 : decode cX2_build 231 = .ok (.aload_n 0, 1) := by decide +kernel
theorem dX2_build_232 : decode cX2_build 232 = .ok (.getfield 13, 3) := by decide +kernel
theorem dX2_build_235 : decode cX2_build 235 = .ok (.iload 5, 2) := by decide +kernel
theorem dX2_build_237 : decode cX2_build 237 = .ok (.invokestatic 49, 3) := by decide +kernel
theorem dX2_build_240 : decode cX2_build 240 = .ok (.iload 6, 2) := by decide +kernel
theorem dX2_build_242 : decode cX2_build 242 = .ok (.iadd, 1) := by decide +kernel
theorem dX2_build_243 : decode cX2_build 243 = .ok (.iconst 1, 1) := by decide +kernel
theorem dX2_build_244 : decode cX2_build 244 = .ok (.bastore, 1) := by decide +kernel
theorem dX2_build_245 : decode cX2_build 245 = .ok (.iinc 4 1, 3) := by decide +kernel
theorem dX2_build_248 : decode cX2_build 248 = .ok (.iinc 6 1, 3) := by decide +kernel
theorem dX2_build_251 : decode cX2_build 251 = .ok (.goto (-59), 3) := by decide +kernel
theorem dX2_build_254 : decode cX2_build 254 = .ok (.iinc 5 (-1), 3) := by decide +kernel
theorem dX2_build_257 : decode cX2_build 257 = .ok (.goto (-104), 3) := by decide +kernel
theorem dX2_build_260 : decode cX2_build 260 = .ok (.aload_n 0, 1) := by decide +kernel
theorem dX2_build_261 : decode cX2_build 261 = .ok (.aload_n 0, 1) := by decide +kernel
theorem dX2_build_262 : decode cX2_build 262 = .ok (.getfield 39, 3) := by decide +kernel
theorem dX2_build_265 : decode cX2_build 265 = .ok (.aload_n 0, 1) := by decide +kernel
theorem dX2_build_266 : decode cX2_build 266 = .ok (.getfield 36, 3) := by decide +kernel
theorem dX2_build_269 : decode cX2_build 269 = .ok (.iadd, 1) := by decide +kernel
theorem dX2_build_270 : decode cX2_build 270 = .ok (.putfield 39, 3) := by decide +kernel
theorem dX2_build_273 : decode cX2_build 273 = .ok (.aload_n 0, 1) := by decide +kernel
theorem dX2_build_274 : decode cX2_build 274 = .ok (.getfield 53, 3) := by decide +kernel
theorem dX2_build_277 : decode cX2_build 277 = .ok (.istore 5, 2) := by decide +kernel
theorem dX2_build_279 : decode cX2_build 279 = .ok (.aload_n 0, 1) := by decide +kernel
theorem dX2_build_280 : decode cX2_build 280 = .ok (.iconst 0, 1) := by decide +kernel
theorem dX2_build_281 : decode cX2_build 281 = .ok (.putfield 53, 3) := by decide +kernel
theorem dX2_build_284 : decode cX2_build 284 = .ok (.iload 5, 2) := by decide +kernel
theorem dX2_build_286 : decode cX2_build 286 = .ok (.ireturn, 1) := by decide +kernel
theorem dX2_count_0 : decode cX2_count 0 = .ok (.aload_n 0, 1) := by decide +kernel
theorem dX2_count_1 : decode cX2_count 1 = .ok (.iconst 0, 1) := by decide +kernel
theorem dX2_count_2 : decode cX2_count 2 = .ok (.putfield 64, 3) := by decide +kernel
theorem dX2_count_5 : decode cX2_count 5 = .ok (.aload_n 0, 1) := by decide +kernel
theorem dX2_count_6 : decode cX2_count 6 = .ok (.iload_n 1, 1) := by decide +kernel
theorem dX2_count_7 : decode cX2_count 7 = .ok (.i2l, 1) := by decide +kernel
theorem dX2_count_8 : decode cX2_count 8 = .ok (.invokevirtual 67, 3) := by decide +kernel
theorem dX2_count_11 : decode cX2_count 11 = .ok (.istore_n 2, 1) := by decide +kernel
theorem dX2_count_12 : decode cX2_count 12 = .ok (.aload_n 0, 1) := by decide +kernel
theorem dX2_count_13 : decode cX2_count 13 = .ok (.iload_n 1, 1) := by decide +kernel
theorem dX2_count_14 : decode cX2_count 14 = .ok (.i2l, 1) := by decide +kernel
theorem dX2_count_15 : decode cX2_count 15 = .ok (.lconst 1, 1) := by decide +kernel
theorem dX2_count_16 : decode cX2_count 16 = .ok (.ladd, 1) := by decide +kernel
theorem dX2_count_17 : decode cX2_count 17 = .ok (.invokevirtual 67, 3) := by decide +kernel
theorem dX2_count_20 : decode cX2_count 20 = .ok (.iload_n 2, 1) := by decide +kernel
theorem dX2_count_21 : decode cX2_count 21 = .ok (.isub, 1) := by decide +kernel
theorem dX2_count_22 : decode cX2_count 22 = .ok (.ireturn, 1) := by decide +kernel
theorem dX2_before_0 : decode cX2_before 0 = .ok (.iconst 0, 1) := by decide +kernel
theorem dX2_before_1 : decode cX2_before 1 = .ok (.istore_n 3, 1) := by decide +kernel
theorem dX2_before_2 : decode cX2_before 2 = .ok (.iconst 0, 1) := by decide +kernel
theorem dX2_before_3 : decode cX2_before 3 = .ok (.istore 4, 2) := by decide +kernel
theorem dX2_before_5 : decode cX2_before 5 = .ok (.iload 4, 2) := by decide +kernel
theorem dX2_before_7 : decode cX2_before 7 = .ok (.bipush 10, 2) := by decide +kernel
theorem dX2_before_9 : decode cX2_before 9 = .ok (.if_icmp .ge 133, 3) := by decide +kernel
theorem dX2_before_12 : decode cX2_before 12 = .ok (.iconst 0, 1) := by decide +kernel
theorem dX2_before_13 : decode cX2_before 13 = .ok (.istore 5, 2) := by decide +kernel
theorem dX2_before_15 : decode cX2_before 15 = .ok (.aload_n 0, 1) := by decide +kernel
theorem dX2_before_16 : decode cX2_before 16 = .ok (.getfield 17, 3) := by decide +kernel
theorem dX2_before_19 : decode cX2_before 19 = .ok (.iload 4, 2) := by decide +kernel
theorem dX2_before_21 : decode cX2_before 21 = .ok (.baload, 1) := by decide +kernel
theorem dX2_before_22 : decode cX2_before 22 = .ok (.ifCond .eq 10, 3) := by decide +kernel
theorem dX2_before_25 : decode cX2_before 25 = .ok (.iconst 1, 1) := by decide +kernel
theorem dX2_before_26 : decode cX2_before 26 = .ok (.iload 4, 2) := by decide +kernel
theorem dX2_before_28 : decode cX2_before 28 = .ok (.ishl, 1) := by decide +kernel
theorem dX2_before_29 : decode cX2_before 29 = .ok (.goto 4, 3) := by decide +kernel
theorem dX2_before_32 : decode cX2_before 32 = .ok (.iconst 0, 1) := by decide +kernel
theorem dX2_before_33 : decode cX2_before 33 = .ok (.istore 6, 2) := by decide +kernel
theorem dX2_before_35 : decode cX2_before 35 = .ok (.iload 5, 2) := by decide +kernel
theorem dX2_before_37 : decode cX2_before 37 = .ok (.iload 6, 2) := by decide +kernel
theorem dX2_before_39 : decode cX2_before 39 = .ok (.if_icmp .ge 57, 3) := by decide +kernel
theorem dX2_before_42 : decode cX2_before 42 = .ok (.iload 5, 2) := by decide +kernel
theorem dX2_before_44 : decode cX2_before 44 = .ok (.iload 6, 2) := by decide +kernel
theorem dX2_before_46 : decode cX2_before 46 = .ok (.iadd, 1) := by decide +kernel
theorem dX2_before_47 : decode cX2_before 47 = .ok (.iconst 2, 1) := by decide +kernel
theorem dX2_before_48 : decode cX2_before 48 = .ok (.idiv, 1) := by decide +kernel
theorem dX2_before_49 : decode cX2_before 49 = .ok (.istore 7, 2) := by decide +kernel
theorem dX2_before_51 : decode cX2_before 51 = .ok (.aload_n 0, 1) := by decide +kernel
theorem dX2_before_52 : decode cX2_before 52 = .ok (.dup, 1) := by decide +kernel
theorem dX2_before_53 : decode cX2_before 53 = .ok (.getfield 64, 3) := by decide +kernel
theorem dX2_before_56 : decode cX2_before 56 = .ok (.iconst 1, 1) := by decide +kernel
theorem dX2_before_57 : decode cX2_before 57 = .ok (.iadd, 1) := by decide +kernel
theorem dX2_before_58 : decode cX2_before 58 = .ok (.putfield 64, 3) := by decide +kernel
theorem dX2_before_61 : decode cX2_before 61 = .ok (.aload_n 0, 1) := by decide +kernel
theorem dX2_before_62 : decode cX2_before 62 = .ok (.getfield 7, 3) := by decide +kernel
theorem dX2_before_65 : decode cX2_before 65 = .ok (.iload 4, 2) := by decide +kernel
theorem dX2_before_67 : decode cX2_before 67 = .ok (.invokestatic 49, 3) := by decide +kernel
theorem dX2_before_70 : decode cX2_before 70 = .ok (.iload 7, 2) := by decide +kernel
theorem dX2_before_72 : decode cX2_before 72 = .ok (.iadd, 1) := by decide +kernel
theorem dX2_before_73 : decode cX2_before 73 = .ok (.iaload, 1) := by decide +kernel
theorem dX2_before_74 : decode cX2_before 74 = .ok (.i2l, 1) := by decide +kernel
theorem dX2_before_75 : decode cX2_before 75 = .ok (.lload_n 1, 1) := by decide +kernel
theorem dX2_before_76 : decode cX2_before 76 = .ok (.lcmp, 1) := by decide +kernel
theorem dX2_before_77 : decode cX2_before 77 = .ok (.ifCond .ge 12, 3) := by decide +kernel
theorem dX2_before_80 : decode cX2_before 80 = .ok (.iload 7, 2) := by decide +kernel
theorem dX2_before_82 : decode cX2_before 82 = .ok (.iconst 1, 1) := by decide +kernel
theorem dX2_before_83 : decode cX2_before 83 = .ok (.iadd, 1) := by decide +kernel
theorem dX2_before_84 : decode cX2_before 84 = .ok (.istore 5, 2) := by decide +kernel
theorem dX2_before_86 : decode cX2_before 86 = .ok (.goto 7, 3) := by decide +kernel
theorem dX2_before_89 : decode cX2_before 89 = .ok (.iload 7, 2) := by decide +kernel
theorem dX2_before_91 : decode cX2_before 91 = .ok (.istore 6, 2) := by decide +kernel
theorem dX2_before_93 : decode cX2_before 93 = .ok (.goto (-58), 3) := by decide +kernel
theorem dX2_before_96 : decode cX2_before 96 = .ok (.iconst 0, 1) := by decide +kernel
theorem dX2_before_97 : decode cX2_before 97 = .ok (.istore 7, 2) := by decide +kernel
theorem dX2_before_99 : decode cX2_before 99 = .ok (.iload 7, 2) := by decide +kernel
theorem dX2_before_101 : decode cX2_before 101 = .ok (.iload 5, 2) := by decide +kernel
theorem dX2_before_103 : decode cX2_before 103 = .ok (.if_icmp .ge 33, 3) := by decide +kernel
theorem dX2_before_106 : decode cX2_before 106 = .ok (.aload_n 0, 1) := by decide +kernel
theorem dX2_before_107 : decode cX2_before 107 = .ok (.getfield 13, 3) := by decide +kernel
theorem dX2_before_110 : decode cX2_before 110 = .ok (.iload 4, 2) := by decide +kernel
theorem dX2_before_112 : decode cX2_before 112 = .ok (.invokestatic 49, 3) := by decide +kernel
theorem dX2_before_115 : decode cX2_before 115 = .ok (.iload 7, 2) := by decide +kernel
theorem dX2_before_117 : decode cX2_before 117 = .ok (.iadd, 1) := by decide +kernel
theorem dX2_before_118 : decode cX2_before 118 = .ok (.baload, 1) := by decide +kernel
theorem dX2_before_119 : decode cX2_before 119 = .ok (.ifCond .eq 9, 3) := by decide +kernel
theorem dX2_before_122 : decode cX2_before 122 = .ok (.iload_n 3, 1) := by decide +kernel
theorem dX2_before_123 : decode cX2_before 123 = .ok (.iconst 1, 1) := by decide +kernel
theorem dX2_before_124 : decode cX2_before 124 = .ok (.iadd, 1) := by decide +kernel
theorem dX2_before_125 : decode cX2_before 125 = .ok (.goto 4, 3) := by decide +kernel
theorem dX2_before_128 : decode cX2_before 128 = .ok (.iload_n 3, 1) := by decide +kernel
theorem dX2_before_129 : decode cX2_before 129 = .ok (.istore_n 3, 1) := by decide +kernel
theorem dX2_before_130 : decode cX2_before 130 = .ok (.iinc 7 1, 3) := by decide +kernel
theorem dX2_before_133 : decode cX2_before 133 = .ok (.goto (-34), 3) := by decide +kernel
theorem dX2_before_136 : decode cX2_before 136 = .ok (.iinc 4 1, 3) := by decide +kernel
theorem dX2_before_139 : decode cX2_before 139 = .ok (.goto (-134), 3) := by decide +kernel
theorem dX2_before_142 : decode cX2_before 142 = .ok (.iload_n 3, 1) := by decide +kernel
theorem dX2_before_143 : decode cX2_before 143 = .ok (.ireturn, 1) := by decide +kernel
theorem dX2_rank_0 : decode cX2_rank 0 = .ok (.aload_n 0, 1) := by decide +kernel
theorem dX2_rank_1 : decode cX2_rank 1 = .ok (.iconst 0, 1) := by decide +kernel
theorem dX2_rank_2 : decode cX2_rank 2 = .ok (.putfield 64, 3) := by decide +kernel
theorem dX2_rank_5 : decode cX2_rank 5 = .ok (.aload_n 0, 1) := by decide +kernel
theorem dX2_rank_6 : decode cX2_rank 6 = .ok (.iload_n 1, 1) := by decide +kernel
theorem dX2_rank_7 : decode cX2_rank 7 = .ok (.i2l, 1) := by decide +kernel
theorem dX2_rank_8 : decode cX2_rank 8 = .ok (.invokevirtual 67, 3) := by decide +kernel
theorem dX2_rank_11 : decode cX2_rank 11 = .ok (.ireturn, 1) := by decide +kernel
theorem dX2_select_0 : decode cX2_select 0 = .ok (.aload_n 0, 1) := by decide +kernel
theorem dX2_select_1 : decode cX2_select 1 = .ok (.iconst 0, 1) := by decide +kernel
theorem dX2_select_2 : decode cX2_select 2 = .ok (.putfield 64, 3) := by decide +kernel
theorem dX2_select_5 : decode cX2_select 5 = .ok (.aload_n 0, 1) := by decide +kernel
theorem dX2_select_6 : decode cX2_select 6 = .ok (.iload_n 1, 1) := by decide +kernel
theorem dX2_select_7 : decode cX2_select 7 = .ok (.invokevirtual 71, 3) := by decide +kernel
theorem dX2_select_10 : decode cX2_select 10 = .ok (.ifCond .ne 5, 3) := by decide +kernel
theorem dX2_select_13 : decode cX2_select 13 = .ok (.iconst 0, 1) := by decide +kernel
theorem dX2_select_14 : decode cX2_select 14 = .ok (.ireturn, 1) := by decide +kernel
theorem dX2_select_15 : decode cX2_select 15 = .ok (.ldc2_w 75, 3) := by decide +kernel
theorem dX2_select_18 : decode cX2_select 18 = .ok (.lstore_n 2, 1) := by decide +kernel
theorem dX2_select_19 : decode cX2_select 19 = .ok (.ldc2_w 77, 3) := by decide +kernel
theorem dX2_select_22 : decode cX2_select 22 = .ok (.lstore 4, 2) := by decide +kernel
theorem dX2_select_24 : decode cX2_select 24 = .ok (.lload_n 2, 1) := by decide +kernel
theorem dX2_select_25 : decode cX2_select 25 = .ok (.lload 4, 2) := by decide +kernel
theorem dX2_select_27 : decode cX2_select 27 = .ok (.lcmp, 1) := by decide +kernel
theorem dX2_select_28 : decode cX2_select 28 = .ok (.ifCond .ge 38, 3) := by decide +kernel
theorem dX2_select_31 : decode cX2_select 31 = .ok (.lload_n 2, 1) := by decide +kernel
theorem dX2_select_32 : decode cX2_select 32 = .ok (.lload 4, 2) := by decide +kernel
theorem dX2_select_34 : decode cX2_select 34 = .ok (.ladd, 1) := by decide +kernel
theorem dX2_select_35 : decode cX2_select 35 = .ok (.iconst 1, 1) := by decide +kernel
theorem dX2_select_36 : decode cX2_select 36 = .ok (.lshr, 1) := by decide +kernel
theorem dX2_select_37 : decode cX2_select 37 = .ok (.lstore 6, 2) := by decide +kernel
theorem dX2_select_39 : decode cX2_select 39 = .ok (.aload_n 0, 1) := by decide +kernel
theorem dX2_select_40 : decode cX2_select 40 = .ok (.lload 6, 2) := by decide +kernel
theorem dX2_select_42 : decode cX2_select 42 = .ok (.lconst 1, 1) := by decide +kernel
theorem dX2_select_43 : decode cX2_select 43 = .ok (.ladd, 1) := by decide +kernel
theorem dX2_select_44 : decode cX2_select 44 = .ok (.invokevirtual 67, 3) := by decide +kernel
theorem dX2_select_47 : decode cX2_select 47 = .ok (.iload_n 1, 1) := by decide +kernel
theorem dX2_select_48 : decode cX2_select 48 = .ok (.if_icmp .le 10, 3) := by decide +kernel
theorem dX2_select_51 : decode cX2_select 51 = .ok (.lload 6, 2) := by decide +kernel
theorem dX2_select_53 : decode cX2_select 53 = .ok (.lstore 4, 2) := by decide +kernel
theorem dX2_select_55 : decode cX2_select 55 = .ok (.goto 8, 3) := by decide +kernel
theorem dX2_select_58 : decode cX2_select 58 = .ok (.lload 6, 2) := by decide +kernel
theorem dX2_select_60 : decode cX2_select 60 = .ok (.lconst 1, 1) := by decide +kernel
theorem dX2_select_61 : decode cX2_select 61 = .ok (.ladd, 1) := by decide +kernel
theorem dX2_select_62 : decode cX2_select 62 = .ok (.lstore_n 2, 1) := by decide +kernel
theorem dX2_select_63 : decode cX2_select 63 = .ok (.goto (-39), 3) := by decide +kernel
theorem dX2_select_66 : decode cX2_select 66 = .ok (.lload_n 2, 1) := by decide +kernel
theorem dX2_select_67 : decode cX2_select 67 = .ok (.l2i, 1) := by decide +kernel
theorem dX2_select_68 : decode cX2_select 68 = .ok (.ireturn, 1) := by decide +kernel
theorem dX2_isPlace_0 : decode cX2_isPlace 0 = .ok (.iload_n 1, 1) := by decide +kernel
theorem dX2_isPlace_1 : decode cX2_isPlace 1 = .ok (.ifCond .lt 15, 3) := by decide +kernel
theorem dX2_isPlace_4 : decode cX2_isPlace 4 = .ok (.iload_n 1, 1) := by decide +kernel
theorem dX2_isPlace_5 : decode cX2_isPlace 5 = .ok (.aload_n 0, 1) := by decide +kernel
theorem dX2_isPlace_6 : decode cX2_isPlace 6 = .ok (.getfield 36, 3) := by decide +kernel
theorem dX2_isPlace_9 : decode cX2_isPlace 9 = .ok (.if_icmp .ge 7, 3) := by decide +kernel
theorem dX2_isPlace_12 : decode cX2_isPlace 12 = .ok (.iconst 1, 1) := by decide +kernel
theorem dX2_isPlace_13 : decode cX2_isPlace 13 = .ok (.goto 4, 3) := by decide +kernel
theorem dX2_isPlace_16 : decode cX2_isPlace 16 = .ok (.iconst 0, 1) := by decide +kernel
theorem dX2_isPlace_17 : decode cX2_isPlace 17 = .ok (.ireturn, 1) := by decide +kernel
theorem dX2_has_0 : decode cX2_has 0 = .ok (.aload_n 0, 1) := by decide +kernel
theorem dX2_has_1 : decode cX2_has 1 = .ok (.iconst 0, 1) := by decide +kernel
theorem dX2_has_2 : decode cX2_has 2 = .ok (.putfield 64, 3) := by decide +kernel
theorem dX2_has_5 : decode cX2_has 5 = .ok (.aload_n 0, 1) := by decide +kernel
theorem dX2_has_6 : decode cX2_has 6 = .ok (.iload_n 1, 1) := by decide +kernel
theorem dX2_has_7 : decode cX2_has 7 = .ok (.invokevirtual 71, 3) := by decide +kernel
theorem dX2_has_10 : decode cX2_has 10 = .ok (.ireturn, 1) := by decide +kernel
theorem dX2_pred_0 : decode cX2_pred 0 = .ok (.aload_n 0, 1) := by decide +kernel
theorem dX2_pred_1 : decode cX2_pred 1 = .ok (.iconst 0, 1) := by decide +kernel
theorem dX2_pred_2 : decode cX2_pred 2 = .ok (.putfield 64, 3) := by decide +kernel
theorem dX2_pred_5 : decode cX2_pred 5 = .ok (.aload_n 0, 1) := by decide +kernel
theorem dX2_pred_6 : decode cX2_pred 6 = .ok (.iload_n 1, 1) := by decide +kernel
theorem dX2_pred_7 : decode cX2_pred 7 = .ok (.i2l, 1) := by decide +kernel
theorem dX2_pred_8 : decode cX2_pred 8 = .ok (.invokevirtual 67, 3) := by decide +kernel
theorem dX2_pred_11 : decode cX2_pred 11 = .ok (.iconst 1, 1) := by decide +kernel
theorem dX2_pred_12 : decode cX2_pred 12 = .ok (.isub, 1) := by decide +kernel
theorem dX2_pred_13 : decode cX2_pred 13 = .ok (.ireturn, 1) := by decide +kernel
theorem dX2_succ_0 : decode cX2_succ 0 = .ok (.aload_n 0, 1) := by decide +kernel
theorem dX2_succ_1 : decode cX2_succ 1 = .ok (.iconst 0, 1) := by decide +kernel
theorem dX2_succ_2 : decode cX2_succ 2 = .ok (.putfield 64, 3) := by decide +kernel
theorem dX2_succ_5 : decode cX2_succ 5 = .ok (.aload_n 0, 1) := by decide +kernel
theorem dX2_succ_6 : decode cX2_succ 6 = .ok (.iload_n 1, 1) := by decide +kernel
theorem dX2_succ_7 : decode cX2_succ 7 = .ok (.i2l, 1) := by decide +kernel
theorem dX2_succ_8 : decode cX2_succ 8 = .ok (.lconst 1, 1) := by decide +kernel
theorem dX2_succ_9 : decode cX2_succ 9 = .ok (.ladd, 1) := by decide +kernel
theorem dX2_succ_10 : decode cX2_succ 10 = .ok (.invokevirtual 67, 3) := by decide +kernel
theorem dX2_succ_13 : decode cX2_succ 13 = .ok (.istore_n 2, 1) := by decide +kernel
theorem dX2_succ_14 : decode cX2_succ 14 = .ok (.iload_n 2, 1) := by decide +kernel
theorem dX2_succ_15 : decode cX2_succ 15 = .ok (.aload_n 0, 1) := by decide +kernel
theorem dX2_succ_16 : decode cX2_succ 16 = .ok (.getfield 36, 3) := by decide +kernel
theorem dX2_succ_19 : decode cX2_succ 19 = .ok (.if_icmp .ge 7, 3) := by decide +kernel
theorem dX2_succ_22 : decode cX2_succ 22 = .ok (.iload_n 2, 1) := by decide +kernel
theorem dX2_succ_23 : decode cX2_succ 23 = .ok (.goto 4, 3) := by decide +kernel
theorem dX2_succ_26 : decode cX2_succ 26 = .ok (.iconst (-1), 1) := by decide +kernel
theorem dX2_succ_27 : decode cX2_succ 27 = .ok (.ireturn, 1) := by decide +kernel
theorem dX2_rangeCount_0 : decode cX2_rangeCount 0 = .ok (.aload_n 0, 1) := by decide +kernel
theorem dX2_rangeCount_1 : decode cX2_rangeCount 1 = .ok (.iconst 0, 1) := by decide +kernel
theorem dX2_rangeCount_2 : decode cX2_rangeCount 2 = .ok (.putfield 64, 3) := by decide +kernel
theorem dX2_rangeCount_5 : decode cX2_rangeCount 5 = .ok (.iload_n 1, 1) := by decide +kernel
theorem dX2_rangeCount_6 : decode cX2_rangeCount 6 = .ok (.iload_n 2, 1) := by decide +kernel
theorem dX2_rangeCount_7 : decode cX2_rangeCount 7 = .ok (.if_icmp .le 5, 3) := by decide +kernel
theorem dX2_rangeCount_10 : decode cX2_rangeCount 10 = .ok (.iconst 0, 1) := by decide +kernel
theorem dX2_rangeCount_11 : decode cX2_rangeCount 11 = .ok (.ireturn, 1) := by decide +kernel
theorem dX2_rangeCount_12 : decode cX2_rangeCount 12 = .ok (.aload_n 0, 1) := by decide +kernel
theorem dX2_rangeCount_13 : decode cX2_rangeCount 13 = .ok (.iload_n 1, 1) := by decide +kernel
theorem dX2_rangeCount_14 : decode cX2_rangeCount 14 = .ok (.i2l, 1) := by decide +kernel
theorem dX2_rangeCount_15 : decode cX2_rangeCount 15 = .ok (.invokevirtual 67, 3) := by decide +kernel
theorem dX2_rangeCount_18 : decode cX2_rangeCount 18 = .ok (.istore_n 3, 1) := by decide +kernel
theorem dX2_rangeCount_19 : decode cX2_rangeCount 19 = .ok (.aload_n 0, 1) := by decide +kernel
theorem dX2_rangeCount_20 : decode cX2_rangeCount 20 = .ok (.iload_n 2, 1) := by decide +kernel
theorem dX2_rangeCount_21 : decode cX2_rangeCount 21 = .ok (.i2l, 1) := by decide +kernel
theorem dX2_rangeCount_22 : decode cX2_rangeCount 22 = .ok (.lconst 1, 1) := by decide +kernel
theorem dX2_rangeCount_23 : decode cX2_rangeCount 23 = .ok (.ladd, 1) := by decide +kernel
theorem dX2_rangeCount_24 : decode cX2_rangeCount 24 = .ok (.invokevirtual 67, 3) := by decide +kernel
theorem dX2_rangeCount_27 : decode cX2_rangeCount 27 = .ok (.iload_n 3, 1) := by decide +kernel
theorem dX2_rangeCount_28 : decode cX2_rangeCount 28 = .ok (.isub, 1) := by decide +kernel
theorem dX2_rangeCount_29 : decode cX2_rangeCount 29 = .ok (.ireturn, 1) := by decide +kernel
theorem dX2_size_0 : decode cX2_size 0 = .ok (.aload_n 0, 1) := by decide +kernel
theorem dX2_size_1 : decode cX2_size 1 = .ok (.getfield 36, 3) := by decide +kernel
theorem dX2_size_4 : decode cX2_size 4 = .ok (.ireturn, 1) := by decide +kernel
theorem dX2_rebuild_0 : decode cX2_rebuild 0 = .ok (.aload_n 0, 1) := by decide +kernel
theorem dX2_rebuild_1 : decode cX2_rebuild 1 = .ok (.invokevirtual 56, 3) := by decide +kernel
theorem dX2_rebuild_4 : decode cX2_rebuild 4 = .ok (.ireturn, 1) := by decide +kernel
theorem dX2_movesMade_0 : decode cX2_movesMade 0 = .ok (.aload_n 0, 1) := by decide +kernel
theorem dX2_movesMade_1 : decode cX2_movesMade 1 = .ok (.getfield 39, 3) := by decide +kernel
theorem dX2_movesMade_4 : decode cX2_movesMade 4 = .ok (.ireturn, 1) := by decide +kernel
theorem dX2_probesLast_0 : decode cX2_probesLast 0 = .ok (.aload_n 0, 1) := by decide +kernel
theorem dX2_probesLast_1 : decode cX2_probesLast 1 = .ok (.getfield 64, 3) := by decide +kernel
theorem dX2_probesLast_4 : decode cX2_probesLast 4 = .ok (.ireturn, 1) := by decide +kernel
theorem dX2_cellsOf_0 : decode cX2_cellsOf 0 = .ok (.iload_n 1, 1) := by decide +kernel
theorem dX2_cellsOf_1 : decode cX2_cellsOf 1 = .ok (.iconst (-1), 1) := by decide +kernel
theorem dX2_cellsOf_2 : decode cX2_cellsOf 2 = .ok (.if_icmp .ne 8, 3) := by decide +kernel
theorem dX2_cellsOf_5 : decode cX2_cellsOf 5 = .ok (.aload_n 0, 1) := by decide +kernel
theorem dX2_cellsOf_6 : decode cX2_cellsOf 6 = .ok (.getfield 53, 3) := by decide +kernel
theorem dX2_cellsOf_9 : decode cX2_cellsOf 9 = .ok (.ireturn, 1) := by decide +kernel
theorem dX2_cellsOf_10 : decode cX2_cellsOf 10 = .ok (.iload_n 1, 1) := by decide +kernel
theorem dX2_cellsOf_11 : decode cX2_cellsOf 11 = .ok (.ifCond .lt 24, 3) := by decide +kernel
theorem dX2_cellsOf_14 : decode cX2_cellsOf 14 = .ok (.iload_n 1, 1) := by decide +kernel
theorem dX2_cellsOf_15 : decode cX2_cellsOf 15 = .ok (.bipush 10, 2) := by decide +kernel
theorem dX2_cellsOf_17 : decode cX2_cellsOf 17 = .ok (.if_icmp .ge 18, 3) := by decide +kernel
theorem dX2_cellsOf_20 : decode cX2_cellsOf 20 = .ok (.aload_n 0, 1) := by decide +kernel
theorem dX2_cellsOf_21 : decode cX2_cellsOf 21 = .ok (.getfield 17, 3) := by decide +kernel
theorem dX2_cellsOf_24 : decode cX2_cellsOf 24 = .ok (.iload_n 1, 1) := by decide +kernel
theorem dX2_cellsOf_25 : decode cX2_cellsOf 25 = .ok (.baload, 1) := by decide +kernel
theorem dX2_cellsOf_26 : decode cX2_cellsOf 26 = .ok (.ifCond .eq 9, 3) := by decide +kernel
theorem dX2_cellsOf_29 : decode cX2_cellsOf 29 = .ok (.iconst 1, 1) := by decide +kernel
theorem dX2_cellsOf_30 : decode cX2_cellsOf 30 = .ok (.iload_n 1, 1) := by decide +kernel
theorem dX2_cellsOf_31 : decode cX2_cellsOf 31 = .ok (.ishl, 1) := by decide +kernel
theorem dX2_cellsOf_32 : decode cX2_cellsOf 32 = .ok (.goto 4, 3) := by decide +kernel
theorem dX2_cellsOf_35 : decode cX2_cellsOf 35 = .ok (.iconst 0, 1) := by decide +kernel
theorem dX2_cellsOf_36 : decode cX2_cellsOf 36 = .ok (.ireturn, 1) := by decide +kernel
theorem dX2_cell_0 : decode cX2_cell 0 = .ok (.iload_n 1, 1) := by decide +kernel
theorem dX2_cell_1 : decode cX2_cell 1 = .ok (.ifCond .lt 17, 3) := by decide +kernel
theorem dX2_cell_4 : decode cX2_cell 4 = .ok (.iload_n 1, 1) := by decide +kernel
theorem dX2_cell_5 : decode cX2_cell 5 = .ok (.bipush 10, 2) := by decide +kernel
theorem dX2_cell_7 : decode cX2_cell 7 = .ok (.if_icmp .ge 11, 3) := by decide +kernel
theorem dX2_cell_10 : decode cX2_cell 10 = .ok (.iload_n 2, 1) := by decide +kernel
theorem dX2_cell_11 : decode cX2_cell 11 = .ok (.ifCond .lt 7, 3) := by decide +kernel
theorem dX2_cell_14 : decode cX2_cell 14 = .ok (.iconst 1, 1) := by decide +kernel
theorem dX2_cell_15 : decode cX2_cell 15 = .ok (.goto 4, 3) := by decide +kernel
theorem dX2_cell_18 : decode cX2_cell 18 = .ok (.iconst 0, 1) := by decide +kernel
theorem dX2_cell_19 : decode cX2_cell 19 = .ok (.istore_n 3, 1) := by decide +kernel
theorem dX2_cell_20 : decode cX2_cell 20 = .ok (.iload_n 3, 1) := by decide +kernel
theorem dX2_cell_21 : decode cX2_cell 21 = .ok (.ifCond .eq 33, 3) := by decide +kernel
theorem dX2_cell_24 : decode cX2_cell 24 = .ok (.aload_n 0, 1) := by decide +kernel
theorem dX2_cell_25 : decode cX2_cell 25 = .ok (.getfield 17, 3) := by decide +kernel
theorem dX2_cell_28 : decode cX2_cell 28 = .ok (.iload_n 1, 1) := by decide +kernel
theorem dX2_cell_29 : decode cX2_cell 29 = .ok (.baload, 1) := by decide +kernel
theorem dX2_cell_30 : decode cX2_cell 30 = .ok (.ifCond .eq 24, 3) := by decide +kernel
theorem dX2_cell_33 : decode cX2_cell 33 = .ok (.iload_n 2, 1) := by decide +kernel
theorem dX2_cell_34 : decode cX2_cell 34 = .ok (.iconst 1, 1) := by decide +kernel
theorem dX2_cell_35 : decode cX2_cell 35 = .ok (.iload_n 1, 1) := by decide +kernel
theorem dX2_cell_36 : decode cX2_cell 36 = .ok (.ishl, 1) := by decide +kernel
theorem dX2_cell_37 : decode cX2_cell 37 = .ok (.if_icmp .ge 17, 3) := by decide +kernel
theorem dX2_cell_40 : decode cX2_cell 40 = .ok (.aload_n 0, 1) := by decide +kernel
theorem dX2_cell_41 : decode cX2_cell 41 = .ok (.getfield 7, 3) := by decide +kernel
theorem dX2_cell_44 : decode cX2_cell 44 = .ok (.iload_n 1, 1) := by decide +kernel
theorem dX2_cell_45 : decode cX2_cell 45 = .ok (.invokestatic 49, 3) := by decide +kernel
theorem dX2_cell_48 : decode cX2_cell 48 = .ok (.iload_n 2, 1) := by decide +kernel
theorem dX2_cell_49 : decode cX2_cell 49 = .ok (.iadd, 1) := by decide +kernel
theorem dX2_cell_50 : decode cX2_cell 50 = .ok (.iaload, 1) := by decide +kernel
theorem dX2_cell_51 : decode cX2_cell 51 = .ok (.goto 4, 3) := by decide +kernel
theorem dX2_cell_54 : decode cX2_cell 54 = .ok (.iconst 0, 1) := by decide +kernel
theorem dX2_cell_55 : decode cX2_cell 55 = .ok (.ireturn, 1) := by decide +kernel
end
section
set_option maxRecDepth 100000
theorem dX0_cell_0 : decode cX0_cell 0 = .ok (.iload_n 1, 1) := by decide +kernel
theorem dX0_cell_1 : decode cX0_cell 1 = .ok (.aload_n 0, 1) := by decide +kernel
theorem dX0_cell_2 : decode cX0_cell 2 = .ok (.arraylength, 1) := by decide +kernel
theorem dX0_cell_3 : decode cX0_cell 3 = .ok (.if_icmp .ge 9, 3) := by decide +kernel
theorem dX0_cell_6 : decode cX0_cell 6 = .ok (.aload_n 0, 1) := by decide +kernel
theorem dX0_cell_7 : decode cX0_cell 7 = .ok (.iload_n 1, 1) := by decide +kernel
theorem dX0_cell_8 : decode cX0_cell 8 = .ok (.iaload, 1) := by decide +kernel
theorem dX0_cell_9 : decode cX0_cell 9 = .ok (.goto 4, 3) := by decide +kernel
theorem dX0_cell_12 : decode cX0_cell 12 = .ok (.iconst 0, 1) := by decide +kernel
theorem dX0_cell_13 : decode cX0_cell 13 = .ok (.ireturn, 1) := by decide +kernel
theorem dL_law_0 : decode cL_law 0 = .ok (.new 7, 3) := by decide +kernel
theorem dL_law_3 : decode cL_law 3 = .ok (.dup, 1) := by decide +kernel
theorem dL_law_4 : decode cL_law 4 = .ok (.aload_n 0, 1) := by decide +kernel
theorem dL_law_5 : decode cL_law 5 = .ok (.iconst 0, 1) := by decide +kernel
theorem dL_law_6 : decode cL_law 6 = .ok (.invokestatic 9, 3) := by decide +kernel
theorem dL_law_9 : decode cL_law 9 = .ok (.invokespecial 15, 3) := by decide +kernel
theorem dL_law_12 : decode cL_law 12 = .ok (.astore_n 1, 1) := by decide +kernel
theorem dL_law_13 : decode cL_law 13 = .ok (.new 18, 3) := by decide +kernel
theorem dL_law_16 : decode cL_law 16 = .ok (.dup, 1) := by decide +kernel
theorem dL_law_17 : decode cL_law 17 = .ok (.aload_n 0, 1) := by decide +kernel
theorem dL_law_18 : decode cL_law 18 = .ok (.iconst 0, 1) := by decide +kernel
theorem dL_law_19 : decode cL_law 19 = .ok (.invokestatic 9, 3) := by decide +kernel
theorem dL_law_22 : decode cL_law 22 = .ok (.invokespecial 20, 3) := by decide +kernel
theorem dL_law_25 : decode cL_law 25 = .ok (.astore_n 2, 1) := by decide +kernel
theorem dL_law_26 : decode cL_law 26 = .ok (.iconst 1, 1) := by decide +kernel
theorem dL_law_27 : decode cL_law 27 = .ok (.istore_n 3, 1) := by decide +kernel
theorem dL_law_28 : decode cL_law 28 = .ok (.iload_n 3, 1) := by decide +kernel
theorem dL_law_29 : decode cL_law 29 = .ok (.aload_n 0, 1) := by decide +kernel
theorem dL_law_30 : decode cL_law 30 = .ok (.arraylength, 1) := by decide +kernel
theorem dL_law_31 : decode cL_law 31 = .ok (.iconst 3, 1) := by decide +kernel
theorem dL_law_32 : decode cL_law 32 = .ok (.isub, 1) := by decide +kernel
theorem dL_law_33 : decode cL_law 33 = .ok (.if_icmp .gt 414, 3) := by decide +kernel
theorem dL_law_36 : decode cL_law 36 = .ok (.aload_n 0, 1) := by decide +kernel
theorem dL_law_37 : decode cL_law 37 = .ok (.iload_n 3, 1) := by decide +kernel
theorem dL_law_38 : decode cL_law 38 = .ok (.iaload, 1) := by decide +kernel
theorem dL_law_39 : decode cL_law 39 = .ok (.bipush 15, 2) := by decide +kernel
theorem dL_law_41 : decode cL_law 41 = .ok (.iand, 1) := by decide +kernel
theorem dL_law_42 : decode cL_law 42 = .ok (.tableswitch 399 0 14 #[74, 97, 120, 143, 166, 189, 212, 235, 258, 291, 304, 317, 330, 343, 366], 74) := by decide +kernel
theorem dL_law_116 : decode cL_law 116 = .ok (.aload_n 1, 1) := by decide +kernel
theorem dL_law_117 : decode cL_law 117 = .ok (.aload_n 0, 1) := by decide +kernel
theorem dL_law_118 : decode cL_law 118 = .ok (.iload_n 3, 1) := by decide +kernel
theorem dL_law_119 : decode cL_law 119 = .ok (.iconst 1, 1) := by decide +kernel
theorem dL_law_120 : decode cL_law 120 = .ok (.iadd, 1) := by decide +kernel
theorem dL_law_121 : decode cL_law 121 = .ok (.iaload, 1) := by decide +kernel
theorem dL_law_122 : decode cL_law 122 = .ok (.invokevirtual 21, 3) := by decide +kernel
theorem dL_law_125 : decode cL_law 125 = .ok (.aload_n 2, 1) := by decide +kernel
theorem dL_law_126 : decode cL_law 126 = .ok (.aload_n 0, 1) := by decide +kernel
theorem dL_law_127 : decode cL_law 127 = .ok (.iload_n 3, 1) := by decide +kernel
theorem dL_law_128 : decode cL_law 128 = .ok (.iconst 1, 1) := by decide +kernel
theorem dL_law_129 : decode cL_law 129 = .ok (.iadd, 1) := by decide +kernel
theorem dL_law_130 : decode cL_law 130 = .ok (.iaload, 1) := by decide +kernel
theorem dL_law_131 : decode cL_law 131 = .ok (.invokevirtual 25, 3) := by decide +kernel
theorem dL_law_134 : decode cL_law 134 = .ok (.if_icmp .eq 307, 3) := by decide +kernel
theorem dL_law_137 : decode cL_law 137 = .ok (.iconst 0, 1) := by decide +kernel
theorem dL_law_138 : decode cL_law 138 = .ok (.ireturn, 1) := by decide +kernel
theorem dL_law_139 : decode cL_law 139 = .ok (.aload_n 1, 1) := by decide +kernel
theorem dL_law_140 : decode cL_law 140 = .ok (.aload_n 0, 1) := by decide +kernel
theorem dL_law_141 : decode cL_law 141 = .ok (.iload_n 3, 1) := by decide +kernel
theorem dL_law_142 : decode cL_law 142 = .ok (.iconst 1, 1) := by decide +kernel
theorem dL_law_143 : decode cL_law 143 = .ok (.iadd, 1) := by decide +kernel
theorem dL_law_144 : decode cL_law 144 = .ok (.iaload, 1) := by decide +kernel
theorem dL_law_145 : decode cL_law 145 = .ok (.invokevirtual 26, 3) := by decide +kernel
theorem dL_law_148 : decode cL_law 148 = .ok (.aload_n 2, 1) := by decide +kernel
theorem dL_law_149 : decode cL_law 149 = .ok (.aload_n 0, 1) := by decide +kernel
theorem dL_law_150 : decode cL_law 150 = .ok (.iload_n 3, 1) := by decide +kernel
theorem dL_law_151 : decode cL_law 151 = .ok (.iconst 1, 1) := by decide +kernel
theorem dL_law_152 : decode cL_law 152 = .ok (.iadd, 1) := by decide +kernel
theorem dL_law_153 : decode cL_law 153 = .ok (.iaload, 1) := by decide +kernel
theorem dL_law_154 : decode cL_law 154 = .ok (.invokevirtual 30, 3) := by decide +kernel
theorem dL_law_157 : decode cL_law 157 = .ok (.if_icmp .eq 284, 3) := by decide +kernel
theorem dL_law_160 : decode cL_law 160 = .ok (.iconst 0, 1) := by decide +kernel
theorem dL_law_161 : decode cL_law 161 = .ok (.ireturn, 1) := by decide +kernel
theorem dL_law_162 : decode cL_law 162 = .ok (.aload_n 1, 1) := by decide +kernel
theorem dL_law_163 : decode cL_law 163 = .ok (.aload_n 0, 1) := by decide +kernel
theorem dL_law_164 : decode cL_law 164 = .ok (.iload_n 3, 1) := by decide +kernel
theorem dL_law_165 : decode cL_law 165 = .ok (.iconst 1, 1) := by decide +kernel
theorem dL_law_166 : decode cL_law 166 = .ok (.iadd, 1) := by decide +kernel
theorem dL_law_167 : decode cL_law 167 = .ok (.iaload, 1) := by decide +kernel
theorem dL_law_168 : decode cL_law 168 = .ok (.invokevirtual 31, 3) := by decide +kernel
theorem dL_law_171 : decode cL_law 171 = .ok (.aload_n 2, 1) := by decide +kernel
theorem dL_law_172 : decode cL_law 172 = .ok (.aload_n 0, 1) := by decide +kernel
theorem dL_law_173 : decode cL_law 173 = .ok (.iload_n 3, 1) := by decide +kernel
theorem dL_law_174 : decode cL_law 174 = .ok (.iconst 1, 1) := by decide +kernel
theorem dL_law_175 : decode cL_law 175 = .ok (.iadd, 1) := by decide +kernel
theorem dL_law_176 : decode cL_law 176 = .ok (.iaload, 1) := by decide +kernel
theorem dL_law_177 : decode cL_law 177 = .ok (.invokevirtual 34, 3) := by decide +kernel
theorem dL_law_180 : decode cL_law 180 = .ok (.if_icmp .eq 261, 3) := by decide +kernel
theorem dL_law_183 : decode cL_law 183 = .ok (.iconst 0, 1) := by decide +kernel
theorem dL_law_184 : decode cL_law 184 = .ok (.ireturn, 1) := by decide +kernel
theorem dL_law_185 : decode cL_law 185 = .ok (.aload_n 1, 1) := by decide +kernel
theorem dL_law_186 : decode cL_law 186 = .ok (.aload_n 0, 1) := by decide +kernel
theorem dL_law_187 : decode cL_law 187 = .ok (.iload_n 3, 1) := by decide +kernel
theorem dL_law_188 : decode cL_law 188 = .ok (.iconst 1, 1) := by decide +kernel
theorem dL_law_189 : decode cL_law 189 = .ok (.iadd, 1) := by decide +kernel
theorem dL_law_190 : decode cL_law 190 = .ok (.iaload, 1) := by decide +kernel
theorem dL_law_191 : decode cL_law 191 = .ok (.invokevirtual 35, 3) := by decide +kernel
theorem dL_law_194 : decode cL_law 194 = .ok (.aload_n 2, 1) := by decide +kernel
theorem dL_law_195 : decode cL_law 195 = .ok (.aload_n 0, 1) := by decide +kernel
theorem dL_law_196 : decode cL_law 196 = .ok (.iload_n 3, 1) := by decide +kernel
theorem dL_law_197 : decode cL_law 197 = .ok (.iconst 1, 1) := by decide +kernel
theorem dL_law_198 : decode cL_law 198 = .ok (.iadd, 1) := by decide +kernel
theorem dL_law_199 : decode cL_law 199 = .ok (.iaload, 1) := by decide +kernel
theorem dL_law_200 : decode cL_law 200 = .ok (.invokevirtual 38, 3) := by decide +kernel
theorem dL_law_203 : decode cL_law 203 = .ok (.if_icmp .eq 238, 3) := by decide +kernel
theorem dL_law_206 : decode cL_law 206 = .ok (.iconst 0, 1) := by decide +kernel
theorem dL_law_207 : decode cL_law 207 = .ok (.ireturn, 1) := by decide +kernel
theorem dL_law_208 : decode cL_law 208 = .ok (.aload_n 1, 1) := by decide +kernel
theorem dL_law_209 : decode cL_law 209 = .ok (.aload_n 0, 1) := by decide +kernel
theorem dL_law_210 : decode cL_law 210 = .ok (.iload_n 3, 1) := by decide +kernel
theorem dL_law_211 : decode cL_law 211 = .ok (.iconst 1, 1) := by decide +kernel
theorem dL_law_212 : decode cL_law 212 = .ok (.iadd, 1) := by decide +kernel
theorem dL_law_213 : decode cL_law 213 = .ok (.iaload, 1) := by decide +kernel
theorem dL_law_214 : decode cL_law 214 = .ok (.invokevirtual 39, 3) := by decide +kernel
theorem dL_law_217 : decode cL_law 217 = .ok (.aload_n 2, 1) := by decide +kernel
theorem dL_law_218 : decode cL_law 218 = .ok (.aload_n 0, 1) := by decide +kernel
theorem dL_law_219 : decode cL_law 219 = .ok (.iload_n 3, 1) := by decide +kernel
theorem dL_law_220 : decode cL_law 220 = .ok (.iconst 1, 1) := by decide +kernel
theorem dL_law_221 : decode cL_law 221 = .ok (.iadd, 1) := by decide +kernel
theorem dL_law_222 : decode cL_law 222 = .ok (.iaload, 1) := by decide +kernel
theorem dL_law_223 : decode cL_law 223 = .ok (.invokevirtual 42, 3) := by decide +kernel
theorem dL_law_226 : decode cL_law 226 = .ok (.if_icmp .eq 215, 3) := by decide +kernel
theorem dL_law_229 : decode cL_law 229 = .ok (.iconst 0, 1) := by decide +kernel
theorem dL_law_230 : decode cL_law 230 = .ok (.ireturn, 1) := by decide +kernel
theorem dL_law_231 : decode cL_law 231 = .ok (.aload_n 1, 1) := by decide +kernel
theorem dL_law_232 : decode cL_law 232 = .ok (.aload_n 0, 1) := by decide +kernel
theorem dL_law_233 : decode cL_law 233 = .ok (.iload_n 3, 1) := by decide +kernel
theorem dL_law_234 : decode cL_law 234 = .ok (.iconst 1, 1) := by decide +kernel
theorem dL_law_235 : decode cL_law 235 = .ok (.iadd, 1) := by decide +kernel
theorem dL_law_236 : decode cL_law 236 = .ok (.iaload, 1) := by decide +kernel
theorem dL_law_237 : decode cL_law 237 = .ok (.invokevirtual 43, 3) := by decide +kernel
theorem dL_law_240 : decode cL_law 240 = .ok (.aload_n 2, 1) := by decide +kernel
theorem dL_law_241 : decode cL_law 241 = .ok (.aload_n 0, 1) := by decide +kernel
theorem dL_law_242 : decode cL_law 242 = .ok (.iload_n 3, 1) := by decide +kernel
theorem dL_law_243 : decode cL_law 243 = .ok (.iconst 1, 1) := by decide +kernel
theorem dL_law_244 : decode cL_law 244 = .ok (.iadd, 1) := by decide +kernel
theorem dL_law_245 : decode cL_law 245 = .ok (.iaload, 1) := by decide +kernel
theorem dL_law_246 : decode cL_law 246 = .ok (.invokevirtual 46, 3) := by decide +kernel
theorem dL_law_249 : decode cL_law 249 = .ok (.if_icmp .eq 192, 3) := by decide +kernel
theorem dL_law_252 : decode cL_law 252 = .ok (.iconst 0, 1) := by decide +kernel
theorem dL_law_253 : decode cL_law 253 = .ok (.ireturn, 1) := by decide +kernel
end
section
set_option maxRecDepth 100000
theorem dL_law_254 : decode cL_law 254 = .ok (.aload_n 1, 1) := by decide +kernel
theorem dL_law_255 : decode cL_law 255 = .ok (.aload_n 0, 1) := by decide +kernel
theorem dL_law_256 : decode cL_law 256 = .ok (.iload_n 3, 1) := by decide +kernel
theorem dL_law_257 : decode cL_law 257 = .ok (.iconst 1, 1) := by decide +kernel
theorem dL_law_258 : decode cL_law 258 = .ok (.iadd, 1) := by decide +kernel
theorem dL_law_259 : decode cL_law 259 = .ok (.iaload, 1) := by decide +kernel
theorem dL_law_260 : decode cL_law 260 = .ok (.invokevirtual 47, 3) := by decide +kernel
theorem dL_law_263 : decode cL_law 263 = .ok (.aload_n 2, 1) := by decide +kernel
theorem dL_law_264 : decode cL_law 264 = .ok (.aload_n 0, 1) := by decide +kernel
theorem dL_law_265 : decode cL_law 265 = .ok (.iload_n 3, 1) := by decide +kernel
theorem dL_law_266 : decode cL_law 266 = .ok (.iconst 1, 1) := by decide +kernel
theorem dL_law_267 : decode cL_law 267 = .ok (.iadd, 1) := by decide +kernel
theorem dL_law_268 : decode cL_law 268 = .ok (.iaload, 1) := by decide +kernel
theorem dL_law_269 : decode cL_law 269 = .ok (.invokevirtual 50, 3) := by decide +kernel
theorem dL_law_272 : decode cL_law 272 = .ok (.if_icmp .eq 169, 3) := by decide +kernel
theorem dL_law_275 : decode cL_law 275 = .ok (.iconst 0, 1) := by decide +kernel
theorem dL_law_276 : decode cL_law 276 = .ok (.ireturn, 1) := by decide +kernel
theorem dL_law_277 : decode cL_law 277 = .ok (.aload_n 1, 1) := by decide +kernel
theorem dL_law_278 : decode cL_law 278 = .ok (.aload_n 0, 1) := by decide +kernel
theorem dL_law_279 : decode cL_law 279 = .ok (.iload_n 3, 1) := by decide +kernel
theorem dL_law_280 : decode cL_law 280 = .ok (.iconst 1, 1) := by decide +kernel
theorem dL_law_281 : decode cL_law 281 = .ok (.iadd, 1) := by decide +kernel
theorem dL_law_282 : decode cL_law 282 = .ok (.iaload, 1) := by decide +kernel
theorem dL_law_283 : decode cL_law 283 = .ok (.invokevirtual 51, 3) := by decide +kernel
theorem dL_law_286 : decode cL_law 286 = .ok (.aload_n 2, 1) := by decide +kernel
theorem dL_law_287 : decode cL_law 287 = .ok (.aload_n 0, 1) := by decide +kernel
theorem dL_law_288 : decode cL_law 288 = .ok (.iload_n 3, 1) := by decide +kernel
theorem dL_law_289 : decode cL_law 289 = .ok (.iconst 1, 1) := by decide +kernel
theorem dL_law_290 : decode cL_law 290 = .ok (.iadd, 1) := by decide +kernel
theorem dL_law_291 : decode cL_law 291 = .ok (.iaload, 1) := by decide +kernel
theorem dL_law_292 : decode cL_law 292 = .ok (.invokevirtual 54, 3) := by decide +kernel
theorem dL_law_295 : decode cL_law 295 = .ok (.if_icmp .eq 146, 3) := by decide +kernel
theorem dL_law_298 : decode cL_law 298 = .ok (.iconst 0, 1) := by decide +kernel
theorem dL_law_299 : decode cL_law 299 = .ok (.ireturn, 1) := by decide +kernel
theorem dL_law_300 : decode cL_law 300 = .ok (.aload_n 1, 1) := by decide +kernel
theorem dL_law_301 : decode cL_law 301 = .ok (.aload_n 0, 1) := by decide +kernel
theorem dL_law_302 : decode cL_law 302 = .ok (.iload_n 3, 1) := by decide +kernel
theorem dL_law_303 : decode cL_law 303 = .ok (.iconst 1, 1) := by decide +kernel
theorem dL_law_304 : decode cL_law 304 = .ok (.iadd, 1) := by decide +kernel
theorem dL_law_305 : decode cL_law 305 = .ok (.iaload, 1) := by decide +kernel
theorem dL_law_306 : decode cL_law 306 = .ok (.aload_n 0, 1) := by decide +kernel
theorem dL_law_307 : decode cL_law 307 = .ok (.iload_n 3, 1) := by decide +kernel
theorem dL_law_308 : decode cL_law 308 = .ok (.iconst 2, 1) := by decide +kernel
theorem dL_law_309 : decode cL_law 309 = .ok (.iadd, 1) := by decide +kernel
theorem dL_law_310 : decode cL_law 310 = .ok (.iaload, 1) := by decide +kernel
theorem dL_law_311 : decode cL_law 311 = .ok (.invokevirtual 55, 3) := by decide +kernel
theorem dL_law_314 : decode cL_law 314 = .ok (.aload_n 2, 1) := by decide +kernel
theorem dL_law_315 : decode cL_law 315 = .ok (.aload_n 0, 1) := by decide +kernel
theorem dL_law_316 : decode cL_law 316 = .ok (.iload_n 3, 1) := by decide +kernel
theorem dL_law_317 : decode cL_law 317 = .ok (.iconst 1, 1) := by decide +kernel
theorem dL_law_318 : decode cL_law 318 = .ok (.iadd, 1) := by decide +kernel
theorem dL_law_319 : decode cL_law 319 = .ok (.iaload, 1) := by decide +kernel
theorem dL_law_320 : decode cL_law 320 = .ok (.aload_n 0, 1) := by decide +kernel
theorem dL_law_321 : decode cL_law 321 = .ok (.iload_n 3, 1) := by decide +kernel
theorem dL_law_322 : decode cL_law 322 = .ok (.iconst 2, 1) := by decide +kernel
theorem dL_law_323 : decode cL_law 323 = .ok (.iadd, 1) := by decide +kernel
theorem dL_law_324 : decode cL_law 324 = .ok (.iaload, 1) := by decide +kernel
theorem dL_law_325 : decode cL_law 325 = .ok (.invokevirtual 59, 3) := by decide +kernel
theorem dL_law_328 : decode cL_law 328 = .ok (.if_icmp .eq 113, 3) := by decide +kernel
theorem dL_law_331 : decode cL_law 331 = .ok (.iconst 0, 1) := by decide +kernel
theorem dL_law_332 : decode cL_law 332 = .ok (.ireturn, 1) := by decide +kernel
theorem dL_law_333 : decode cL_law 333 = .ok (.aload_n 1, 1) := by decide +kernel
theorem dL_law_334 : decode cL_law 334 = .ok (.invokevirtual 60, 3) := by decide +kernel
theorem dL_law_337 : decode cL_law 337 = .ok (.aload_n 2, 1) := by decide +kernel
theorem dL_law_338 : decode cL_law 338 = .ok (.invokevirtual 64, 3) := by decide +kernel
theorem dL_law_341 : decode cL_law 341 = .ok (.if_icmp .eq 100, 3) := by decide +kernel
theorem dL_law_344 : decode cL_law 344 = .ok (.iconst 0, 1) := by decide +kernel
theorem dL_law_345 : decode cL_law 345 = .ok (.ireturn, 1) := by decide +kernel
theorem dL_law_346 : decode cL_law 346 = .ok (.aload_n 1, 1) := by decide +kernel
theorem dL_law_347 : decode cL_law 347 = .ok (.invokevirtual 65, 3) := by decide +kernel
theorem dL_law_350 : decode cL_law 350 = .ok (.aload_n 2, 1) := by decide +kernel
theorem dL_law_351 : decode cL_law 351 = .ok (.invokevirtual 68, 3) := by decide +kernel
theorem dL_law_354 : decode cL_law 354 = .ok (.if_icmp .eq 87, 3) := by decide +kernel
theorem dL_law_357 : decode cL_law 357 = .ok (.iconst 0, 1) := by decide +kernel
theorem dL_law_358 : decode cL_law 358 = .ok (.ireturn, 1) := by decide +kernel
theorem dL_law_359 : decode cL_law 359 = .ok (.aload_n 1, 1) := by decide +kernel
theorem dL_law_360 : decode cL_law 360 = .ok (.invokevirtual 69, 3) := by decide +kernel
theorem dL_law_363 : decode cL_law 363 = .ok (.aload_n 2, 1) := by decide +kernel
theorem dL_law_364 : decode cL_law 364 = .ok (.invokevirtual 72, 3) := by decide +kernel
theorem dL_law_367 : decode cL_law 367 = .ok (.if_icmp .eq 74, 3) := by decide +kernel
theorem dL_law_370 : decode cL_law 370 = .ok (.iconst 0, 1) := by decide +kernel
theorem dL_law_371 : decode cL_law 371 = .ok (.ireturn, 1) := by decide +kernel
theorem dL_law_372 : decode cL_law 372 = .ok (.aload_n 1, 1) := by decide +kernel
theorem dL_law_373 : decode cL_law 373 = .ok (.invokevirtual 73, 3) := by decide +kernel
theorem dL_law_376 : decode cL_law 376 = .ok (.aload_n 2, 1) := by decide +kernel
theorem dL_law_377 : decode cL_law 377 = .ok (.invokevirtual 76, 3) := by decide +kernel
theorem dL_law_380 : decode cL_law 380 = .ok (.if_icmp .eq 61, 3) := by decide +kernel
theorem dL_law_383 : decode cL_law 383 = .ok (.iconst 0, 1) := by decide +kernel
theorem dL_law_384 : decode cL_law 384 = .ok (.ireturn, 1) := by decide +kernel
theorem dL_law_385 : decode cL_law 385 = .ok (.aload_n 1, 1) := by decide +kernel
theorem dL_law_386 : decode cL_law 386 = .ok (.aload_n 0, 1) := by decide +kernel
theorem dL_law_387 : decode cL_law 387 = .ok (.iload_n 3, 1) := by decide +kernel
theorem dL_law_388 : decode cL_law 388 = .ok (.iconst 1, 1) := by decide +kernel
theorem dL_law_389 : decode cL_law 389 = .ok (.iadd, 1) := by decide +kernel
theorem dL_law_390 : decode cL_law 390 = .ok (.iaload, 1) := by decide +kernel
theorem dL_law_391 : decode cL_law 391 = .ok (.invokevirtual 77, 3) := by decide +kernel
theorem dL_law_394 : decode cL_law 394 = .ok (.aload_n 2, 1) := by decide +kernel
theorem dL_law_395 : decode cL_law 395 = .ok (.aload_n 0, 1) := by decide +kernel
theorem dL_law_396 : decode cL_law 396 = .ok (.iload_n 3, 1) := by decide +kernel
theorem dL_law_397 : decode cL_law 397 = .ok (.iconst 1, 1) := by decide +kernel
theorem dL_law_398 : decode cL_law 398 = .ok (.iadd, 1) := by decide +kernel
theorem dL_law_399 : decode cL_law 399 = .ok (.iaload, 1) := by decide +kernel
theorem dL_law_400 : decode cL_law 400 = .ok (.invokevirtual 80, 3) := by decide +kernel
theorem dL_law_403 : decode cL_law 403 = .ok (.if_icmp .eq 38, 3) := by decide +kernel
theorem dL_law_406 : decode cL_law 406 = .ok (.iconst 0, 1) := by decide +kernel
theorem dL_law_407 : decode cL_law 407 = .ok (.ireturn, 1) := by decide +kernel
theorem dL_law_408 : decode cL_law 408 = .ok (.aload_n 1, 1) := by decide +kernel
theorem dL_law_409 : decode cL_law 409 = .ok (.aload_n 0, 1) := by decide +kernel
theorem dL_law_410 : decode cL_law 410 = .ok (.iload_n 3, 1) := by decide +kernel
theorem dL_law_411 : decode cL_law 411 = .ok (.iconst 1, 1) := by decide +kernel
theorem dL_law_412 : decode cL_law 412 = .ok (.iadd, 1) := by decide +kernel
theorem dL_law_413 : decode cL_law 413 = .ok (.iaload, 1) := by decide +kernel
theorem dL_law_414 : decode cL_law 414 = .ok (.aload_n 0, 1) := by decide +kernel
theorem dL_law_415 : decode cL_law 415 = .ok (.iload_n 3, 1) := by decide +kernel
theorem dL_law_416 : decode cL_law 416 = .ok (.iconst 2, 1) := by decide +kernel
theorem dL_law_417 : decode cL_law 417 = .ok (.iadd, 1) := by decide +kernel
theorem dL_law_418 : decode cL_law 418 = .ok (.iaload, 1) := by decide +kernel
theorem dL_law_419 : decode cL_law 419 = .ok (.invokevirtual 81, 3) := by decide +kernel
theorem dL_law_422 : decode cL_law 422 = .ok (.aload_n 2, 1) := by decide +kernel
theorem dL_law_423 : decode cL_law 423 = .ok (.aload_n 0, 1) := by decide +kernel
theorem dL_law_424 : decode cL_law 424 = .ok (.iload_n 3, 1) := by decide +kernel
theorem dL_law_425 : decode cL_law 425 = .ok (.iconst 1, 1) := by decide +kernel
theorem dL_law_426 : decode cL_law 426 = .ok (.iadd, 1) := by decide +kernel
theorem dL_law_427 : decode cL_law 427 = .ok (.iaload, 1) := by decide +kernel
theorem dL_law_428 : decode cL_law 428 = .ok (.aload_n 0, 1) := by decide +kernel
theorem dL_law_429 : decode cL_law 429 = .ok (.iload_n 3, 1) := by decide +kernel
theorem dL_law_430 : decode cL_law 430 = .ok (.iconst 2, 1) := by decide +kernel
theorem dL_law_431 : decode cL_law 431 = .ok (.iadd, 1) := by decide +kernel
theorem dL_law_432 : decode cL_law 432 = .ok (.iaload, 1) := by decide +kernel
theorem dL_law_433 : decode cL_law 433 = .ok (.invokevirtual 83, 3) := by decide +kernel
theorem dL_law_436 : decode cL_law 436 = .ok (.if_icmp .eq 5, 3) := by decide +kernel
theorem dL_law_439 : decode cL_law 439 = .ok (.iconst 0, 1) := by decide +kernel
theorem dL_law_440 : decode cL_law 440 = .ok (.ireturn, 1) := by decide +kernel
theorem dL_law_441 : decode cL_law 441 = .ok (.iinc 3 3, 3) := by decide +kernel
theorem dL_law_444 : decode cL_law 444 = .ok (.goto (-416), 3) := by decide +kernel
theorem dL_law_447 : decode cL_law 447 = .ok (.iconst 1, 1) := by decide +kernel
theorem dL_law_448 : decode cL_law 448 = .ok (.ireturn, 1) := by decide +kernel
end
section
/-! ===== how many places have a property ===== -/
def fb_ct (p : Nat → Bool) : Nat → Nat
  | 0 => 0
  | n + 1 => fb_ct p n + (if p n then 1 else 0)
theorem fb_ct_succ (p : Nat → Bool) (n : Nat) : fb_ct p (n + 1) = fb_ct p n + (if p n then 1 else 0) := rfl
theorem fb_ct_le (p : Nat → Bool) : ∀ n, fb_ct p n ≤ n
  | 0 => Nat.le_refl _
  | n + 1 => by
    have h := fb_ct_le p n
    rw [fb_ct_succ]
    split <;> omega
theorem fb_ct_step (p : Nat → Bool) (m : Nat) : ∀ n, fb_ct p m ≤ fb_ct p (m + n)
  | 0 => Nat.le_refl _
  | n + 1 => by
    have h := fb_ct_step p m n
    show fb_ct p m ≤ fb_ct p (m + n + 1)
    rw [fb_ct_succ]
    omega
theorem fb_ct_mono (p : Nat → Bool) {m n : Nat} (h : m ≤ n) : fb_ct p m ≤ fb_ct p n := by
  have := fb_ct_step p m (n - m)
  rwa [Nat.add_sub_cancel' h] at this
theorem fb_ct_cong {p q : Nat → Bool} : ∀ {n : Nat}, (∀ k, k < n → p k = q k) → fb_ct p n = fb_ct q n
  | 0, _ => rfl
  | n + 1, h => by
    rw [fb_ct_succ, fb_ct_succ, fb_ct_cong (fun k hk => h k (by omega)), h n (by omega)]
/-- one place changed -/
theorem fb_ct_out (p : Nat → Bool) (b : Bool) {i n : Nat} (h : n ≤ i) : fb_ct (fun k => if k = i then b else p k) n = fb_ct p n :=
  fb_ct_cong fun k hk => if_neg (by omega)
theorem fb_ct_upd (p : Nat → Bool) (b : Bool) {i : Nat} : ∀ {n : Nat}, i < n → fb_ct (fun k => if k = i then b else p k) n + (if p i then 1 else 0) = fb_ct p n + (if b then 1 else 0)
  | 0, h => absurd h (Nat.not_lt_zero i)
  | n + 1, h => by
    rw [fb_ct_succ, fb_ct_succ]
    rcases Nat.lt_or_ge i n with q | q
    · have := fb_ct_upd p b q
      have e : (if n = i then b else p n) = p n := if_neg (by omega)
      rw [e]
      omega
    · have e : i = n := by omega
      subst e
      rw [fb_ct_out p b (Nat.le_refl _)]
      simp only [if_true]
      omega
theorem fb_ct_sub {p q : Nat → Bool} : ∀ {n : Nat}, (∀ k, k < n → p k = true → q k = true) → fb_ct p n ≤ fb_ct q n
  | 0, _ => Nat.le_refl _
  | n + 1, h => by
    have h1 := fb_ct_sub (n := n) (p := p) (q := q) (fun k hk => h k (by omega))
    have h2 := h n (by omega)
    rw [fb_ct_succ, fb_ct_succ]
    cases hp : p n <;> cases hq : q n <;> simp_all <;> omega
theorem fb_ct_or {p q : Nat → Bool} : ∀ {n : Nat}, (∀ k, k < n → ¬ (p k = true ∧ q k = true)) → fb_ct (fun k => p k || q k) n = fb_ct p n + fb_ct q n
  | 0, _ => rfl
  | n + 1, h => by
    have h1 := fb_ct_or (n := n) (p := p) (q := q) (fun k hk => h k (by omega))
    have h2 := h n (by omega)
    rw [fb_ct_succ, fb_ct_succ, fb_ct_succ, h1]
    cases hp : p n <;> cases hq : q n <;> simp_all <;> omega
theorem fb_ct_not (p : Nat → Bool) : ∀ n, fb_ct p n + fb_ct (fun k => !p k) n = n
  | 0 => rfl
  | n + 1 => by
    have h := fb_ct_not p n
    rw [fb_ct_succ, fb_ct_succ]
    cases p n <;> simp <;> omega
theorem fb_ct_split (p : Nat → Bool) (m : Nat) : ∀ n, fb_ct p (m + n) = fb_ct p m + fb_ct (fun k => p (m + k)) n
  | 0 => rfl
  | n + 1 => by
    have h := fb_ct_split p m n
    show fb_ct p (m + n + 1) = _
    rw [fb_ct_succ, fb_ct_succ, h, Nat.add_assoc]
theorem fb_ct_zero {p : Nat → Bool} : ∀ {n : Nat}, fb_ct p n = 0 ↔ ∀ k, k < n → p k = false
  | 0 => ⟨fun _ k hk => absurd hk (Nat.not_lt_zero k), fun _ => rfl⟩
  | n + 1 => by
    have h := fb_ct_zero (p := p) (n := n)
    rw [fb_ct_succ]
    constructor
    · intro e k hk
      have e1 : fb_ct p n = 0 := by omega
      rcases Nat.lt_or_ge k n with q | q
      · exact h.mp e1 k q
      · have ek : k = n := by omega
        subst ek
        cases hp : p k
        · rfl
        · simp [hp] at e
    · intro a
      rw [h.mpr (fun k hk => a k (by omega)), a n (by omega)]
      rfl
theorem fb_ct_pos {p : Nat → Bool} {n : Nat} : 0 < fb_ct p n ↔ ∃ k, k < n ∧ p k = true := by
  constructor
  · intro h
    refine Classical.byContradiction fun hx => ?_
    have := fb_ct_zero.mpr (fun k hk => by
      cases hp : p k
      · rfl
      · exact absurd ⟨k, hk, hp⟩ hx : ∀ k, k < n → p k = false)
    omega
  · rintro ⟨k, hk, hp⟩
    rcases Nat.eq_zero_or_pos (fb_ct p n) with e | e
    · have := fb_ct_zero.mp e k hk
      rw [this] at hp
      cases hp
    · exact e
theorem fb_ct_all {p : Nat → Bool} {n : Nat} : fb_ct p n = n ↔ ∀ k, k < n → p k = true := by
  have h := fb_ct_not p n
  constructor
  · intro e k hk
    have z : fb_ct (fun k => !p k) n = 0 := by omega
    have := fb_ct_zero.mp z k hk
    cases hp : p k
    · simp [hp] at this
    · rfl
  · intro a
    have z : fb_ct (fun k => !p k) n = 0 := fb_ct_zero.mpr (fun k hk => by simp [a k hk])
    omega
/-- the k-th place with the property -/
theorem fb_ct_kth {p : Nat → Bool} {k : Nat} : ∀ {n : Nat}, k < fb_ct p n → ∃ i, i < n ∧ p i = true ∧ fb_ct p i = k
  | 0, h => absurd h (Nat.not_lt_zero k)
  | n + 1, h => by
    rcases Nat.lt_or_ge k (fb_ct p n) with q | q
    · obtain ⟨i, h1, h2⟩ := fb_ct_kth q
      exact ⟨i, by omega, h2⟩
    · rw [fb_ct_succ] at h
      cases hp : p n
      · simp [hp] at h; omega
      · simp [hp] at h
        exact ⟨n, by omega, hp, by omega⟩
theorem fb_ct_kth_one {p : Nat → Bool} {i j : Nat} (hi : p i = true) (hj : p j = true) (e : fb_ct p i = fb_ct p j) : i = j := by
  have key : ∀ a b : Nat, a < b → p a = true → fb_ct p a < fb_ct p b := by
    intro a b hab ha
    have h := fb_ct_mono p (show a + 1 ≤ b from hab)
    rw [fb_ct_succ, ha] at h
    simp at h
    omega
  rcases Nat.lt_trichotomy i j with q | q | q
  · have := key i j q hi; omega
  · exact q
  · have := key j i q hj; omega
/-! ===== sums over a range: one place changed, parts, bounds ===== -/
def fb_sm (f : Nat → Nat) : Nat → Nat
  | 0 => 0
  | n + 1 => fb_sm f n + f n
theorem fb_sm_succ (f : Nat → Nat) (n : Nat) : fb_sm f (n + 1) = fb_sm f n + f n := rfl
theorem fb_sm_cong {f g : Nat → Nat} : ∀ {n : Nat}, (∀ k, k < n → f k = g k) → fb_sm f n = fb_sm g n
  | 0, _ => rfl
  | n + 1, h => by rw [fb_sm_succ, fb_sm_succ, fb_sm_cong (fun k hk => h k (by omega)), h n (by omega)]
theorem fb_sm_out (f : Nat → Nat) (v : Nat) {i n : Nat} (h : n ≤ i) : fb_sm (fun k => if k = i then v else f k) n = fb_sm f n :=
  fb_sm_cong fun k hk => if_neg (by omega)
theorem fb_sm_upd (f : Nat → Nat) (v : Nat) {i : Nat} : ∀ {n : Nat}, i < n → fb_sm (fun k => if k = i then v else f k) n + f i = fb_sm f n + v
  | 0, h => absurd h (Nat.not_lt_zero i)
  | n + 1, h => by
    rw [fb_sm_succ, fb_sm_succ]
    rcases Nat.lt_or_ge i n with q | q
    · have := fb_sm_upd f v q
      have e : (if n = i then v else f n) = f n := if_neg (by omega)
      rw [e]
      omega
    · have e : i = n := by omega
      subst e
      rw [fb_sm_out f v (Nat.le_refl _)]
      simp only [if_true]
      omega
theorem fb_sm_add (f g : Nat → Nat) : ∀ n, fb_sm (fun k => f k + g k) n = fb_sm f n + fb_sm g n
  | 0 => rfl
  | n + 1 => by
    have h := fb_sm_add f g n
    rw [fb_sm_succ, fb_sm_succ, fb_sm_succ, h]
    omega
theorem fb_sm_le {f g : Nat → Nat} : ∀ {n : Nat}, (∀ k, k < n → f k ≤ g k) → fb_sm f n ≤ fb_sm g n
  | 0, _ => Nat.le_refl _
  | n + 1, h => by
    have h1 := fb_sm_le (n := n) (f := f) (g := g) (fun k hk => h k (by omega))
    have h2 := h n (by omega)
    rw [fb_sm_succ, fb_sm_succ]
    omega
theorem fb_sm_const (c : Nat) : ∀ n, fb_sm (fun _ => c) n = n * c
  | 0 => by rw [Nat.zero_mul]; rfl
  | n + 1 => by rw [fb_sm_succ, fb_sm_const c n, Nat.succ_mul]
theorem fb_sm_bound {f : Nat → Nat} {c n : Nat} (h : ∀ k, k < n → f k ≤ c) : fb_sm f n ≤ n * c := by
  rw [← fb_sm_const c n]
  exact fb_sm_le h
theorem fb_sm_mono (f : Nat → Nat) (m : Nat) : ∀ n, fb_sm f m ≤ fb_sm f (m + n)
  | 0 => Nat.le_refl _
  | n + 1 => by
    have h := fb_sm_mono f m n
    show fb_sm f m ≤ fb_sm f (m + n + 1)
    rw [fb_sm_succ]
    omega
theorem fb_sm_part (f : Nat → Nat) {i n : Nat} (h : i < n) : fb_sm f i + f i ≤ fb_sm f n := by
  have := fb_sm_mono f (i + 1) (n - (i + 1))
  rw [fb_sm_succ, show i + 1 + (n - (i + 1)) = n by omega] at this
  exact this
theorem fb_sm_split (f : Nat → Nat) (m : Nat) : ∀ n, fb_sm f (m + n) = fb_sm f m + fb_sm (fun k => f (m + k)) n
  | 0 => rfl
  | n + 1 => by
    have h := fb_sm_split f m n
    show fb_sm f (m + n + 1) = _
    rw [fb_sm_succ, fb_sm_succ, h, Nat.add_assoc]
theorem fb_sm_zero {f : Nat → Nat} {n : Nat} (h : fb_sm f n = 0) : ∀ k, k < n → f k = 0 := fun k hk => by
  have := fb_sm_part f hk
  omega
/-- the same over whole numbers -/
def fb_si (f : Nat → Int) : Nat → Int
  | 0 => 0
  | n + 1 => fb_si f n + f n
theorem fb_si_succ (f : Nat → Int) (n : Nat) : fb_si f (n + 1) = fb_si f n + f n := rfl
theorem fb_si_cong {f g : Nat → Int} : ∀ {n : Nat}, (∀ k, k < n → f k = g k) → fb_si f n = fb_si g n
  | 0, _ => rfl
  | n + 1, h => by rw [fb_si_succ, fb_si_succ, fb_si_cong (fun k hk => h k (by omega)), h n (by omega)]
theorem fb_si_out (f : Nat → Int) (v : Int) {i n : Nat} (h : n ≤ i) : fb_si (fun k => if k = i then v else f k) n = fb_si f n :=
  fb_si_cong fun k hk => if_neg (by omega)
theorem fb_si_upd (f : Nat → Int) (v : Int) {i : Nat} : ∀ {n : Nat}, i < n → fb_si (fun k => if k = i then v else f k) n = fb_si f n - f i + v
  | 0, h => absurd h (Nat.not_lt_zero i)
  | n + 1, h => by
    rw [fb_si_succ, fb_si_succ]
    rcases Nat.lt_or_ge i n with q | q
    · have := fb_si_upd f v q
      have e : (if n = i then v else f n) = f n := if_neg (by omega)
      rw [e]
      omega
    · have e : i = n := by omega
      subst e
      rw [fb_si_out f v (Nat.le_refl _)]
      simp only [if_true]
      omega
theorem fb_si_add (f g : Nat → Int) : ∀ n, fb_si (fun k => f k + g k) n = fb_si f n + fb_si g n
  | 0 => rfl
  | n + 1 => by
    have h := fb_si_add f g n
    rw [fb_si_succ, fb_si_succ, fb_si_succ, h]
    omega
theorem fb_si_sub (f g : Nat → Int) : ∀ n, fb_si (fun k => f k - g k) n = fb_si f n - fb_si g n
  | 0 => rfl
  | n + 1 => by
    have h := fb_si_sub f g n
    rw [fb_si_succ, fb_si_succ, fb_si_succ, h]
    omega
theorem fb_si_mul (c : Int) (f : Nat → Int) : ∀ n, fb_si (fun k => c * f k) n = c * fb_si f n
  | 0 => (Int.mul_zero c).symm
  | n + 1 => by
    have h := fb_si_mul c f n
    rw [fb_si_succ, fb_si_succ, h, Int.mul_add]
theorem fb_si_split (f : Nat → Int) (m : Nat) : ∀ n, fb_si f (m + n) = fb_si f m + fb_si (fun k => f (m + k)) n
  | 0 => (Int.add_zero _).symm
  | n + 1 => by
    have h := fb_si_split f m n
    show fb_si f (m + n + 1) = _
    rw [fb_si_succ, fb_si_succ, h, Int.add_assoc]
theorem fb_si_nat (f : Nat → Nat) : ∀ n, fb_si (fun k => (f k : Int)) n = (fb_sm f n : Int)
  | 0 => rfl
  | n + 1 => by
    have h := fb_si_nat f n
    rw [fb_si_succ, fb_sm_succ, h]
    omega
theorem fb_si_bound {f : Nat → Int} {c : Int} (hc : 0 ≤ c) : ∀ {n : Nat}, (∀ k, k < n → -c ≤ f k ∧ f k ≤ c) → -(n * c) ≤ fb_si f n ∧ fb_si f n ≤ n * c
  | 0, _ => by simp [fb_si]
  | n + 1, h => by
    have h1 := fb_si_bound (n := n) (f := f) hc (fun k hk => h k (by omega))
    have h2 := h n (by omega)
    have e : ((n + 1 : Nat) : Int) * c = n * c + c := by rw [Int.natCast_add, Int.add_mul]; simp
    rw [fb_si_succ, e]
    omega
/-! ===== a stretch of an array written over by a function ===== -/
def fb_put {α : Type} (f g : Nat → α) (a n : Nat) : Nat → α := fun k => if a ≤ k ∧ k < a + n then g (k - a) else f k
theorem fb_put_0 {α : Type} (f g : Nat → α) (a : Nat) : fb_put f g a 0 = f := funext fun k => if_neg (by omega)
theorem fb_put_in {α : Type} {f g : Nat → α} {a n k : Nat} (h1 : a ≤ k) (h2 : k < a + n) : fb_put f g a n k = g (k - a) := if_pos ⟨h1, h2⟩
theorem fb_put_out {α : Type} {f g : Nat → α} {a n k : Nat} (h : k < a ∨ a + n ≤ k) : fb_put f g a n k = f k := if_neg (by omega)
theorem fb_put_succ (f g : Nat → Int32) (a n : Nat) : upd (fb_put f g a n) (a + n) (g n) = fb_put f g a (n + 1) := by
  funext k
  by_cases h : k = a + n
  · subst h
    simp [upd, fb_put]
  · by_cases h1 : a ≤ k ∧ k < a + n
    · have h2 : a ≤ k ∧ k < a + (n + 1) := by omega
      simp only [upd, fb_put, if_neg h, if_pos h1, if_pos h2]
    · have h2 : ¬ (a ≤ k ∧ k < a + (n + 1)) := by omega
      simp only [upd, fb_put, if_neg h, if_neg h1, if_neg h2]
/-- .. from the far end down -/
theorem fb_put_down (f g : Nat → Int32) {a n m : Nat} (h : m < n) : upd (fb_put f (fun k => g (k + (m + 1))) (a + (m + 1)) (n - (m + 1))) (a + m) (g m) = fb_put f (fun k => g (k + m)) (a + m) (n - m) := by
  funext k
  by_cases h0 : k = a + m
  · subst h0
    simp only [upd, if_true]
    rw [fb_put_in (by omega) (by omega)]
    exact congrArg g (by omega)
  · simp only [upd, if_neg h0]
    by_cases h1 : a + (m + 1) ≤ k ∧ k < a + (m + 1) + (n - (m + 1))
    · rw [fb_put_in h1.1 h1.2, fb_put_in (by omega) (by omega)]
      exact congrArg g (by omega)
    · rw [fb_put_out (by omega), fb_put_out (by omega)]
theorem fb_put_cong {α : Type} {f f2 g g2 : Nat → α} {a n : Nat} (hf : ∀ k, (k < a ∨ a + n ≤ k) → f k = f2 k) (hg : ∀ k, k < n → g k = g2 k) : fb_put f g a n = fb_put f2 g2 a n := by
  funext k
  by_cases h : a ≤ k ∧ k < a + n
  · rw [fb_put_in h.1 h.2, fb_put_in h.1 h.2, hg _ (by omega)]
  · rw [fb_put_out (by omega), fb_put_out (by omega), hf _ (by omega)]
/-! ===== signed ints as whole numbers, within bounds ===== -/
theorem fb_rng (x : Int32) : -2147483648 ≤ x.toInt ∧ x.toInt < 2147483648 := by
  have h1 := Int32.le_toInt x
  have h2 := Int32.toInt_lt x
  omega
theorem fb_bmod {z : Int} (h1 : -2147483648 ≤ z) (h2 : z < 2147483648) : z.bmod (2 ^ 32) = z := by
  rw [Int.bmod_eq_of_le (by omega) (by omega)]
theorem fb_addI {x y : Int32} (h1 : -2147483648 ≤ x.toInt + y.toInt) (h2 : x.toInt + y.toInt < 2147483648) : (x + y).toInt = x.toInt + y.toInt := by
  rw [Int32.toInt_add, fb_bmod h1 h2]
theorem fb_subI {x y : Int32} (h1 : -2147483648 ≤ x.toInt - y.toInt) (h2 : x.toInt - y.toInt < 2147483648) : (x - y).toInt = x.toInt - y.toInt := by
  rw [Int32.toInt_sub, fb_bmod h1 h2]
theorem fb_mulI {x y : Int32} (h1 : -2147483648 ≤ x.toInt * y.toInt) (h2 : x.toInt * y.toInt < 2147483648) : (x * y).toInt = x.toInt * y.toInt := by
  rw [Int32.toInt_mul, fb_bmod h1 h2]
theorem fb_negI {x : Int32} (h : x.toInt ≠ -2147483648) : (-x).toInt = -x.toInt := by
  have := fb_rng x
  rw [Int32.toInt_neg, fb_bmod (by omega) (by omega)]
theorem fb_ofI {z : Int} (h1 : -2147483648 ≤ z) (h2 : z < 2147483648) : (Int32.ofInt z).toInt = z := by
  rw [Int32.toInt_ofInt, fb_bmod h1 h2]
theorem fb_asI (x : Int32) : Int32.ofInt x.toInt = x := Int32.ofInt_toInt x
theorem fb_rngL (x : Int64) : -9223372036854775808 ≤ x.toInt ∧ x.toInt < 9223372036854775808 := by
  have h1 := Int64.le_toInt x
  have h2 := Int64.toInt_lt x
  omega
theorem fb_bmodL {z : Int} (h1 : -9223372036854775808 ≤ z) (h2 : z < 9223372036854775808) : z.bmod (2 ^ 64) = z := by
  rw [Int.bmod_eq_of_le (by omega) (by omega)]
theorem fb_addL {x y : Int64} (h1 : -9223372036854775808 ≤ x.toInt + y.toInt) (h2 : x.toInt + y.toInt < 9223372036854775808) : (x + y).toInt = x.toInt + y.toInt := by
  rw [Int64.toInt_add, fb_bmodL h1 h2]
theorem fb_subL {x y : Int64} (h1 : -9223372036854775808 ≤ x.toInt - y.toInt) (h2 : x.toInt - y.toInt < 9223372036854775808) : (x - y).toInt = x.toInt - y.toInt := by
  rw [Int64.toInt_sub, fb_bmodL h1 h2]
theorem fb_mulL {x y : Int64} (h1 : -9223372036854775808 ≤ x.toInt * y.toInt) (h2 : x.toInt * y.toInt < 9223372036854775808) : (x * y).toInt = x.toInt * y.toInt := by
  rw [Int64.toInt_mul, fb_bmodL h1 h2]
end
section
/-! plain facts: searches, merges -/
theorem up_s {α : Type} {f : Nat → α} {k : Nat} {x : α} : va_up f k x k = x := if_pos rfl
theorem up_n {α : Type} {f : Nat → α} {k j : Nat} {x : α} (h : j ≠ k) : va_up f k x j = f j := if_neg h
theorem put_succ {α : Type} (f g : Nat → α) (a n : Nat) : va_up (fb_put f g a n) (a + n) (g n) = fb_put f g a (n + 1) := by
  funext k
  by_cases h : k = a + n
  · subst h
    rw [up_s, fb_put_in (by omega) (by omega)]
    exact congrArg g (by omega)
  · rw [up_n h]
    by_cases h1 : a ≤ k ∧ k < a + n
    · rw [fb_put_in h1.1 h1.2, fb_put_in h1.1 (by omega)]
    · rw [fb_put_out (by omega), fb_put_out (by omega)]
-- ===== a search by halves =====
def bs (f : Nat → Int32) (b : Nat) (bd : Int64) : Nat → Nat → Nat → Nat × Nat
  | 0, lo, _ => (lo, 0)
  | n + 1, lo, hi => if lo < hi then (if bd ≤ (f (b + (lo + hi) / 2)).toInt64 then ((bs f b bd n lo ((lo + hi) / 2)).1, (bs f b bd n lo ((lo + hi) / 2)).2 + 1) else ((bs f b bd n ((lo + hi) / 2 + 1) hi).1, (bs f b bd n ((lo + hi) / 2 + 1) hi).2 + 1)) else (lo, 0)
theorem bs_le (f : Nat → Int32) (b : Nat) (bd : Int64) : ∀ n lo hi, lo ≤ hi → (bs f b bd n lo hi).1 ≤ hi
  | 0, lo, hi, h => h
  | n + 1, lo, hi, h => by
    rw [bs]
    split
    · split
      · exact Nat.le_trans (bs_le f b bd n lo ((lo + hi) / 2) (by omega)) (by omega)
      · exact bs_le f b bd n ((lo + hi) / 2 + 1) hi (by omega)
    · exact h
theorem bs_cong {f g : Nat → Int32} {b : Nat} {bd : Int64} : ∀ n lo hi, (∀ k, k < hi → f (b + k) = g (b + k)) → bs f b bd n lo hi = bs g b bd n lo hi
  | 0, lo, hi, _ => rfl
  | n + 1, lo, hi, h => by
    rw [bs, bs]
    by_cases h1 : lo < hi
    · rw [if_pos h1, if_pos h1, h _ (by omega), bs_cong n lo ((lo + hi) / 2) (fun k hk => h k (by omega)), bs_cong n ((lo + hi) / 2 + 1) hi h]
    · rw [if_neg h1, if_neg h1]
theorem bs_out {f : Nat → Int32} {b : Nat} {bd : Int64} {n lo hi : Nat} (h : hi ≤ lo) : bs f b bd n lo hi = (lo, 0) := by
  cases n with
  | zero => rfl
  | succ n => rw [bs, if_neg (by omega)]
theorem bs_hi {f : Nat → Int32} {b : Nat} {bd : Int64} {n lo hi : Nat} (h : lo < hi) (h2 : bd ≤ (f (b + (lo + hi) / 2)).toInt64) : bs f b bd (n + 1) lo hi = ((bs f b bd n lo ((lo + hi) / 2)).1, (bs f b bd n lo ((lo + hi) / 2)).2 + 1) := by
  rw [bs, if_pos h, if_pos h2]
theorem bs_lo {f : Nat → Int32} {b : Nat} {bd : Int64} {n lo hi : Nat} (h : lo < hi) (h2 : ¬ bd ≤ (f (b + (lo + hi) / 2)).toInt64) : bs f b bd (n + 1) lo hi = ((bs f b bd n ((lo + hi) / 2 + 1) hi).1, (bs f b bd n ((lo + hi) / 2 + 1) hi).2 + 1) := by
  rw [bs, if_pos h, if_neg h2]
def bsr (f : Nat → Int32) (b : Nat) (bd : Int64) (hi : Nat) : Nat × Nat := bs f b bd 1024 0 hi
theorem bsr_le (f : Nat → Int32) (b : Nat) (bd : Int64) (hi : Nat) : (bsr f b bd hi).1 ≤ hi := bs_le f b bd 1024 0 hi (Nat.zero_le _)
-- ===== how many that live are below a bound, run by run; how many looks =====
def bel (V : Nat → Int32) (Lv : Nat → Bool) (len : Nat → Nat) (bd : Int64) : Nat → Nat × Nat
  | 0 => (0, 0)
  | i + 1 => ((bel V Lv len bd i).1 + fb_ct (fun k => Lv (2 ^ i - 1 + k)) (bsr V (2 ^ i - 1) bd (len i)).1, (bel V Lv len bd i).2 + (bsr V (2 ^ i - 1) bd (len i)).2)
theorem bel_cong {V V' : Nat → Int32} {Lv Lv' : Nat → Bool} {len len' : Nat → Nat} {bd : Int64} : ∀ i, (∀ j, j < i → len j = len' j) → (∀ j, j < i → ∀ k, k < len j → V (2 ^ j - 1 + k) = V' (2 ^ j - 1 + k) ∧ Lv (2 ^ j - 1 + k) = Lv' (2 ^ j - 1 + k)) → bel V Lv len bd i = bel V' Lv' len' bd i
  | 0, _, _ => rfl
  | i + 1, h1, h2 => by
    have e1 := bel_cong (bd := bd) i (fun j hj => h1 j (by omega)) (fun j hj => h2 j (by omega))
    have e2 : bsr V (2 ^ i - 1) bd (len i) = bsr V' (2 ^ i - 1) bd (len' i) := by
      rw [← h1 i (by omega)]
      exact bs_cong _ _ _ (fun k hk => (h2 i (by omega) k hk).1)
    have e3 : fb_ct (fun k => Lv (2 ^ i - 1 + k)) (bsr V (2 ^ i - 1) bd (len i)).1 = fb_ct (fun k => Lv' (2 ^ i - 1 + k)) (bsr V (2 ^ i - 1) bd (len i)).1 :=
      fb_ct_cong (fun k hk => (h2 i (by omega) k (Nat.lt_of_lt_of_le hk (bsr_le _ _ _ _))).2)
    rw [bel, bel, e1, e3, e2]
theorem bel_le (V : Nat → Int32) (Lv : Nat → Bool) (len : Nat → Nat) (bd : Int64) : ∀ i, (∀ j, j < i → len j ≤ 2 ^ j) → (bel V Lv len bd i).1 ≤ 2 ^ i - 1
  | 0, _ => Nat.le_refl _
  | i + 1, h => by
    have h1 := bel_le V Lv len bd i (fun j hj => h j (by omega))
    have h2 := bsr_le V (2 ^ i - 1) bd (len i)
    have h3 := fb_ct_le (fun k => Lv (2 ^ i - 1 + k)) (bsr V (2 ^ i - 1) bd (len i)).1
    have h4 := h i (by omega)
    have h5 := Nat.two_pow_pos i
    show (bel V Lv len bd i).1 + fb_ct (fun k => Lv (2 ^ i - 1 + k)) (bsr V (2 ^ i - 1) bd (len i)).1 ≤ 2 ^ (i + 1) - 1
    rw [Nat.pow_succ]
    omega
-- ===== the search for a rank, by halves of all ints =====
def sh1 (x : Int64) : Int64 := x >>> ((nI 1).toInt64 &&& 63)
theorem sh1_toInt (x : Int64) : (sh1 x).toInt = x.toInt / 2 := by
  unfold sh1
  have h : ((nI 1).toInt64 &&& 63) = 1 := by decide +kernel
  rw [h]
  have h2 : (x >>> (1 : Int64)).toInt = x.toInt >>> 1 := by
    rw [← Int64.toInt_toBitVec, Int64.toBitVec_shiftRight]
    have : (Int64.toBitVec 1).smod 64 = 1#64 := by decide +kernel
    simp [this, BitVec.toInt_sshiftRight]
  rw [h2, Int.shiftRight_eq_div_pow]
  rfl
def sel (f : Int64 → Nat × Nat) (k : Int32) : Nat → Int64 → Int64 → Int64 × Nat
  | 0, lo, _ => (lo, 0)
  | n + 1, lo, hi => if hi ≤ lo then (lo, 0) else (if nI (f (sh1 (lo + hi) + 1)).1 ≤ k then ((sel f k n (sh1 (lo + hi) + 1) hi).1, (f (sh1 (lo + hi) + 1)).2 + (sel f k n (sh1 (lo + hi) + 1) hi).2) else ((sel f k n lo (sh1 (lo + hi))).1, (f (sh1 (lo + hi) + 1)).2 + (sel f k n lo (sh1 (lo + hi))).2))
theorem sel_out {f : Int64 → Nat × Nat} {k : Int32} {n : Nat} {lo hi : Int64} (h : hi ≤ lo) : sel f k n lo hi = (lo, 0) := by
  cases n with
  | zero => rfl
  | succ n => rw [sel, if_pos h]
theorem sel_up {f : Int64 → Nat × Nat} {k : Int32} {n : Nat} {lo hi : Int64} (h : ¬ hi ≤ lo) (h2 : nI (f (sh1 (lo + hi) + 1)).1 ≤ k) : sel f k (n + 1) lo hi = ((sel f k n (sh1 (lo + hi) + 1) hi).1, (f (sh1 (lo + hi) + 1)).2 + (sel f k n (sh1 (lo + hi) + 1) hi).2) := by
  rw [sel, if_neg h, if_pos h2]
theorem sel_dn {f : Int64 → Nat × Nat} {k : Int32} {n : Nat} {lo hi : Int64} (h : ¬ hi ≤ lo) (h2 : ¬ nI (f (sh1 (lo + hi) + 1)).1 ≤ k) : sel f k (n + 1) lo hi = ((sel f k n lo (sh1 (lo + hi))).1, (f (sh1 (lo + hi) + 1)).2 + (sel f k n lo (sh1 (lo + hi))).2) := by
  rw [sel, if_neg h, if_neg h2]
/-- what a step of it leaves: both new stretches are shorter, and lie in the old one -/
def selB (lo hi : Int64) (n : Nat) : Prop := -2147483648 ≤ lo.toInt ∧ hi.toInt ≤ 2147483647 ∧ lo.toInt ≤ 2147483648 ∧ -2147483649 ≤ hi.toInt ∧ hi.toInt - lo.toInt ≤ (n : Int)
theorem selB_0 {lo hi : Int64} (h : selB lo hi 0) : hi ≤ lo := by
  rw [Int64.le_iff_toInt_le]
  obtain ⟨-, -, -, -, h⟩ := h
  omega
theorem selB_step {lo hi : Int64} {n : Nat} (h : selB lo hi (n + 1)) (h2 : ¬ hi ≤ lo) : selB (sh1 (lo + hi) + 1) hi n ∧ selB lo (sh1 (lo + hi)) n := by
  rw [Int64.le_iff_toInt_le] at h2
  obtain ⟨a1, a2, a3, a4, a5⟩ := h
  have e1 : (lo + hi).toInt = lo.toInt + hi.toInt := fb_addL (by omega) (by omega)
  have e2 : (sh1 (lo + hi)).toInt = (lo.toInt + hi.toInt) / 2 := by rw [sh1_toInt, e1]
  have e3 : (sh1 (lo + hi) + 1).toInt = (lo.toInt + hi.toInt) / 2 + 1 := by
    rw [fb_addL, e2]
    · rfl
    · rw [e2, show (1 : Int64).toInt = 1 from by decide +kernel]; omega
    · rw [e2, show (1 : Int64).toInt = 1 from by decide +kernel]; omega
  unfold selB
  rw [e2, e3]
  omega
def selr (f : Int64 → Nat × Nat) (k : Int32) : Int64 × Nat := sel f k 4294967295 (-2147483648) 2147483647
theorem selB_start : selB (-2147483648) 2147483647 4294967295 := by
  unfold selB
  rw [show (-2147483648 : Int64).toInt = -2147483648 from by decide +kernel, show (2147483647 : Int64).toInt = 2147483647 from by decide +kernel]
  omega
-- ===== the first that lives and has a value =====
def liv (V : Nat → Int32) (Lv : Nat → Bool) (v : Int32) : Nat → Nat → Option Nat
  | 0, _ => none
  | n + 1, p => if V p = v ∧ Lv p = true then some p else liv V Lv v n (p + 1)
def fnd (V : Nat → Int32) (Lv : Nat → Bool) (len : Nat → Nat) (v : Int32) : Nat → Nat → Option Nat
  | 0, _ => none
  | n + 1, i => match liv V Lv v (len i) (2 ^ i - 1) with
    | some p => some p
    | none => fnd V Lv len v n (i + 1)
theorem liv_yes {V : Nat → Int32} {Lv : Nat → Bool} {v : Int32} {n p : Nat} (h1 : V p = v) (h2 : Lv p = true) : liv V Lv v (n + 1) p = some p := by rw [liv, if_pos ⟨h1, h2⟩]
theorem liv_no {V : Nat → Int32} {Lv : Nat → Bool} {v : Int32} {n p : Nat} (h : ¬ (V p = v ∧ Lv p = true)) : liv V Lv v (n + 1) p = liv V Lv v n (p + 1) := by rw [liv, if_neg h]
theorem liv_cong {V V' : Nat → Int32} {Lv Lv' : Nat → Bool} {v : Int32} : ∀ n p, (∀ k, k < n → V (p + k) = V' (p + k) ∧ Lv (p + k) = Lv' (p + k)) → liv V Lv v n p = liv V' Lv' v n p
  | 0, _, _ => rfl
  | n + 1, p, h => by
    have h0 := h 0 (by omega)
    rw [Nat.add_zero] at h0
    have h1 := liv_cong (v := v) n (p + 1) (fun k hk => by
      have := h (k + 1) (by omega)
      rwa [show p + (k + 1) = p + 1 + k by omega] at this)
    rw [liv, liv, h0.1, h0.2, h1]
theorem liv_at {V : Nat → Int32} {Lv : Nat → Bool} {v : Int32} : ∀ {n p q}, liv V Lv v n p = some q → p ≤ q ∧ q < p + n ∧ V q = v ∧ Lv q = true
  | 0, p, q, h => by cases h
  | n + 1, p, q, h => by
    rw [liv] at h
    split at h
    · cases h
      rename_i h2
      exact ⟨by omega, by omega, h2.1, h2.2⟩
    · have := liv_at h
      exact ⟨by omega, by omega, this.2.2.1, this.2.2.2⟩
theorem fnd_yes {V : Nat → Int32} {Lv : Nat → Bool} {len : Nat → Nat} {v : Int32} {n i p : Nat} (h : liv V Lv v (len i) (2 ^ i - 1) = some p) : fnd V Lv len v (n + 1) i = some p := by rw [fnd, h]
theorem fnd_no {V : Nat → Int32} {Lv : Nat → Bool} {len : Nat → Nat} {v : Int32} {n i : Nat} (h : liv V Lv v (len i) (2 ^ i - 1) = none) : fnd V Lv len v (n + 1) i = fnd V Lv len v n (i + 1) := by rw [fnd, h]
theorem fnd_cong {V V' : Nat → Int32} {Lv Lv' : Nat → Bool} {len len' : Nat → Nat} {v : Int32} : ∀ n i, (∀ j, j < i + n → len j = len' j) → (∀ j, j < i + n → ∀ k, k < len j → V (2 ^ j - 1 + k) = V' (2 ^ j - 1 + k) ∧ Lv (2 ^ j - 1 + k) = Lv' (2 ^ j - 1 + k)) → fnd V Lv len v n i = fnd V' Lv' len' v n i
  | 0, _, _, _ => rfl
  | n + 1, i, h1, h2 => by
    have e1 : liv V Lv v (len i) (2 ^ i - 1) = liv V' Lv' v (len' i) (2 ^ i - 1) := by
      rw [← h1 i (by omega)]
      exact liv_cong _ _ (h2 i (by omega))
    have e2 := fnd_cong (v := v) n (i + 1) (fun j hj => h1 j (by omega)) (fun j hj => h2 j (by omega))
    rw [fnd, fnd, e1, e2]
theorem fnd_at {V : Nat → Int32} {Lv : Nat → Bool} {len : Nat → Nat} {v : Int32} : ∀ {n i q}, fnd V Lv len v n i = some q → ∃ j k, j < i + n ∧ k < len j ∧ q = 2 ^ j - 1 + k ∧ Lv q = true
  | 0, i, q, h => by cases h
  | n + 1, i, q, h => by
    cases hl : liv V Lv v (len i) (2 ^ i - 1) with
    | some p =>
      rw [fnd_yes hl] at h
      cases h
      have := liv_at hl
      exact ⟨i, q - (2 ^ i - 1), by omega, by omega, by omega, this.2.2.2⟩
    | none =>
      rw [fnd_no hl] at h
      obtain ⟨j, k, h1, h2⟩ := fnd_at h
      exact ⟨j, k, by omega, h2⟩
-- ===== order =====
def srt (f : Nat → Int32) (n : Nat) : Prop := ∀ k, k + 1 < n → f k ≤ f (k + 1)
theorem i_le_refl (a : Int32) : a ≤ a := by rw [Int32.le_iff_toInt_le]; omega
theorem i_le_trans {a b c : Int32} (h : a ≤ b) (h2 : b ≤ c) : a ≤ c := by
  rw [Int32.le_iff_toInt_le] at *; omega
theorem i_lt_le {a b : Int32} (h : a < b) : a ≤ b := by
  rw [Int32.lt_iff_toInt_lt] at h; rw [Int32.le_iff_toInt_le]; omega
theorem i_nle {a b : Int32} : ¬ a ≤ b ↔ b < a := by
  rw [Int32.le_iff_toInt_le, Int32.lt_iff_toInt_lt]; omega
theorem i_nlt {a b : Int32} : ¬ a < b ↔ b ≤ a := by
  rw [Int32.le_iff_toInt_le, Int32.lt_iff_toInt_lt]; omega
theorem i_lt_of {a b c : Int32} (h : a < b) (h2 : b ≤ c) : a < c := by
  rw [Int32.lt_iff_toInt_lt] at *; rw [Int32.le_iff_toInt_le] at h2; omega
theorem i_anti {a b : Int32} (h : a ≤ b) (h2 : b ≤ a) : a = b := by
  rw [Int32.le_iff_toInt_le] at *; exact Int32.toInt_inj.mp (by omega)
theorem srt_le {f : Nat → Int32} {n : Nat} (h : srt f n) : ∀ d i, i + d < n → f i ≤ f (i + d)
  | 0, i, _ => i_le_refl _
  | d + 1, i, hd => i_le_trans (srt_le h d i (by omega)) (h (i + d) (by omega))
theorem srt_le2 {f : Nat → Int32} {n i j : Nat} (h : srt f n) (hij : i ≤ j) (hj : j < n) : f i ≤ f j := by
  have := srt_le h (j - i) i (by omega)
  rwa [Nat.add_sub_cancel' hij] at this
theorem srt_cong {f g : Nat → Int32} {n : Nat} (h : srt f n) (e : ∀ k, k < n → g k = f k) : srt g n := fun k hk => by
  rw [e k (by omega), e (k + 1) hk]; exact h k hk
theorem srt_mono {f : Nat → Int32} {n m : Nat} (h : srt f n) (hm : m ≤ n) : srt f m := fun k hk => h k (by omega)
theorem srt_push {f : Nat → Int32} {n : Nat} {w : Int32} (h : srt f n) (hw : ∀ k, k < n → f k ≤ w) : srt (va_up f n w) (n + 1) := by
  intro k hk
  by_cases e : k + 1 = n
  · rw [e, up_s, up_n (by omega)]
    exact hw k (by omega)
  · rw [up_n (by omega), up_n e]
    exact h k (by omega)
/-- two sorted stretches with the same counts are the same -/
theorem srt_half {f g : Nat → Int32} {n : Nat} (hf : srt f n) (hg : srt g n) (hc : ∀ v : Int32, fb_ct (fun q => decide (f q ≤ v)) n = fb_ct (fun q => decide (g q ≤ v)) n) : ∀ k, k < n → f k ≤ g k := by
  intro k hk
  by_cases h : f k ≤ g k
  · exact h
  · exfalso
    have h1 := hc (g k)
    have h2 : fb_ct (fun q => decide (g q ≤ g k)) (k + 1) = k + 1 := fb_ct_all.mpr (fun q hq => decide_eq_true (srt_le2 hg (by omega) hk))
    have h3 := fb_ct_mono (fun q => decide (g q ≤ g k)) (m := k + 1) (n := n) (by omega)
    have h4 := fb_ct_split (fun q => decide (f q ≤ g k)) k (n - k)
    rw [Nat.add_sub_cancel' (by omega)] at h4
    have h5 : fb_ct (fun q => decide (f (k + q) ≤ g k)) (n - k) = 0 := fb_ct_zero.mpr (fun q hq => decide_eq_false (fun z => h (i_le_trans (srt_le hf q k (by omega)) z)))
    have h6 := fb_ct_le (fun q => decide (f q ≤ g k)) k
    omega
theorem srt_uniq {f g : Nat → Int32} {n : Nat} (hf : srt f n) (hg : srt g n) (hc : ∀ v : Int32, fb_ct (fun q => decide (f q ≤ v)) n = fb_ct (fun q => decide (g q ≤ v)) n) : ∀ k, k < n → f k = g k := fun k hk => i_anti (srt_half hf hg hc k hk) (srt_half hg hf (fun v => (hc v).symm) k hk)
-- ===== two sorted stretches become one, told from the far end =====
def mbf (X Y : Nat → Int32 × Bool) : Nat → Nat → Nat → Int32 × Bool
  | 0, 0 => fun _ => (0, false)
  | a + 1, 0 => va_up (mbf X Y a 0) a (X a)
  | 0, b + 1 => va_up (mbf X Y 0 b) b (Y b)
  | a + 1, b + 1 => if (Y b).1 < (X a).1 then va_up (mbf X Y a (b + 1)) (a + (b + 1)) (X a) else va_up (mbf X Y (a + 1) b) (a + 1 + b) (Y b)
termination_by a b => a + b
theorem mbf_0 (X Y : Nat → Int32 × Bool) : mbf X Y 0 0 = fun _ => (0, false) := by rw [mbf]
theorem mbf_own {X Y : Nat → Int32 × Bool} {a b : Nat} (h : b = 0 ∨ (Y (b - 1)).1 < (X a).1) : mbf X Y (a + 1) b = va_up (mbf X Y a b) (a + b) (X a) := by
  cases b with
  | zero => rw [mbf]; rfl
  | succ b =>
    have h2 : (Y b).1 < (X a).1 := by
      rcases h with h | h
      · omega
      · exact h
    rw [mbf, if_pos h2]
theorem mbf_oth {X Y : Nat → Int32 × Bool} {a b : Nat} (h : a = 0 ∨ ¬ (Y b).1 < (X (a - 1)).1) : mbf X Y a (b + 1) = va_up (mbf X Y a b) (a + b) (Y b) := by
  cases a with
  | zero => rw [mbf, Nat.zero_add]
  | succ a =>
    have h2 : ¬ (Y b).1 < (X a).1 := by
      rcases h with h | h
      · omega
      · exact h
    rw [mbf, if_neg h2]
theorem mbf_ind (X Y : Nat → Int32 × Bool) (P : Nat → Nat → (Nat → Int32 × Bool) → Prop) (h0 : P 0 0 (fun _ => (0, false)))
    (h1 : ∀ a b, (b = 0 ∨ (Y (b - 1)).1 < (X a).1) → P a b (mbf X Y a b) → P (a + 1) b (va_up (mbf X Y a b) (a + b) (X a)))
    (h2 : ∀ a b, (a = 0 ∨ ¬ (Y b).1 < (X (a - 1)).1) → P a b (mbf X Y a b) → P a (b + 1) (va_up (mbf X Y a b) (a + b) (Y b))) : ∀ n a b, a + b = n → P a b (mbf X Y a b) := by
  intro n
  induction n with
  | zero =>
    intro a b h
    have ha : a = 0 := by omega
    have hb : b = 0 := by omega
    subst ha; subst hb
    rw [mbf_0]; exact h0
  | succ n ih =>
    intro a b h
    have key : (∃ a', a = a' + 1 ∧ (b = 0 ∨ (Y (b - 1)).1 < (X a').1)) ∨ (∃ b', b = b' + 1 ∧ (a = 0 ∨ ¬ (Y b').1 < (X (a - 1)).1)) := by
      cases a with
      | zero => exact Or.inr ⟨b - 1, by omega, Or.inl rfl⟩
      | succ a =>
        cases b with
        | zero => exact Or.inl ⟨a, rfl, Or.inl rfl⟩
        | succ b =>
          by_cases q : (Y b).1 < (X a).1
          · exact Or.inl ⟨a, rfl, Or.inr q⟩
          · exact Or.inr ⟨b, rfl, Or.inr q⟩
    rcases key with ⟨a', rfl, q⟩ | ⟨b', rfl, q⟩
    · rw [mbf_own q]
      exact h1 a' b q (ih a' b (by omega))
    · rw [mbf_oth q]
      exact h2 a b' q (ih a b' (by omega))
theorem mbf_all {X Y : Nat → Int32 × Bool} (P : Int32 × Bool → Prop) (a b : Nat) (hX : ∀ k, k < a → P (X k)) (hY : ∀ k, k < b → P (Y k)) : ∀ k, k < a + b → P (mbf X Y a b k) := by
  refine mbf_ind X Y (fun a b F => (∀ k, k < a → P (X k)) → (∀ k, k < b → P (Y k)) → ∀ k, k < a + b → P (F k)) ?_ ?_ ?_ (a + b) a b rfl hX hY
  · intro _ _ k hk
    omega
  · intro a b _ ih h1 h2 k hk
    by_cases e : k = a + b
    · rw [e, up_s]; exact h1 a (by omega)
    · rw [up_n e]; exact ih (fun k hk => h1 k (by omega)) h2 k (by omega)
  · intro a b _ ih h1 h2 k hk
    by_cases e : k = a + b
    · rw [e, up_s]; exact h2 b (by omega)
    · rw [up_n e]; exact ih h1 (fun k hk => h2 k (by omega)) k (by omega)
theorem up_1 (F : Nat → Int32 × Bool) (k : Nat) (z : Int32 × Bool) : (fun j => (va_up F k z j).1) = va_up (fun j => (F j).1) k z.1 := by
  funext j
  by_cases e : j = k
  · rw [e, up_s, up_s]
  · rw [up_n e, up_n e]
theorem mbf_srt {X Y : Nat → Int32 × Bool} (a b : Nat) (hX : srt (fun k => (X k).1) a) (hY : srt (fun k => (Y k).1) b) : srt (fun k => (mbf X Y a b k).1) (a + b) := by
  refine mbf_ind X Y (fun a b F => srt (fun k => (X k).1) a → srt (fun k => (Y k).1) b → srt (fun k => (F k).1) (a + b)) ?_ ?_ ?_ (a + b) a b rfl hX hY
  · intro _ _ k hk
    omega
  · intro a b q ih h1 h2
    show srt (fun k => (va_up (mbf X Y a b) (a + b) (X a) k).1) (a + 1 + b)
    rw [up_1, show a + 1 + b = a + b + 1 by omega]
    refine srt_push (ih (srt_mono h1 (by omega)) h2) ?_
    refine mbf_all (fun z => z.1 ≤ (X a).1) a b (fun k hk => srt_le2 h1 (by omega) (by omega)) (fun k hk => ?_)
    rcases q with q | q
    · omega
    · exact i_le_trans (srt_le2 h2 (j := b - 1) (by omega) (by omega)) (i_lt_le q)
  · intro a b q ih h1 h2
    show srt (fun k => (va_up (mbf X Y a b) (a + b) (Y b) k).1) (a + b + 1)
    rw [up_1]
    refine srt_push (ih h1 (srt_mono h2 (by omega))) ?_
    refine mbf_all (fun z => z.1 ≤ (Y b).1) a b (fun k hk => ?_) (fun k hk => srt_le2 h2 (by omega) (by omega))
    rcases q with q | q
    · omega
    · exact i_le_trans (srt_le2 h1 (j := a - 1) (by omega) (by omega)) (i_nlt.mp q)
theorem mbf_ct {X Y : Nat → Int32 × Bool} (q : Int32 × Bool → Bool) (a b : Nat) : fb_ct (fun k => q (mbf X Y a b k)) (a + b) = fb_ct (fun k => q (X k)) a + fb_ct (fun k => q (Y k)) b := by
  refine mbf_ind X Y (fun a b F => fb_ct (fun k => q (F k)) (a + b) = fb_ct (fun k => q (X k)) a + fb_ct (fun k => q (Y k)) b) rfl ?_ ?_ (a + b) a b rfl
  · intro a b _ ih
    rw [show a + 1 + b = a + b + 1 by omega, fb_ct_succ, fb_ct_succ, up_s, fb_ct_cong (q := fun k => q (mbf X Y a b k)) (fun k hk => by rw [up_n (by omega)]), ih]
    omega
  · intro a b _ ih
    rw [show a + (b + 1) = a + b + 1 by omega, fb_ct_succ, fb_ct_succ, up_s, fb_ct_cong (q := fun k => q (mbf X Y a b k)) (fun k hk => by rw [up_n (by omega)]), ih]
    omega
theorem mbf_cong {X Y X' Y' : Nat → Int32 × Bool} (a b : Nat) (hX : ∀ k, k < a → X k = X' k) (hY : ∀ k, k < b → Y k = Y' k) : mbf X Y a b = mbf X' Y' a b := by
  refine mbf_ind X Y (fun a b F => (∀ k, k < a → X k = X' k) → (∀ k, k < b → Y k = Y' k) → F = mbf X' Y' a b) ?_ ?_ ?_ (a + b) a b rfl hX hY
  · intro _ _
    exact (mbf_0 X' Y').symm
  · intro a b q ih h1 h2
    rw [ih (fun k hk => h1 k (by omega)) h2, h1 a (by omega)]
    refine (mbf_own ?_).symm
    rcases q with q | q
    · exact Or.inl q
    · rcases Nat.eq_zero_or_pos b with z | z
      · exact Or.inl z
      · right
        rw [← h2 (b - 1) (by omega), ← h1 a (by omega)]
        exact q
  · intro a b q ih h1 h2
    rw [ih h1 (fun k hk => h2 k (by omega)), h2 b (by omega)]
    refine (mbf_oth ?_).symm
    rcases q with q | q
    · exact Or.inl q
    · rcases Nat.eq_zero_or_pos a with z | z
      · exact Or.inl z
      · right
        rw [← h2 b (by omega), ← h1 (a - 1) (by omega)]
        exact q
/-- the class: from the far end, in the place of the second -/
def mgI (X Y : Nat → Int32 × Bool) (N : Nat) (Z : Nat → Int32 × Bool) (T0 : Nat → Int32) (U0 : Nat → Bool) (a b : Nat) (T : Nat → Int32) (U : Nat → Bool) : Prop :=
  (∀ j, j < b → T j = T0 j ∧ U j = U0 j) ∧ (∀ j, a + b ≤ j → j < N → T j = (Z j).1 ∧ U j = !(Z j).2) ∧ (∀ j, j < a + b → Z j = mbf X Y a b j)
theorem mgI_start {X Y : Nat → Int32 × Bool} {T0 : Nat → Int32} {U0 : Nat → Bool} {a b : Nat} : mgI X Y (a + b) (mbf X Y a b) T0 U0 a b T0 U0 := ⟨fun _ _ => ⟨rfl, rfl⟩, fun j h1 h2 => by omega, fun _ _ => rfl⟩
theorem mgI_own {X Y : Nat → Int32 × Bool} {N : Nat} {Z : Nat → Int32 × Bool} {T0 : Nat → Int32} {U0 : Nat → Bool} {a b : Nat} {T : Nat → Int32} {U : Nat → Bool} {x : Int32} {u : Bool} (h : mgI X Y N Z T0 U0 (a + 1) b T U) (q : b = 0 ∨ (Y (b - 1)).1 < (X a).1) (hx : x = (X a).1) (hu : u = !(X a).2) : mgI X Y N Z T0 U0 a b (va_up T (a + b) x) (va_up U (a + b) u) := by
  obtain ⟨h1, h2, h3⟩ := h
  rw [mbf_own q] at h3
  refine ⟨fun j hj => ?_, fun j hj hN => ?_, fun j hj => ?_⟩
  · rw [up_n (by omega), up_n (by omega)]
    exact h1 j hj
  · by_cases e : j = a + b
    · subst e
      rw [up_s, up_s, h3 (a + b) (by omega), up_s]
      exact ⟨hx, hu⟩
    · rw [up_n e, up_n e]
      exact h2 j (by omega) hN
  · rw [h3 j (by omega), up_n (by omega)]
theorem mgI_oth {X Y : Nat → Int32 × Bool} {N : Nat} {Z : Nat → Int32 × Bool} {T0 : Nat → Int32} {U0 : Nat → Bool} {a b : Nat} {T : Nat → Int32} {U : Nat → Bool} (h : mgI X Y N Z T0 U0 a (b + 1) T U) (q : a = 0 ∨ ¬ (Y b).1 < (X (a - 1)).1) (hY : Y b = (T0 b, !U0 b)) : mgI X Y N Z T0 U0 a b (va_up T (a + b) (T b)) (va_up U (a + b) (U b)) := by
  obtain ⟨h1, h2, h3⟩ := h
  rw [mbf_oth q] at h3
  refine ⟨fun j hj => ?_, fun j hj hN => ?_, fun j hj => ?_⟩
  · rw [up_n (by omega), up_n (by omega)]
    exact h1 j (by omega)
  · by_cases e : j = a + b
    · subst e
      rw [up_s, up_s, h3 (a + b) (by omega), up_s, hY, (h1 b (by omega)).1, (h1 b (by omega)).2]
      exact ⟨rfl, by simp⟩
    · rw [up_n e, up_n e]
      exact h2 j (by omega) hN
  · rw [h3 j (by omega), up_n (by omega)]
/-- the reference: from the near end, into a spare row -/
def fwI (X Y : Nat → Int32 × Bool) (n a b : Nat) (S : Nat → Int32) (SL : Nat → Bool) : Prop :=
  a ≤ n ∧ b ≤ n ∧ (∀ j, j < a + b → S j = (mbf X Y a b j).1 ∧ SL j = (mbf X Y a b j).2) ∧ (0 < b → a < n → (Y (b - 1)).1 < (X a).1) ∧ (0 < a → b < n → (X (a - 1)).1 ≤ (Y b).1)
theorem fwI_start {X Y : Nat → Int32 × Bool} {n : Nat} {S : Nat → Int32} {SL : Nat → Bool} : fwI X Y n 0 0 S SL := ⟨Nat.zero_le _, Nat.zero_le _, fun j hj => by omega, fun h => by omega, fun h => by omega⟩
theorem fwI_own {X Y : Nat → Int32 × Bool} {n a b : Nat} {S : Nat → Int32} {SL : Nat → Bool} {x : Int32} {u : Bool} (hX : srt (fun k => (X k).1) n) (h : fwI X Y n a b S SL) (ha : a < n) (q : b = n ∨ (X a).1 ≤ (Y b).1) (hx : x = (X a).1) (hu : u = (X a).2) : fwI X Y n (a + 1) b (va_up S (a + b) x) (va_up SL (a + b) u) := by
  obtain ⟨h1, h2, h3, h4, h5⟩ := h
  have qq : b = 0 ∨ (Y (b - 1)).1 < (X a).1 := by
    rcases Nat.eq_zero_or_pos b with z | z
    · exact Or.inl z
    · exact Or.inr (h4 z ha)
  refine ⟨by omega, h2, fun j hj => ?_, fun hb ha2 => ?_, fun _ hb => ?_⟩
  · rw [mbf_own qq]
    by_cases e : j = a + b
    · subst e
      rw [up_s, up_s, up_s]
      exact ⟨hx, hu⟩
    · rw [up_n e, up_n e, up_n e]
      exact h3 j (by omega)
  · exact i_lt_of (h4 hb ha) (hX a ha2)
  · show (X a).1 ≤ (Y b).1
    rcases q with q | q
    · omega
    · exact q
theorem fwI_oth {X Y : Nat → Int32 × Bool} {n a b : Nat} {S : Nat → Int32} {SL : Nat → Bool} {x : Int32} {u : Bool} (hY : srt (fun k => (Y k).1) n) (h : fwI X Y n a b S SL) (hb : b < n) (q : a = n ∨ ¬ (X a).1 ≤ (Y b).1) (hx : x = (Y b).1) (hu : u = (Y b).2) : fwI X Y n a (b + 1) (va_up S (a + b) x) (va_up SL (a + b) u) := by
  obtain ⟨h1, h2, h3, h4, h5⟩ := h
  have qq : a = 0 ∨ ¬ (Y b).1 < (X (a - 1)).1 := by
    rcases Nat.eq_zero_or_pos a with z | z
    · exact Or.inl z
    · exact Or.inr (i_nlt.mpr (h5 z hb))
  refine ⟨h1, by omega, fun j hj => ?_, fun _ ha => ?_, fun ha hb2 => ?_⟩
  · rw [mbf_oth qq]
    by_cases e : j = a + b
    · subst e
      rw [up_s, up_s, up_s]
      exact ⟨hx, hu⟩
    · rw [up_n e, up_n e, up_n e]
      exact h3 j (by omega)
  · show (Y b).1 < (X a).1
    rcases q with q | q
    · omega
    · exact i_nle.mp q
  · exact i_le_trans (h5 ha hb) (hY b hb2)
-- ===== what is carried into run j =====
def rn (V : Nat → Int32) (Lv : Nat → Bool) (j : Nat) : Nat → Int32 × Bool := fun k => (V (2 ^ j - 1 + k), Lv (2 ^ j - 1 + k))
def cas (V : Nat → Int32) (Lv : Nat → Bool) (v : Int32) : Nat → Nat → Int32 × Bool
  | 0 => fun _ => (v, true)
  | j + 1 => mbf (rn V Lv j) (cas V Lv v j) (2 ^ j) (2 ^ j)
theorem pow_2 (j : Nat) : 2 ^ j + 2 ^ j = 2 ^ (j + 1) := by rw [Nat.pow_succ]; omega
theorem cas_srt {V : Nat → Int32} {Lv : Nat → Bool} {v : Int32} : ∀ j, (∀ i, i < j → srt (fun k => V (2 ^ i - 1 + k)) (2 ^ i)) → srt (fun k => (cas V Lv v j k).1) (2 ^ j)
  | 0, _ => fun k hk => by
    rw [Nat.pow_zero] at hk
    omega
  | j + 1, h => by
    rw [← pow_2]
    exact mbf_srt (X := rn V Lv j) (Y := cas V Lv v j) _ _ (h j (by omega)) (cas_srt j (fun i hi => h i (by omega)))
theorem cas_ct {V : Nat → Int32} {Lv : Nat → Bool} {v : Int32} : ∀ j, fb_ct (fun k => (cas V Lv v j k).2) (2 ^ j) = 1 + fb_sm (fun i => fb_ct (fun k => Lv (2 ^ i - 1 + k)) (2 ^ i)) j
  | 0 => rfl
  | j + 1 => by
    have ih := cas_ct (V := V) (Lv := Lv) (v := v) j
    have e := mbf_ct (X := rn V Lv j) (Y := cas V Lv v j) (fun z => z.2) (2 ^ j) (2 ^ j)
    rw [pow_2] at e
    rw [fb_sm_succ]
    show fb_ct (fun k => (mbf (rn V Lv j) (cas V Lv v j) (2 ^ j) (2 ^ j) k).2) (2 ^ (j + 1)) = _
    rw [e, ih]
    show fb_ct (fun k => Lv (2 ^ j - 1 + k)) (2 ^ j) + _ = _
    omega
theorem cas_cong {V V' : Nat → Int32} {Lv Lv' : Nat → Bool} {v : Int32} : ∀ j, (∀ i, i < j → ∀ k, k < 2 ^ i → V (2 ^ i - 1 + k) = V' (2 ^ i - 1 + k) ∧ Lv (2 ^ i - 1 + k) = Lv' (2 ^ i - 1 + k)) → cas V Lv v j = cas V' Lv' v j
  | 0, _ => rfl
  | j + 1, h => by
    rw [cas, cas, cas_cong (v := v) j (fun i hi => h i (by omega))]
    refine mbf_cong _ _ (fun k hk => ?_) (fun _ _ => rfl)
    unfold rn
    rw [(h j (by omega) k hk).1, (h j (by omega) k hk).2]
end
section
/-! plain facts: what is gathered, in order; how it is laid out anew -/
theorem ct_t {P : Nat → Bool} {n : Nat} (h : P n = true) : fb_ct P (n + 1) = fb_ct P n + 1 := by rw [fb_ct_succ, if_pos h]
theorem ct_f {P : Nat → Bool} {n : Nat} (h : P n = false) : fb_ct P (n + 1) = fb_ct P n := by rw [fb_ct_succ, if_neg (by rw [h]; decide)]; rfl
-- ===== one more in its place =====
def insF (w : Int32) : Nat → (Nat → Int32) → Nat → Int32
  | 0, f => va_up f 0 w
  | n + 1, f => if f n ≤ w then va_up f (n + 1) w else insF w n (va_up f (n + 1) (f n))
theorem insF_out {w : Int32} : ∀ {n : Nat} {f : Nat → Int32} {j : Nat}, n < j → insF w n f j = f j
  | 0, f, j, h => up_n (by omega)
  | n + 1, f, j, h => by
    rw [insF]
    split
    · exact up_n (by omega)
    · rw [insF_out (by omega), up_n (by omega)]
theorem ct_push (f : Nat → Int32) (n : Nat) (w v : Int32) : fb_ct (fun q => decide (va_up f n w q ≤ v)) (n + 1) = fb_ct (fun q => decide (f q ≤ v)) n + (if w ≤ v then 1 else 0) := by
  rw [fb_ct_succ, up_s, fb_ct_cong (q := fun q => decide (f q ≤ v)) (fun k hk => by rw [up_n (by omega)])]
  by_cases h : w ≤ v
  · rw [if_pos h, if_pos (decide_eq_true h)]
  · rw [if_neg h, if_neg (by rw [decide_eq_false h]; decide)]
theorem insF_ok {w : Int32} : ∀ {n : Nat} {f : Nat → Int32}, srt f n → srt (insF w n f) (n + 1) ∧ ∀ v : Int32, fb_ct (fun q => decide (insF w n f q ≤ v)) (n + 1) = fb_ct (fun q => decide (f q ≤ v)) n + (if w ≤ v then 1 else 0)
  | 0, f, h => ⟨fun k hk => by omega, fun v => ct_push f 0 w v⟩
  | n + 1, f, h => by
    by_cases q : f n ≤ w
    · have e : insF w (n + 1) f = va_up f (n + 1) w := by rw [insF, if_pos q]
      rw [e]
      exact ⟨srt_push h (fun k hk => i_le_trans (srt_le2 h (j := n) (by omega) (by omega)) q), fun v => ct_push f (n + 1) w v⟩
    · have e : insF w (n + 1) f = insF w n (va_up f (n + 1) (f n)) := by rw [insF, if_neg q]
      rw [e]
      have hc : ∀ v : Int32, fb_ct (fun q => decide (va_up f (n + 1) (f n) q ≤ v)) n = fb_ct (fun q => decide (f q ≤ v)) n := fun v => fb_ct_cong (fun k hk => by rw [up_n (by omega)])
      obtain ⟨h1, h2⟩ := insF_ok (w := w) (n := n) (f := va_up f (n + 1) (f n)) (srt_cong (srt_mono h (by omega)) (fun k hk => up_n (by omega)))
      have h3 : insF w n (va_up f (n + 1) (f n)) (n + 1) = f n := by rw [insF_out (by omega), up_s]
      have h4 : w ≤ f n := i_lt_le (i_nle.mp q)
      have h5 : ∀ k, k < n + 1 → insF w n (va_up f (n + 1) (f n)) k ≤ f n := by
        have := h2 (f n)
        rw [hc, if_pos h4, fb_ct_all.mpr (fun k hk => decide_eq_true (srt_le2 h (i := k) (j := n) (by omega) (by omega)))] at this
        exact fun k hk => of_decide_eq_true (fb_ct_all.mp this k hk)
      refine ⟨fun k hk => ?_, fun v => ?_⟩
      · by_cases z : k = n
        · subst z
          rw [h3]
          exact h5 k (by omega)
        · exact h1 k (by omega)
      · by_cases z : f n ≤ v
        · rw [ct_t (by rw [h3]; exact decide_eq_true z), h2 v, hc, ct_t (P := fun q => decide (f q ≤ v)) (decide_eq_true z), if_pos (i_le_trans h4 z)]
        · rw [ct_f (by rw [h3]; exact decide_eq_false z), h2 v, hc, ct_f (P := fun q => decide (f q ≤ v)) (decide_eq_false z)]
-- ===== counts over runs =====
def nr (P : Nat → Bool) (len : Nat → Nat) (j : Nat) : Nat := fb_sm (fun i => fb_ct (fun k => P (2 ^ i - 1 + k)) (len i)) j
theorem nr_succ (P : Nat → Bool) (len : Nat → Nat) (j : Nat) : nr P len (j + 1) = nr P len j + fb_ct (fun k => P (2 ^ j - 1 + k)) (len j) := rfl
theorem nr_le (P : Nat → Bool) (len : Nat → Nat) : ∀ j, (∀ i, i < j → len i ≤ 2 ^ i) → nr P len j ≤ 2 ^ j - 1
  | 0, _ => Nat.le_refl _
  | j + 1, h => by
    have h1 := nr_le P len j (fun i hi => h i (by omega))
    have h2 := fb_ct_le (fun k => P (2 ^ j - 1 + k)) (len j)
    have h3 := h j (by omega)
    have h4 := Nat.two_pow_pos j
    rw [nr_succ, ← pow_2]
    omega
theorem nr_cong {P P' : Nat → Bool} {len len' : Nat → Nat} {j : Nat} (h1 : ∀ i, i < j → len i = len' i) (h2 : ∀ i, i < j → ∀ k, k < len i → P (2 ^ i - 1 + k) = P' (2 ^ i - 1 + k)) : nr P len j = nr P' len' j :=
  fb_sm_cong (fun i hi => by
    show fb_ct (fun k => P (2 ^ i - 1 + k)) (len i) = fb_ct (fun k => P' (2 ^ i - 1 + k)) (len' i)
    rw [← h1 i hi]
    exact fb_ct_cong (h2 i hi))
/-- all places, run by run -/
theorem nr_all (P : Nat → Bool) : ∀ j, fb_ct P (2 ^ j - 1) = nr P (fun i => 2 ^ i) j
  | 0 => rfl
  | j + 1 => by
    rw [nr_succ, ← nr_all P j, ← fb_ct_split]
    congr 1
    have := Nat.two_pow_pos j
    rw [← pow_2]
    omega
/-- .. where the runs that aren't there have none -/
theorem nr_there {P : Nat → Bool} {th : Nat → Bool} {j : Nat} (h : ∀ i, i < j → th i = false → ∀ k, k < 2 ^ i → P (2 ^ i - 1 + k) = false) : nr P (fun i => 2 ^ i) j = nr P (fun i => if th i then 2 ^ i else 0) j :=
  fb_sm_cong (fun i hi => by
    show fb_ct (fun k => P (2 ^ i - 1 + k)) (2 ^ i) = fb_ct (fun k => P (2 ^ i - 1 + k)) (if th i then 2 ^ i else 0)
    cases ht : th i with
    | true => rw [if_pos rfl]
    | false =>
      rw [if_neg (by decide)]
      exact fb_ct_zero.mpr (h i hi ht))
theorem run_apart {i j a b : Nat} (ha : a < 2 ^ i) (hb : b < 2 ^ j) (h : 2 ^ i - 1 + a = 2 ^ j - 1 + b) : i = j := by
  have pi := Nat.two_pow_pos i
  have pj := Nat.two_pow_pos j
  rcases Nat.lt_trichotomy i j with q | q | q
  · have : 2 ^ (i + 1) ≤ 2 ^ j := Nat.pow_le_pow_right (by decide) q
    rw [← pow_2] at this
    omega
  · exact q
  · have : 2 ^ (j + 1) ≤ 2 ^ i := Nat.pow_le_pow_right (by decide) q
    rw [← pow_2] at this
    omega
/-- one that lived lives no more -/
theorem nr_kill {P : Nat → Bool} {len : Nat → Nat} (hl : ∀ i, i < 10 → len i ≤ 2 ^ i) {j k : Nat} (hj : j < 10) (hk : k < len j) (hp : P (2 ^ j - 1 + k) = true) : nr (va_up P (2 ^ j - 1 + k) false) len 10 + 1 = nr P len 10 := by
  have key : ∀ i, i < 10 → fb_ct (fun q => va_up P (2 ^ j - 1 + k) false (2 ^ i - 1 + q)) (len i) = if i = j then fb_ct (fun q => P (2 ^ j - 1 + q)) (len j) - 1 else fb_ct (fun q => P (2 ^ i - 1 + q)) (len i) := by
    intro i hi
    by_cases e : i = j
    · subst e
      rw [if_pos rfl]
      have h1 := fb_ct_upd (fun q => P (2 ^ i - 1 + q)) false hk
      simp only [hp, if_true] at h1
      rw [← fb_ct_cong (p := fun q => if q = k then false else P (2 ^ i - 1 + q)) (fun q hq => ?_)]
      · simp only [Bool.false_eq_true, if_false] at h1
        omega
      · show (if q = k then false else P (2 ^ i - 1 + q)) = va_up P (2 ^ i - 1 + k) false (2 ^ i - 1 + q)
        by_cases z : q = k
        · rw [if_pos z, z, up_s]
        · rw [if_neg z, up_n (by omega)]
    · rw [if_neg e]
      refine fb_ct_cong (fun q hq => up_n (fun z => e (run_apart ?_ ?_ z)))
      · exact Nat.lt_of_lt_of_le hq (hl i hi)
      · exact Nat.lt_of_lt_of_le hk (hl j hj)
  have h1 : nr (va_up P (2 ^ j - 1 + k) false) len 10 = fb_sm (fun i => if i = j then fb_ct (fun q => P (2 ^ j - 1 + q)) (len j) - 1 else fb_ct (fun q => P (2 ^ i - 1 + q)) (len i)) 10 := fb_sm_cong key
  have h2 := fb_sm_upd (fun i => fb_ct (fun q => P (2 ^ i - 1 + q)) (len i)) (fb_ct (fun q => P (2 ^ j - 1 + q)) (len j) - 1) hj
  have h3 : 0 < fb_ct (fun q => P (2 ^ j - 1 + q)) (len j) := fb_ct_pos.mpr ⟨k, hk, hp⟩
  rw [h1]
  show _ = fb_sm (fun i => fb_ct (fun q => P (2 ^ i - 1 + q)) (len i)) 10
  omega
-- ===== what is gathered =====
def leq (V : Nat → Int32) (Lv : Nat → Bool) (v : Int32) : Nat → Bool := fun p => Lv p && decide (V p ≤ v)
/-- the first runs up to i, and k cells of run i, are in order in T, n of them -/
def gaI (V : Nat → Int32) (Lv : Nat → Bool) (len : Nat → Nat) (i k n : Nat) (T : Nat → Int32) : Prop :=
  n = nr Lv len i + fb_ct (fun q => Lv (2 ^ i - 1 + q)) k ∧ srt T n ∧ ∀ v : Int32, fb_ct (fun q => decide (T q ≤ v)) n = nr (leq V Lv v) len i + fb_ct (fun q => leq V Lv v (2 ^ i - 1 + q)) k
theorem gaI_0 {V : Nat → Int32} {Lv : Nat → Bool} {len : Nat → Nat} {T : Nat → Int32} : gaI V Lv len 0 0 0 T := ⟨rfl, fun k hk => by omega, fun _ => rfl⟩
theorem gaI_dead {V : Nat → Int32} {Lv : Nat → Bool} {len : Nat → Nat} {i k n : Nat} {T : Nat → Int32} (h : gaI V Lv len i k n T) (hd : Lv (2 ^ i - 1 + k) = false) : gaI V Lv len i (k + 1) n T := by
  obtain ⟨h1, h2, h3⟩ := h
  refine ⟨?_, h2, fun v => ?_⟩
  · rw [ct_f (P := fun q => Lv (2 ^ i - 1 + q)) hd]
    exact h1
  · rw [ct_f (P := fun q => leq V Lv v (2 ^ i - 1 + q)) (by unfold leq; rw [hd]; rfl)]
    exact h3 v
theorem gaI_live {V : Nat → Int32} {Lv : Nat → Bool} {len : Nat → Nat} {i k n : Nat} {T : Nat → Int32} (h : gaI V Lv len i k n T) (hd : Lv (2 ^ i - 1 + k) = true) : gaI V Lv len i (k + 1) (n + 1) (insF (V (2 ^ i - 1 + k)) n T) := by
  obtain ⟨h1, h2, h3⟩ := h
  obtain ⟨g1, g2⟩ := insF_ok (w := V (2 ^ i - 1 + k)) h2
  refine ⟨?_, g1, fun v => ?_⟩
  · rw [ct_t (P := fun q => Lv (2 ^ i - 1 + q)) hd, h1]
    omega
  · rw [g2 v, h3 v]
    by_cases z : V (2 ^ i - 1 + k) ≤ v
    · rw [if_pos z, ct_t (P := fun q => leq V Lv v (2 ^ i - 1 + q)) (by unfold leq; rw [hd, decide_eq_true z]; rfl)]
      omega
    · rw [if_neg z, ct_f (P := fun q => leq V Lv v (2 ^ i - 1 + q)) (by unfold leq; rw [hd, decide_eq_false z]; rfl)]
      omega
theorem gaI_next {V : Nat → Int32} {Lv : Nat → Bool} {len : Nat → Nat} {i n : Nat} {T : Nat → Int32} (h : gaI V Lv len i (len i) n T) : gaI V Lv len (i + 1) 0 n T := h
theorem gaI_le {V : Nat → Int32} {Lv : Nat → Bool} {len : Nat → Nat} {i k n : Nat} {T : Nat → Int32} (h : gaI V Lv len i k n T) (hl : ∀ j, j < i → len j ≤ 2 ^ j) : n ≤ 2 ^ i - 1 + k := by
  have h1 := nr_le Lv len i hl
  have h2 := fb_ct_le (fun q => Lv (2 ^ i - 1 + q)) k
  have h3 := h.1
  omega
-- ===== laid out anew: run i, if the number n has it, from its place on =====
def bt (n i : Nat) : Bool := decide (n / 2 ^ i % 2 = 1)
def off (n i : Nat) : Nat := n / 2 ^ (i + 1) * 2 ^ (i + 1)
theorem off_step (n i : Nat) : n / 2 ^ i * 2 ^ i = off n i + n / 2 ^ i % 2 * 2 ^ i := by
  unfold off
  rw [Nat.pow_succ, ← Nat.div_div_eq_div_mul]
  have h := Nat.div_add_mod (n / 2 ^ i) 2
  generalize n / 2 ^ i = q at *
  generalize 2 ^ i = P at *
  calc q * P = (2 * (q / 2) + q % 2) * P := by rw [h]
    _ = q / 2 * (P * 2) + q % 2 * P := by rw [Nat.add_mul, Nat.mul_comm 2 (q / 2), Nat.mul_assoc, Nat.mul_comm 2 P]
theorem off_bit {n i : Nat} (h : bt n i = true) : off n i + 2 ^ i ≤ n := by
  have h1 := off_step n i
  rw [of_decide_eq_true h, Nat.one_mul] at h1
  have h2 := Nat.div_mul_le_self n (2 ^ i)
  omega
theorem off_top {n : Nat} (h : n < 1024) : off n 9 = 0 := by
  unfold off
  rw [Nat.div_eq_of_lt (by omega), Nat.zero_mul]
theorem bt_no {n i : Nat} (h : ¬ bt n i = true) : n / 2 ^ i % 2 = 0 := by
  have : ¬ n / 2 ^ i % 2 = 1 := fun q => h (decide_eq_true q)
  omega
theorem off_next_t {n i : Nat} (h : bt n (i + 1) = true) : off n (i + 1) + 2 ^ (i + 1) = off n i := by
  have h1 := off_step n (i + 1)
  rw [of_decide_eq_true h, Nat.one_mul] at h1
  exact h1.symm
theorem off_next_f {n i : Nat} (h : ¬ bt n (i + 1) = true) : off n (i + 1) = off n i := by
  have h1 := off_step n (i + 1)
  rw [bt_no h, Nat.zero_mul, Nat.add_zero] at h1
  exact h1.symm
theorem bits_sum (n : Nat) : ∀ j, fb_sm (fun i => if bt n i then 2 ^ i else 0) j + n / 2 ^ j * 2 ^ j = n
  | 0 => by
    show 0 + n / 2 ^ 0 * 2 ^ 0 = n
    rw [Nat.pow_zero, Nat.div_one]
    omega
  | j + 1 => by
    have h1 := bits_sum n j
    have h2 := off_step n j
    unfold off at h2
    rw [fb_sm_succ]
    by_cases q : bt n j = true
    · rw [of_decide_eq_true q, Nat.one_mul] at h2
      rw [if_pos q]
      omega
    · rw [bt_no q, Nat.zero_mul] at h2
      rw [if_neg q]
      omega
theorem bits_10 {n : Nat} (h : n < 1024) : fb_sm (fun i => if bt n i then 2 ^ i else 0) 10 = n := by
  have := bits_sum n 10
  rw [Nat.div_eq_of_lt (by omega), Nat.zero_mul] at this
  exact this
/-- the class: runs j and above are laid out, the others empty -/
def rbX (g : Nat → Int32) (n j : Nat) (A : Nat → Int32) (D : Nat → Bool) (L : Nat → Nat) : Prop :=
  ∀ i, i < 10 → (i < j → L i = 0) ∧ (j ≤ i → L i = (if bt n i then 2 ^ i else 0) ∧ (bt n i = true → ∀ k, k < 2 ^ i → A (2 ^ i - 1 + k) = g (off n i + k) ∧ D (2 ^ i - 1 + k) = false))
theorem rbX_0 {g : Nat → Int32} {n : Nat} {A : Nat → Int32} {D : Nat → Bool} {L : Nat → Nat} (h : ∀ i, i < 10 → L i = 0) : rbX g n 10 A D L := fun i hi => ⟨fun _ => h i hi, fun z => by omega⟩
theorem rbX_no {g : Nat → Int32} {n j : Nat} {A : Nat → Int32} {D : Nat → Bool} {L : Nat → Nat} (h : rbX g n (j + 1) A D L) (hj : j < 10) (hb : ¬ bt n j = true) : rbX g n j A D L := by
  intro i hi
  refine ⟨fun z => (h i hi).1 (by omega), fun z => ?_⟩
  by_cases e : i = j
  · subst e
    rw [if_neg hb]
    exact ⟨(h i hi).1 (by omega), fun q => absurd q hb⟩
  · exact (h i hi).2 (by omega)
theorem run_out {i j k : Nat} (hk : k < 2 ^ i) (h : i ≠ j) : 2 ^ i - 1 + k < 2 ^ j - 1 ∨ 2 ^ j - 1 + 2 ^ j ≤ 2 ^ i - 1 + k := by
  have pi := Nat.two_pow_pos i
  have pj := Nat.two_pow_pos j
  rcases Nat.lt_or_ge i j with q | q
  · have : 2 ^ (i + 1) ≤ 2 ^ j := Nat.pow_le_pow_right (by decide) q
    rw [← pow_2] at this
    omega
  · have : 2 ^ (j + 1) ≤ 2 ^ i := Nat.pow_le_pow_right (by decide) (by omega)
    rw [← pow_2] at this
    omega
theorem put_run {α : Type} {f g : Nat → α} {j k : Nat} (hk : k < 2 ^ j) : fb_put f g (2 ^ j - 1) (2 ^ j) (2 ^ j - 1 + k) = g k := by
  rw [fb_put_in (by omega) (by omega)]
  exact congrArg g (by omega)
theorem put_oth {α : Type} {f g : Nat → α} {i j k : Nat} (hk : k < 2 ^ i) (h : i ≠ j) : fb_put f g (2 ^ j - 1) (2 ^ j) (2 ^ i - 1 + k) = f (2 ^ i - 1 + k) := fb_put_out (run_out hk h)
theorem rbX_yes {g : Nat → Int32} {n j : Nat} {A : Nat → Int32} {D : Nat → Bool} {L : Nat → Nat} {T : Nat → Int32} {U : Nat → Bool} (h : rbX g n (j + 1) A D L) (hj : j < 10) (hb : bt n j = true) (hT : ∀ k, k < n → T k = g k) (hU : ∀ k, k < n → U k = false) : rbX g n j (fb_put A (fun k => T (off n j + k)) (2 ^ j - 1) (2 ^ j)) (fb_put D (fun k => U (off n j + k)) (2 ^ j - 1) (2 ^ j)) (va_up L j (2 ^ j)) := by
  have ho := off_bit hb
  intro i hi
  refine ⟨fun z => by rw [up_n (by omega)]; exact (h i hi).1 (by omega), fun z => ?_⟩
  by_cases e : i = j
  · subst e
    rw [if_pos hb, up_s]
    refine ⟨rfl, fun _ k hk => ?_⟩
    rw [put_run hk, put_run hk]
    exact ⟨hT _ (by omega), hU _ (by omega)⟩
  · rw [up_n e]
    refine ⟨((h i hi).2 (by omega)).1, fun q k hk => ?_⟩
    rw [put_oth hk e, put_oth hk e]
    exact ((h i hi).2 (by omega)).2 q k hk
/-- the reference: runs j and above are laid out -/
def rbM (g : Nat → Int32) (n j : Nat) (V : Nat → Int32) (Lv Th : Nat → Bool) : Prop :=
  ∀ i, i < 10 → j ≤ i → Th i = bt n i ∧ ∀ k, k < 2 ^ i → Lv (2 ^ i - 1 + k) = bt n i ∧ (bt n i = true → V (2 ^ i - 1 + k) = g (off n i + k))
theorem rbM_0 {g : Nat → Int32} {n : Nat} {V : Nat → Int32} {Lv Th : Nat → Bool} : rbM g n 10 V Lv Th := fun i hi z => by omega
theorem rbM_no {g : Nat → Int32} {n j : Nat} {V : Nat → Int32} {Lv Th : Nat → Bool} (h : rbM g n (j + 1) V Lv Th) (hb : bt n j = false) : rbM g n j V (fb_put Lv (fun _ => false) (2 ^ j - 1) (2 ^ j)) (va_up Th j false) := by
  intro i hi z
  by_cases e : i = j
  · subst e
    rw [up_s, hb]
    refine ⟨rfl, fun k hk => ?_⟩
    rw [put_run hk]
    exact ⟨rfl, fun q => by cases q⟩
  · rw [up_n e]
    refine ⟨(h i hi (by omega)).1, fun k hk => ?_⟩
    rw [put_oth hk e]
    exact (h i hi (by omega)).2 k hk
theorem rbM_yes {g : Nat → Int32} {n j : Nat} {V : Nat → Int32} {Lv Lv2 Th : Nat → Bool} {C : Nat → Int32} (h : rbM g n (j + 1) V Lv Th) (hb : bt n j = true) (hC : ∀ k, k < n → C k = g k) (h2 : ∀ i, i < 10 → ∀ k, k < 2 ^ i → i ≠ j → Lv2 (2 ^ i - 1 + k) = Lv (2 ^ i - 1 + k)) : rbM g n j (fb_put V (fun k => C (off n j + k)) (2 ^ j - 1) (2 ^ j)) (fb_put Lv2 (fun _ => true) (2 ^ j - 1) (2 ^ j)) (va_up Th j true) := by
  have ho := off_bit hb
  intro i hi z
  by_cases e : i = j
  · subst e
    rw [up_s, hb]
    refine ⟨rfl, fun k hk => ?_⟩
    rw [put_run hk, put_run hk]
    exact ⟨rfl, fun _ => hC _ (by omega)⟩
  · rw [up_n e]
    refine ⟨(h i hi (by omega)).1, fun k hk => ?_⟩
    rw [put_oth hk e, put_oth hk e, h2 i hi k hk e]
    exact (h i hi (by omega)).2 k hk
-- ===== the reference gathers by choosing the least above the last =====
/-- what is at most z (a whole number) -/
def lez (V : Nat → Int32) (Lv : Nat → Bool) (z : Int) : Nat → Bool := fun p => Lv p && decide ((V p).toInt ≤ z)
def bdI (V : Nat → Int32) (Lv : Nat → Bool) (z : Int) (n : Nat) (C : Nat → Int32) : Prop :=
  n = fb_ct (lez V Lv z) 1023 ∧ srt C n ∧ (∀ k, k < n → (C k).toInt ≤ z) ∧ ∀ v : Int32, fb_ct (fun q => decide (C q ≤ v)) n = fb_ct (fun p => leq V Lv v p && decide ((V p).toInt ≤ z)) 1023
theorem bdI_0 {V : Nat → Int32} {Lv : Nat → Bool} {C : Nat → Int32} : bdI V Lv (-2147483649) 0 C := by
  have hz : ∀ p, decide ((V p).toInt ≤ -2147483649) = false := fun p => decide_eq_false (by have := fb_rng (V p); omega)
  refine ⟨(fb_ct_zero.mpr (fun p _ => ?_)).symm, fun k hk => by omega, fun k hk => by omega, fun v => (fb_ct_zero.mpr (fun p _ => ?_)).symm⟩
  · unfold lez
    rw [hz, Bool.and_false]
  · rw [hz, Bool.and_false]
/-- the least so far -/
def bdL (V : Nat → Int32) (Lv : Nat → Bool) (z : Int) (p : Nat) (y : Int) : Prop :=
  (y = 2147483648 ∧ ∀ q, q < p → ¬ (Lv q = true ∧ z < (V q).toInt)) ∨ (∃ q, q < p ∧ Lv q = true ∧ z < (V q).toInt ∧ y = (V q).toInt ∧ ∀ r, r < p → Lv r = true → z < (V r).toInt → y ≤ (V r).toInt)
theorem bdL_0 {V : Nat → Int32} {Lv : Nat → Bool} {z : Int} : bdL V Lv z 0 2147483648 := Or.inl ⟨rfl, fun q hq => by omega⟩
theorem bdL_keep {V : Nat → Int32} {Lv : Nat → Bool} {z : Int} {p : Nat} {y : Int} (h : bdL V Lv z p y) (hp : Lv p = true → z < (V p).toInt → y ≤ (V p).toInt) : bdL V Lv z (p + 1) y := by
  rcases h with ⟨h1, h2⟩ | ⟨q, h1, h2, h3, h4, h5⟩
  · refine Or.inl ⟨h1, fun q hq hh => ?_⟩
    by_cases e : q = p
    · subst e
      have := hp hh.1 hh.2
      have := fb_rng (V q)
      omega
    · exact h2 q (by omega) hh
  · refine Or.inr ⟨q, by omega, h2, h3, h4, fun r hr hl hz => ?_⟩
    by_cases e : r = p
    · subst e
      exact hp hl hz
    · exact h5 r (by omega) hl hz
theorem bdL_take {V : Nat → Int32} {Lv : Nat → Bool} {z : Int} {p : Nat} {y : Int} (h : bdL V Lv z p y) (hl : Lv p = true) (hz : z < (V p).toInt) (hy : (V p).toInt < y) : bdL V Lv z (p + 1) (V p).toInt := by
  refine Or.inr ⟨p, by omega, hl, hz, rfl, fun r hr hl2 hz2 => ?_⟩
  by_cases e : r = p
  · subst e
    exact Int.le_refl _
  · rcases h with ⟨h1, h2⟩ | ⟨q, h1, h2, h3, h4, h5⟩
    · exact absurd ⟨hl2, hz2⟩ (h2 r (by omega))
    · have := h5 r (by omega) hl2 hz2
      omega
/-- .. there is one, if not all are gathered -/
theorem bdL_end {V : Nat → Int32} {Lv : Nat → Bool} {z : Int} {n : Nat} {C : Nat → Int32} {y : Int} (h : bdI V Lv z n C) (hn : n < fb_ct Lv 1023) (hy : bdL V Lv z 1023 y) : ∃ q, q < 1023 ∧ Lv q = true ∧ z < (V q).toInt ∧ y = (V q).toInt ∧ ∀ r, r < 1023 → Lv r = true → z < (V r).toInt → y ≤ (V r).toInt := by
  rcases hy with ⟨h1, h2⟩ | hy
  · exfalso
    have : fb_ct Lv 1023 = fb_ct (lez V Lv z) 1023 := fb_ct_cong (fun p hp => by
      unfold lez
      cases hl : Lv p with
      | false => rfl
      | true =>
        rw [Bool.true_and]
        exact (decide_eq_true (by
          have := h2 p hp
          rw [hl] at this
          have : ¬ z < (V p).toInt := fun q => this ⟨rfl, q⟩
          omega)).symm)
    have := h.1
    omega
  · exact hy
/-- its copies are added, up to place p -/
def bdA (V : Nat → Int32) (Lv : Nat → Bool) (w : Int32) (n0 : Nat) (C0 : Nat → Int32) (p n : Nat) (C : Nat → Int32) : Prop :=
  n = n0 + fb_ct (fun q => Lv q && decide (V q = w)) p ∧ (∀ k, k < n0 → C k = C0 k) ∧ ∀ k, n0 ≤ k → k < n → C k = w
theorem bdA_0 {V : Nat → Int32} {Lv : Nat → Bool} {w : Int32} {n0 : Nat} {C0 : Nat → Int32} : bdA V Lv w n0 C0 0 n0 C0 := ⟨rfl, fun _ _ => rfl, fun k h1 h2 => by omega⟩
theorem bdA_no {V : Nat → Int32} {Lv : Nat → Bool} {w : Int32} {n0 : Nat} {C0 : Nat → Int32} {p n : Nat} {C : Nat → Int32} (h : bdA V Lv w n0 C0 p n C) (hp : ¬ (Lv p = true ∧ V p = w)) : bdA V Lv w n0 C0 (p + 1) n C := by
  refine ⟨?_, h.2⟩
  rw [ct_f (P := fun q => Lv q && decide (V q = w)) (by
    cases hl : Lv p with
    | false => rfl
    | true => exact (by rw [decide_eq_false (fun z => hp ⟨hl, z⟩)]; rfl))]
  exact h.1
theorem bdA_yes {V : Nat → Int32} {Lv : Nat → Bool} {w : Int32} {n0 : Nat} {C0 : Nat → Int32} {p n : Nat} {C : Nat → Int32} (h : bdA V Lv w n0 C0 p n C) (hl : Lv p = true) (hv : V p = w) : bdA V Lv w n0 C0 (p + 1) (n + 1) (va_up C n (V p)) := by
  obtain ⟨h1, h2, h3⟩ := h
  refine ⟨?_, fun k hk => ?_, fun k hk hk2 => ?_⟩
  · rw [ct_t (P := fun q => Lv q && decide (V q = w)) (by rw [hl, decide_eq_true hv]; rfl)]
    omega
  · rw [up_n (by omega)]
    exact h2 k hk
  · by_cases e : k = n
    · rw [e, up_s]; exact hv
    · rw [up_n e]
      exact h3 k hk (by omega)
theorem bdA_end {V : Nat → Int32} {Lv : Nat → Bool} {z : Int} {n0 : Nat} {C0 : Nat → Int32} {w : Int32} {n : Nat} {C : Nat → Int32} (h : bdI V Lv z n0 C0) (hw : z < w.toInt) (hl : ∀ r, r < 1023 → Lv r = true → z < (V r).toInt → w.toInt ≤ (V r).toInt) (hA : bdA V Lv w n0 C0 1023 n C) : bdI V Lv w.toInt n C := by
  obtain ⟨h1, h2, h3, h4⟩ := h
  obtain ⟨a1, a2, a3⟩ := hA
  -- what is at most w: at most z, or w itself
  have e1 : ∀ p, p < 1023 → lez V Lv w.toInt p = (lez V Lv z p || (Lv p && decide (V p = w))) := by
    intro p hp
    unfold lez
    cases hlp : Lv p with
    | false => rfl
    | true =>
      rw [Bool.true_and, Bool.true_and, Bool.true_and]
      by_cases q : (V p).toInt ≤ z
      · rw [decide_eq_true q, decide_eq_true (show (V p).toInt ≤ w.toInt by omega), Bool.true_or]
      · rw [decide_eq_false q, Bool.false_or]
        have hge := hl p hp hlp (by omega)
        by_cases q2 : V p = w
        · rw [decide_eq_true q2, q2, decide_eq_true (Int.le_refl _)]
        · rw [decide_eq_false q2]
          exact decide_eq_false (fun q3 => q2 (Int32.toInt_inj.mp (by omega)))
  have d1 : ∀ p, p < 1023 → ¬ (lez V Lv z p = true ∧ (Lv p && decide (V p = w)) = true) := by
    intro p _ ⟨q1, q2⟩
    unfold lez at q1
    rw [Bool.and_eq_true, decide_eq_true_eq] at q1 q2
    have := q1.2
    rw [q2.2] at this
    omega
  have en : n = fb_ct (lez V Lv w.toInt) 1023 := by rw [fb_ct_cong e1, fb_ct_or d1, ← h1, a1]
  have hall : ∀ k, k < n → (C k).toInt ≤ w.toInt := by
    intro k hk
    rcases Nat.lt_or_ge k n0 with q | q
    · rw [a2 k q]
      have := h3 k q
      omega
    · rw [a3 k q hk]
      exact Int.le_refl _
  refine ⟨en, fun k hk => ?_, hall, fun v => ?_⟩
  · rcases Nat.lt_or_ge (k + 1) n0 with q | q
    · rw [a2 k (by omega), a2 (k + 1) q]
      exact h2 k q
    · rw [a3 (k + 1) q hk, Int32.le_iff_toInt_le]
      exact hall k (by omega)
  · -- counts
    have hnn : n0 ≤ n := by omega
    have c1 := fb_ct_split (fun q => decide (C q ≤ v)) n0 (n - n0)
    rw [Nat.add_sub_cancel' hnn] at c1
    have c2 : fb_ct (fun q => decide (C q ≤ v)) n0 = fb_ct (fun q => decide (C0 q ≤ v)) n0 := fb_ct_cong (fun k hk => by rw [a2 k hk])
    have c3 : fb_ct (fun q => decide (C (n0 + q) ≤ v)) (n - n0) = if w ≤ v then n - n0 else 0 := by
      by_cases q : w ≤ v
      · rw [if_pos q]
        exact fb_ct_all.mpr (fun k hk => decide_eq_true (by rw [a3 (n0 + k) (by omega) (by omega)]; exact q))
      · rw [if_neg q]
        exact fb_ct_zero.mpr (fun k hk => decide_eq_false (by rw [a3 (n0 + k) (by omega) (by omega)]; exact q))
    rw [c1, c2, c3, h4 v]
    have e2 : ∀ p, p < 1023 → (leq V Lv v p && decide ((V p).toInt ≤ w.toInt)) = ((leq V Lv v p && decide ((V p).toInt ≤ z)) || (Lv p && decide (V p = w) && decide (w ≤ v))) := by
      intro p hp
      unfold leq
      cases hlp : Lv p with
      | false => rfl
      | true =>
        rw [Bool.true_and, Bool.true_and]
        by_cases q : (V p).toInt ≤ z
        · rw [decide_eq_true q, decide_eq_true (show (V p).toInt ≤ w.toInt by omega), Bool.and_true]
          have q2 : ¬ V p = w := fun e => by rw [e] at q; omega
          rw [decide_eq_false q2, Bool.false_and, Bool.or_false]
        · rw [decide_eq_false q, Bool.and_false, Bool.false_or]
          have hge := hl p hp hlp (by omega)
          by_cases q2 : V p = w
          · rw [decide_eq_true q2, q2, decide_eq_true (Int.le_refl _), Bool.and_true, Bool.true_and]
          · have q4 : decide ((V p).toInt ≤ w.toInt) = false := decide_eq_false (fun q3 => q2 (Int32.toInt_inj.mp (by omega)))
            rw [decide_eq_false q2, Bool.false_and, q4, Bool.and_false]
    have d2 : ∀ p, p < 1023 → ¬ ((leq V Lv v p && decide ((V p).toInt ≤ z)) = true ∧ (Lv p && decide (V p = w) && decide (w ≤ v)) = true) := by
      intro p _ ⟨q1, q2⟩
      rw [Bool.and_eq_true, decide_eq_true_eq] at q1
      rw [Bool.and_eq_true, Bool.and_eq_true, decide_eq_true_eq] at q2
      have := q1.2
      rw [q2.1.2] at this
      omega
    rw [fb_ct_cong e2, fb_ct_or d2]
    congr 1
    have hm : n - n0 = fb_ct (fun q => Lv q && decide (V q = w)) 1023 := by omega
    by_cases q : w ≤ v
    · rw [if_pos q, hm]
      exact fb_ct_cong (fun p _ => by rw [decide_eq_true q, Bool.and_true])
    · rw [if_neg q]
      exact (fb_ct_zero.mpr (fun p _ => by rw [decide_eq_false q, Bool.and_false])).symm
/-- all are gathered -/
theorem bdI_end {V : Nat → Int32} {Lv : Nat → Bool} {z : Int} {n : Nat} {C : Nat → Int32} (h : bdI V Lv z n C) (hn : fb_ct Lv 1023 ≤ n) : n = fb_ct Lv 1023 ∧ srt C n ∧ ∀ v : Int32, fb_ct (fun q => decide (C q ≤ v)) n = fb_ct (leq V Lv v) 1023 := by
  obtain ⟨h1, h2, h3, h4⟩ := h
  have hle : fb_ct (lez V Lv z) 1023 ≤ fb_ct Lv 1023 := fb_ct_sub (fun p _ hp => by
    unfold lez at hp
    rw [Bool.and_eq_true] at hp
    exact hp.1)
  have hee : fb_ct (lez V Lv z) 1023 = fb_ct Lv 1023 := by omega
  -- none lives above z
  have hno : fb_ct (fun p => Lv p && !decide ((V p).toInt ≤ z)) 1023 = 0 := by
    have : fb_ct Lv 1023 = fb_ct (lez V Lv z) 1023 + fb_ct (fun p => Lv p && !decide ((V p).toInt ≤ z)) 1023 := by
      rw [← fb_ct_or]
      · refine fb_ct_cong (fun p _ => ?_)
        unfold lez
        cases Lv p <;> cases decide ((V p).toInt ≤ z) <;> rfl
      · intro p _ ⟨q1, q2⟩
        unfold lez at q1
        rw [Bool.and_eq_true] at q1 q2
        rw [q1.2] at q2
        exact absurd q2.2 (by decide)
    omega
  refine ⟨by omega, h2, fun v => ?_⟩
  rw [h4 v]
  refine fb_ct_cong (fun p hp => ?_)
  have := fb_ct_zero.mp hno p hp
  unfold leq
  cases hl : Lv p with
  | false => rfl
  | true =>
    rw [hl, Bool.true_and] at this
    have hz : decide ((V p).toInt ≤ z) = true := by
      cases hd : decide ((V p).toInt ≤ z) with
      | true => rfl
      | false => rw [hd] at this; exact absurd this (by decide)
    rw [hz, Bool.and_true]
end
section
/-! rows over the kit's rows: numbers stand as nI n, booleans as bI b, what may be one below zero as mI n -/
set_option maxRecDepth 100000
def bI (b : Bool) : Int32 := if b then 1 else 0
def mI (n : Nat) : Int32 := nI n - 1
def zF (B : Nat → Bool) : Nat → Int32 := fun k => bI (B k)
def nF (L : Nat → Nat) : Nat → Int32 := fun k => nI (L k)
theorem mI_succ (n : Nat) : mI (n + 1) = nI n := nI_pred n
theorem mI_neg : mI 0 < 0 := by decide +kernel
theorem bI_ne0 : ¬ bI true = 0 := by decide +kernel
theorem bI_eq0 : bI false = 0 := rfl
theorem bI_inj {a b : Bool} (h : bI a = bI b) : a = b := by
  cases a <;> cases b <;> first | rfl | (exact absurd h (by decide +kernel))
theorem bI_nar (b : Bool) : narrow .boolean (.int (bI b)) = .int (bI b) := by
  cases b <;> rfl
theorem bI_vnar (b : Bool) : vp_nar .boolean (bI b) = bI b := by
  cases b <;> rfl
theorem rr_inc (n : Nat) : nI n + Int32.ofInt 1 = nI (n + 1) := by
  rw [show Int32.ofInt 1 = (1 : Int32) from by decide +kernel]
  exact nI_1 n
theorem rr_dec (n : Nat) : nI n + Int32.ofInt (-1) = mI n := by
  rw [show Int32.ofInt (-1) = (-1 : Int32) from by decide +kernel]
  unfold mI
  rw [Int32.sub_eq_add_neg]
theorem rr_shl : ∀ i, i < 31 → nI 1 <<< (nI i &&& 31) = nI (2 ^ i) := by decide +kernel
theorem rr_sm : ∀ i, i < 31 → ((nI i &&& 31).toBitVec.smod 32).toNat = i := by decide +kernel
theorem rr_shr {n i : Nat} (h : n < 2147483648) (hi : i < 31) : nI n >>> (nI i &&& 31) = nI (n / 2 ^ i) := pk_shrN h _ i (rr_sm i hi)
theorem rr_shr1 {n : Nat} (h : n < 2147483648) : nI n >>> (nI 1 &&& 31) = nI (n / 2) := by
  have := rr_shr (i := 1) h (by decide)
  rwa [Nat.pow_one] at this
theorem rr_and1 {n : Nat} (h : n < 2147483648) : nI n &&& nI 1 = nI (n % 2) := by
  have := pk_andN (n := n) (by omega) (m := 1) 1 (by decide +kernel)
  rw [Nat.pow_one] at this
  exact this
theorem rr_pow {i : Nat} (h : i < 10) : 1 ≤ 2 ^ i ∧ 2 ^ i ≤ 512 := ⟨Nat.two_pow_pos i, by
  have : 2 ^ i ≤ 2 ^ 9 := Nat.pow_le_pow_right (by decide) (by omega)
  omega⟩
theorem rr_up_z (B : Nat → Bool) (k : Nat) (b : Bool) : upd (zF B) k (bI b) = zF (va_up B k b) := by
  funext j
  unfold upd zF va_up
  by_cases h : j = k
  · rw [if_pos h, if_pos h]
  · rw [if_neg h, if_neg h]
theorem rr_up_n (L : Nat → Nat) (k v : Nat) : upd (nF L) k (nI v) = nF (va_up L k v) := by
  funext j
  unfold upd nF va_up
  by_cases h : j = k
  · rw [if_pos h, if_pos h]
  · rw [if_neg h, if_neg h]
section RR
variable {p : Program} {l : Launch} {e : Env} {R : Room} {s : State} {m : MethodId} {args : Array Value} {below : List Frame} {meth : Method} {c : Code} {H : Heap} {locs : List Loc} {cells slots : Nat} {Q : State → Prop}
variable {cc : ByteArray} {pc : Nat} {ls : Array Slot} {rest : List Value}
theorem rr_eqi {x y : Int32} (h : x = y) (k : W p l e R s m args below meth c H locs cells slots Q (F0 m pc ls (.int y :: rest))) : W p l e R s m args below meth c H locs cells slots Q (F0 m pc ls (.int x :: rest)) := by
  rw [h]; exact k
theorem rr_nadd (hx : p.tables.exec = Jvm.exec) (hb : c.code = cc) {a b : Nat} (hd : decode cc pc = .ok (.iadd, 1)) (k : W p l e R s m args below meth c H locs cells slots Q (F0 m (pc + 1) ls (.int (nI (a + b)) :: rest))) : W p l e R s m args below meth c H locs cells slots Q (F0 m pc ls (.int (nI b) :: .int (nI a) :: rest)) := lv_iadd hx hb hd (rr_eqi (nI_add a b) k)
theorem rr_nsub (hx : p.tables.exec = Jvm.exec) (hb : c.code = cc) {a b : Nat} (hd : decode cc pc = .ok (.isub, 1)) (h : b ≤ a) (k : W p l e R s m args below meth c H locs cells slots Q (F0 m (pc + 1) ls (.int (nI (a - b)) :: rest))) : W p l e R s m args below meth c H locs cells slots Q (F0 m pc ls (.int (nI b) :: .int (nI a) :: rest)) := lv_isub hx hb hd (rr_eqi (pk_sub h) k)
theorem rr_nsub1 (hx : p.tables.exec = Jvm.exec) (hb : c.code = cc) {a : Nat} (hd : decode cc pc = .ok (.isub, 1)) (k : W p l e R s m args below meth c H locs cells slots Q (F0 m (pc + 1) ls (.int (mI a) :: rest))) : W p l e R s m args below meth c H locs cells slots Q (F0 m pc ls (.int (nI 1) :: .int (nI a) :: rest)) := lv_isub hx hb hd k
theorem rr_npred (hx : p.tables.exec = Jvm.exec) (hb : c.code = cc) {a : Nat} (hd : decode cc pc = .ok (.isub, 1)) (k : W p l e R s m args below meth c H locs cells slots Q (F0 m (pc + 1) ls (.int (nI a) :: rest))) : W p l e R s m args below meth c H locs cells slots Q (F0 m pc ls (.int (nI 1) :: .int (nI (a + 1)) :: rest)) := lv_isub hx hb hd (rr_eqi (nI_pred a) k)
theorem rr_nmul (hx : p.tables.exec = Jvm.exec) (hb : c.code = cc) {a b : Nat} (hd : decode cc pc = .ok (.imul, 1)) (k : W p l e R s m args below meth c H locs cells slots Q (F0 m (pc + 1) ls (.int (nI (a * b)) :: rest))) : W p l e R s m args below meth c H locs cells slots Q (F0 m pc ls (.int (nI b) :: .int (nI a) :: rest)) := lv_imul hx hb hd (rr_eqi (pk_mul a b) k)
theorem rr_shl1 (hx : p.tables.exec = Jvm.exec) (hb : c.code = cc) {i : Nat} (hd : decode cc pc = .ok (.ishl, 1)) (hi : i < 31) (k : W p l e R s m args below meth c H locs cells slots Q (F0 m (pc + 1) ls (.int (nI (2 ^ i)) :: rest))) : W p l e R s m args below meth c H locs cells slots Q (F0 m pc ls (.int (nI i) :: .int (nI 1) :: rest)) := lv_ishl hx hb hd (rr_eqi (rr_shl i hi) k)
theorem rr_nshr (hx : p.tables.exec = Jvm.exec) (hb : c.code = cc) {n i : Nat} (hd : decode cc pc = .ok (.ishr, 1)) (hn : n < 2147483648) (hi : i < 31) (k : W p l e R s m args below meth c H locs cells slots Q (F0 m (pc + 1) ls (.int (nI (n / 2 ^ i)) :: rest))) : W p l e R s m args below meth c H locs cells slots Q (F0 m pc ls (.int (nI i) :: .int (nI n) :: rest)) := lv_ishr hx hb hd (rr_eqi (rr_shr hn hi) k)
theorem rr_nshr1 (hx : p.tables.exec = Jvm.exec) (hb : c.code = cc) {n : Nat} (hd : decode cc pc = .ok (.ishr, 1)) (hn : n < 2147483648) (k : W p l e R s m args below meth c H locs cells slots Q (F0 m (pc + 1) ls (.int (nI (n / 2)) :: rest))) : W p l e R s m args below meth c H locs cells slots Q (F0 m pc ls (.int (nI 1) :: .int (nI n) :: rest)) := lv_ishr hx hb hd (rr_eqi (rr_shr1 hn) k)
theorem rr_nand1 (hx : p.tables.exec = Jvm.exec) (hb : c.code = cc) {n : Nat} (hd : decode cc pc = .ok (.iand, 1)) (hn : n < 2147483648) (k : W p l e R s m args below meth c H locs cells slots Q (F0 m (pc + 1) ls (.int (nI (n % 2)) :: rest))) : W p l e R s m args below meth c H locs cells slots Q (F0 m pc ls (.int (nI 1) :: .int (nI n) :: rest)) := lv_iand hx hb hd (rr_eqi (rr_and1 hn) k)
theorem rr_ndiv2 (hx : p.tables.exec = Jvm.exec) (hb : c.code = cc) {n : Nat} (hd : decode cc pc = .ok (.idiv, 1)) (hn : n < 2147483648) (k : W p l e R s m args below meth c H locs cells slots Q (F0 m (pc + 1) ls (.int (nI (n / 2)) :: rest))) : W p l e R s m args below meth c H locs cells slots Q (F0 m pc ls (.int (nI 2) :: .int (nI n) :: rest)) := lv_idiv hx hb hd (by decide +kernel) (rr_eqi (pk_div hn (by decide) (by decide)) k)
-- branches over numbers
theorem rr_icmp_ge (hx : p.tables.exec = Jvm.exec) (hb : c.code = cc) {a b : Nat} {off : Int} {tgt : Nat} (hd : decode cc pc = .ok (.if_icmp .ge off, 3)) (ht : (pc : Int) + off = (tgt : Int)) (h1 : a < 2147483648) (h2 : b < 2147483648) (kt : b ≤ a → W p l e R s m args below meth c H locs cells slots Q (F0 m tgt ls rest)) (kf : a < b → W p l e R s m args below meth c H locs cells slots Q (F0 m (pc + 3) ls rest)) : W p l e R s m args below meth c H locs cells slots Q (F0 m pc ls (.int (nI b) :: .int (nI a) :: rest)) :=
  lv_icmp_ge hx hb hd ht (fun h => kt ((nI_leI h2 h1).mp h)) (fun h => kf (Nat.not_le.mp (fun q => h ((nI_leI h2 h1).mpr q))))
theorem rr_icmp_le (hx : p.tables.exec = Jvm.exec) (hb : c.code = cc) {a b : Nat} {off : Int} {tgt : Nat} (hd : decode cc pc = .ok (.if_icmp .le off, 3)) (ht : (pc : Int) + off = (tgt : Int)) (h1 : a < 2147483648) (h2 : b < 2147483648) (kt : a ≤ b → W p l e R s m args below meth c H locs cells slots Q (F0 m tgt ls rest)) (kf : b < a → W p l e R s m args below meth c H locs cells slots Q (F0 m (pc + 3) ls rest)) : W p l e R s m args below meth c H locs cells slots Q (F0 m pc ls (.int (nI b) :: .int (nI a) :: rest)) :=
  lv_icmp_le hx hb hd ht (fun h => kt ((nI_leI h1 h2).mp h)) (fun h => kf (Nat.not_le.mp (fun q => h ((nI_leI h1 h2).mpr q))))
theorem rr_icmp_ne (hx : p.tables.exec = Jvm.exec) (hb : c.code = cc) {a b : Nat} {off : Int} {tgt : Nat} (hd : decode cc pc = .ok (.if_icmp .ne off, 3)) (ht : (pc : Int) + off = (tgt : Int)) (h1 : a < 2147483648) (h2 : b < 2147483648) (kt : a ≠ b → W p l e R s m args below meth c H locs cells slots Q (F0 m tgt ls rest)) (kf : a = b → W p l e R s m args below meth c H locs cells slots Q (F0 m (pc + 3) ls rest)) : W p l e R s m args below meth c H locs cells slots Q (F0 m pc ls (.int (nI b) :: .int (nI a) :: rest)) :=
  lv_icmp_ne hx hb hd ht (fun h => kt (fun q => h ((nI_eq h1 h2).mpr q))) (fun h => kf ((nI_eq h1 h2).mp h))
theorem rr_icmp_eq (hx : p.tables.exec = Jvm.exec) (hb : c.code = cc) {a b : Nat} {off : Int} {tgt : Nat} (hd : decode cc pc = .ok (.if_icmp .eq off, 3)) (ht : (pc : Int) + off = (tgt : Int)) (h1 : a < 2147483648) (h2 : b < 2147483648) (kt : a = b → W p l e R s m args below meth c H locs cells slots Q (F0 m tgt ls rest)) (kf : a ≠ b → W p l e R s m args below meth c H locs cells slots Q (F0 m (pc + 3) ls rest)) : W p l e R s m args below meth c H locs cells slots Q (F0 m pc ls (.int (nI b) :: .int (nI a) :: rest)) :=
  lv_icmp_eq hx hb hd ht (fun h => kt ((nI_eq h1 h2).mp h)) (fun h => kf (fun q => h ((nI_eq h1 h2).mpr q)))
theorem rr_if_le (hx : p.tables.exec = Jvm.exec) (hb : c.code = cc) {a : Nat} {off : Int} {tgt : Nat} (hd : decode cc pc = .ok (.ifCond .le off, 3)) (ht : (pc : Int) + off = (tgt : Int)) (h1 : a < 2147483648) (kt : a = 0 → W p l e R s m args below meth c H locs cells slots Q (F0 m tgt ls rest)) (kf : 0 < a → W p l e R s m args below meth c H locs cells slots Q (F0 m (pc + 3) ls rest)) : W p l e R s m args below meth c H locs cells slots Q (F0 m pc ls (.int (nI a) :: rest)) :=
  lv_if_le hx hb hd ht (fun h => kt (by
    rcases Nat.eq_zero_or_pos a with q | q
    · exact q
    · exact absurd h (nI_nle q h1))) (fun h => kf (by
    rcases Nat.eq_zero_or_pos a with q | q
    · exact absurd (by rw [q]; decide +kernel) h
    · exact q))
theorem rr_if_ne (hx : p.tables.exec = Jvm.exec) (hb : c.code = cc) {a : Nat} {off : Int} {tgt : Nat} (hd : decode cc pc = .ok (.ifCond .ne off, 3)) (ht : (pc : Int) + off = (tgt : Int)) (h1 : a < 2147483648) (kt : a ≠ 0 → W p l e R s m args below meth c H locs cells slots Q (F0 m tgt ls rest)) (kf : a = 0 → W p l e R s m args below meth c H locs cells slots Q (F0 m (pc + 3) ls rest)) : W p l e R s m args below meth c H locs cells slots Q (F0 m pc ls (.int (nI a) :: rest)) :=
  lv_if_ne hx hb hd ht (fun h => kt (fun q => h (by rw [q]; rfl))) (fun h => kf (by
    rcases Nat.eq_zero_or_pos a with q | q
    · exact q
    · exact absurd h (nI_ne0 q h1)))
theorem rr_if_lt_n (hx : p.tables.exec = Jvm.exec) (hb : c.code = cc) {a : Nat} {off : Int} {tgt : Nat} (hd : decode cc pc = .ok (.ifCond .lt off, 3)) (ht : (pc : Int) + off = (tgt : Int)) (h1 : a < 2147483648) (kf : W p l e R s m args below meth c H locs cells slots Q (F0 m (pc + 3) ls rest)) : W p l e R s m args below meth c H locs cells slots Q (F0 m pc ls (.int (nI a) :: rest)) :=
  lv_if_lt hx hb hd ht (fun h => absurd h (nI_pos h1)) (fun _ => kf)
theorem rr_if_lt_m (hx : p.tables.exec = Jvm.exec) (hb : c.code = cc) {off : Int} {tgt : Nat} (hd : decode cc pc = .ok (.ifCond .lt off, 3)) (ht : (pc : Int) + off = (tgt : Int)) (kt : W p l e R s m args below meth c H locs cells slots Q (F0 m tgt ls rest)) : W p l e R s m args below meth c H locs cells slots Q (F0 m pc ls (.int (mI 0) :: rest)) :=
  lv_if_lt hx hb hd ht (fun _ => kt) (fun h => absurd mI_neg h)
theorem rr_ifeq_b (hx : p.tables.exec = Jvm.exec) (hb : c.code = cc) {b : Bool} {off : Int} {tgt : Nat} (hd : decode cc pc = .ok (.ifCond .eq off, 3)) (ht : (pc : Int) + off = (tgt : Int)) (kt : b = false → W p l e R s m args below meth c H locs cells slots Q (F0 m tgt ls rest)) (kf : b = true → W p l e R s m args below meth c H locs cells slots Q (F0 m (pc + 3) ls rest)) : W p l e R s m args below meth c H locs cells slots Q (F0 m pc ls (.int (bI b) :: rest)) :=
  lv_if_eq hx hb hd ht (fun h => kt (by cases b; rfl; exact absurd h bI_ne0)) (fun h => kf (by cases b; exact absurd bI_eq0 h; rfl))
theorem rr_ifne_b (hx : p.tables.exec = Jvm.exec) (hb : c.code = cc) {b : Bool} {off : Int} {tgt : Nat} (hd : decode cc pc = .ok (.ifCond .ne off, 3)) (ht : (pc : Int) + off = (tgt : Int)) (kt : b = true → W p l e R s m args below meth c H locs cells slots Q (F0 m tgt ls rest)) (kf : b = false → W p l e R s m args below meth c H locs cells slots Q (F0 m (pc + 3) ls rest)) : W p l e R s m args below meth c H locs cells slots Q (F0 m pc ls (.int (bI b) :: rest)) :=
  lv_if_ne hx hb hd ht (fun h => kt (by cases b; exact absurd bI_eq0 h; rfl)) (fun h => kf (by cases b; rfl; exact absurd h bI_ne0))
theorem rr_lcmp_ge (hx : p.tables.exec = Jvm.exec) (hb : c.code = cc) {x y : Int64} {off : Int} {tgt : Nat} (hd : decode cc pc = .ok (.lcmp, 1)) (hd2 : decode cc (pc + 1) = .ok (.ifCond .ge off, 3)) (ht : ((pc + 1 : Nat) : Int) + off = (tgt : Int)) (kt : y ≤ x → W p l e R s m args below meth c H locs cells slots Q (F0 m tgt ls rest)) (kf : ¬ y ≤ x → W p l e R s m args below meth c H locs cells slots Q (F0 m (pc + 4) ls rest)) : W p l e R s m args below meth c H locs cells slots Q (F0 m pc ls (.long y :: .long x :: rest)) :=
  W.lcmp hx hb hd (lv_if_ge hx hb hd2 ht (fun h => kt ((lg_cmp_ge x y).mp h)) (fun h => kf (fun q => h ((lg_cmp_ge x y).mpr q))))
theorem rr_lcmp_le (hx : p.tables.exec = Jvm.exec) (hb : c.code = cc) {x y : Int64} {off : Int} {tgt : Nat} (hd : decode cc pc = .ok (.lcmp, 1)) (hd2 : decode cc (pc + 1) = .ok (.ifCond .le off, 3)) (ht : ((pc + 1 : Nat) : Int) + off = (tgt : Int)) (kt : x ≤ y → W p l e R s m args below meth c H locs cells slots Q (F0 m tgt ls rest)) (kf : ¬ x ≤ y → W p l e R s m args below meth c H locs cells slots Q (F0 m (pc + 4) ls rest)) : W p l e R s m args below meth c H locs cells slots Q (F0 m pc ls (.long y :: .long x :: rest)) :=
  W.lcmp hx hb hd (lv_if_le hx hb hd2 ht (fun h => kt ((lg_cmp_le x y).mp h)) (fun h => kf (fun q => h ((lg_cmp_le x y).mpr q))))
theorem rr_lcmp_ne (hx : p.tables.exec = Jvm.exec) (hb : c.code = cc) {x y : Int64} {off : Int} {tgt : Nat} (hd : decode cc pc = .ok (.lcmp, 1)) (hd2 : decode cc (pc + 1) = .ok (.ifCond .ne off, 3)) (ht : ((pc + 1 : Nat) : Int) + off = (tgt : Int)) (kt : ¬ x = y → W p l e R s m args below meth c H locs cells slots Q (F0 m tgt ls rest)) (kf : x = y → W p l e R s m args below meth c H locs cells slots Q (F0 m (pc + 4) ls rest)) : W p l e R s m args below meth c H locs cells slots Q (F0 m pc ls (.long y :: .long x :: rest)) :=
  W.lcmp hx hb hd (lv_if_ne hx hb hd2 ht (fun h => kt (fun q => h ((lg_cmp_eq x y).mpr q))) (fun h => kf ((lg_cmp_eq x y).mp h)))
-- arrays, by numbers
variable {D : va_G} {cl : List vw_C} {A : Nat → Prop} {a : Nat} {tys : List (ClassId × FieldType)} {ws : va_W} {H0 : Heap}
theorem rr_iald (hx : p.tables.exec = Jvm.exec) (hb : c.code = cc) (hK : va_K D cl tys s) (hP : va_P D cl ws H) (q0 t0 : Nat) {cA : ClassId} {n : Nat} {f : Nat → Int32} (ha : ws[q0]? = some (a, .inl (cA, n, .inl f))) (ht : tys[t0]? = some (cA, .int)) {k : Nat} (hk : k < n) (hn : n < 2147483648) (hd : decode cc pc = .ok (.iaload, 1)) (kk : W p l e R s m args below meth c H locs cells slots Q (F0 m (pc + 1) ls (.int (f k) :: rest))) : W p l e R s m args below meth c H locs cells slots Q (F0 m pc ls (.int (nI k) :: .ref a :: rest)) :=
  va_iald hx hb hK hP q0 t0 ha ht (vp_in_nI hk hn) hd (by rw [nI_clamp (by omega)]; exact kk)
theorem rr_nald (hx : p.tables.exec = Jvm.exec) (hb : c.code = cc) (hK : va_K D cl tys s) (hP : va_P D cl ws H) (q0 t0 : Nat) {cA : ClassId} {n : Nat} {L : Nat → Nat} (ha : ws[q0]? = some (a, .inl (cA, n, .inl (nF L)))) (ht : tys[t0]? = some (cA, .int)) {k : Nat} (hk : k < n) (hn : n < 2147483648) (hd : decode cc pc = .ok (.iaload, 1)) (kk : W p l e R s m args below meth c H locs cells slots Q (F0 m (pc + 1) ls (.int (nI (L k)) :: rest))) : W p l e R s m args below meth c H locs cells slots Q (F0 m pc ls (.int (nI k) :: .ref a :: rest)) :=
  rr_iald hx hb hK hP q0 t0 ha ht hk hn hd kk
theorem rr_zald (hx : p.tables.exec = Jvm.exec) (hb : c.code = cc) (hK : va_K D cl tys s) (hP : va_P D cl ws H) (q0 t0 : Nat) {cA : ClassId} {n : Nat} {B : Nat → Bool} (ha : ws[q0]? = some (a, .inl (cA, n, .inl (zF B)))) (ht : tys[t0]? = some (cA, .boolean)) {k : Nat} (hk : k < n) (hn : n < 2147483648) (hd : decode cc pc = .ok (.baload, 1)) (kk : W p l e R s m args below meth c H locs cells slots Q (F0 m (pc + 1) ls (.int (bI (B k)) :: rest))) : W p l e R s m args below meth c H locs cells slots Q (F0 m pc ls (.int (nI k) :: .ref a :: rest)) :=
  va_zald hx hb hK hP q0 t0 ha ht (vp_in_nI hk hn) hd (by rw [nI_clamp (by omega)]; exact kk)
theorem rr_iast (hx : p.tables.exec = Jvm.exec) (hb : c.code = cc) (hK : va_K D cl tys s) (hP : va_P D cl ws H) (hD : va_D A ws) (hS : va_S A H0 H locs) (q0 t0 : Nat) {cA : ClassId} {n : Nat} {f : Nat → Int32} (ha : ws[q0]? = some (a, .inl (cA, n, .inl f))) (ht : tys[t0]? = some (cA, .int)) {k : Nat} {x : Int32} (hk : k < n) (hn : n < 2147483648) (hd : decode cc pc = .ok (.iastore, 1)) (kk : ∀ (H1 : Heap) (locs1 : List Loc), va_P D cl (ws.set q0 (a, .inl (cA, n, .inl (va_up f k x)))) H1 → va_D A (ws.set q0 (a, .inl (cA, n, .inl (va_up f k x)))) → va_S A H0 H1 locs1 → W p l e R s m args below meth c H1 locs1 cells slots Q (F0 m (pc + 1) ls rest)) : W p l e R s m args below meth c H locs cells slots Q (F0 m pc ls (.int x :: .int (nI k) :: .ref a :: rest)) :=
  va_iast hx hb hK hP hD hS q0 t0 ha ht (vp_in_nI hk hn) hd (by rw [nI_clamp (by omega)]; exact kk)
theorem rr_nast (hx : p.tables.exec = Jvm.exec) (hb : c.code = cc) (hK : va_K D cl tys s) (hP : va_P D cl ws H) (hD : va_D A ws) (hS : va_S A H0 H locs) (q0 t0 : Nat) {cA : ClassId} {n : Nat} {L : Nat → Nat} (ha : ws[q0]? = some (a, .inl (cA, n, .inl (nF L)))) (ht : tys[t0]? = some (cA, .int)) {k v : Nat} (hk : k < n) (hn : n < 2147483648) (hd : decode cc pc = .ok (.iastore, 1)) (kk : ∀ (H1 : Heap) (locs1 : List Loc), va_P D cl (ws.set q0 (a, .inl (cA, n, .inl (nF (va_up L k v))))) H1 → va_D A (ws.set q0 (a, .inl (cA, n, .inl (nF (va_up L k v))))) → va_S A H0 H1 locs1 → W p l e R s m args below meth c H1 locs1 cells slots Q (F0 m (pc + 1) ls rest)) : W p l e R s m args below meth c H locs cells slots Q (F0 m pc ls (.int (nI v) :: .int (nI k) :: .ref a :: rest)) :=
  va_iast hx hb hK hP hD hS q0 t0 ha ht (vp_in_nI hk hn) hd (by rw [nI_clamp (by omega), rr_up_n]; exact kk)
theorem rr_zast (hx : p.tables.exec = Jvm.exec) (hb : c.code = cc) (hK : va_K D cl tys s) (hP : va_P D cl ws H) (hD : va_D A ws) (hS : va_S A H0 H locs) (q0 t0 : Nat) {cA : ClassId} {n : Nat} {B : Nat → Bool} (ha : ws[q0]? = some (a, .inl (cA, n, .inl (zF B)))) (ht : tys[t0]? = some (cA, .boolean)) {k : Nat} {b : Bool} (hk : k < n) (hn : n < 2147483648) (hd : decode cc pc = .ok (.bastore, 1)) (kk : ∀ (H1 : Heap) (locs1 : List Loc), va_P D cl (ws.set q0 (a, .inl (cA, n, .inl (zF (va_up B k b))))) H1 → va_D A (ws.set q0 (a, .inl (cA, n, .inl (zF (va_up B k b))))) → va_S A H0 H1 locs1 → W p l e R s m args below meth c H1 locs1 cells slots Q (F0 m (pc + 1) ls rest)) : W p l e R s m args below meth c H locs cells slots Q (F0 m pc ls (.int (bI b) :: .int (nI k) :: .ref a :: rest)) :=
  va_zast hx hb hK hP hD hS q0 t0 ha ht (vp_in_nI hk hn) hd (by rw [nI_clamp (by omega), bI_vnar, rr_up_z]; exact kk)
end RR
/-! contracts of methods that make no cells: their world w before, wf u behind -/
def cw_Pre (D : va_G) (cl : List vw_C) (tys : List (ClassId × FieldType)) (w : va_W) (sz : Nat) : State → Prop := fun U => U.heap.size = sz ∧ va_P D cl w U.heap ∧ va_K D cl tys U ∧ va_D (fun _ => True) w
def cw_Post {S : Type} (D : va_G) (cl : List vw_C) (tys : List (ClassId × FieldType)) (w : va_W) (sz : Nat) (wf : S → va_W) : S → State → Prop := fun u t => va_P D cl (wf u) t.heap ∧ va_K D cl tys t ∧ va_D (va_A w sz) (wf u)
/-- an int answer (or a boolean one) -/
def CI {S : Type} (l : Launch) (y : MethodName) (ws : List Cond) (rm : Room) (D : va_G) (cl : List vw_C) (tys : List (ClassId × FieldType)) (w : va_W) (av : List Value) (post : Int32 → S → Prop) (wf : S → va_W) : Prop :=
  ∀ sz : Nat, Met l y ws rm (va_Pc av (cw_Pre D cl tys w sz)) (va_Qi post (cw_Post D cl tys w sz wf) (va_A w sz)) 0 0 (va_A w sz)
/-- no answer -/
def CV {S : Type} (l : Launch) (y : MethodName) (ws : List Cond) (rm : Room) (D : va_G) (cl : List vw_C) (tys : List (ClassId × FieldType)) (w : va_W) (av : List Value) (post : S → Prop) (wf : S → va_W) : Prop :=
  ∀ sz : Nat, Met l y ws rm (va_Pc av (cw_Pre D cl tys w sz)) (va_Qv post (cw_Post D cl tys w sz wf) (va_A w sz)) 0 0 (va_A w sz)
theorem cw_blind {D : va_G} {cl : List vw_C} {tys : List (ClassId × FieldType)} {w : va_W} {sz : Nat} {av : List Value} : FrameBlind (va_Pc av (cw_Pre D cl tys w sz)) := fun a U g mk q => by
  obtain ⟨q0, q1, qP, qK, qD⟩ := q
  exact ⟨q0, q1, qP, va_K.moved (u := U) (U := U.calling g mk a) (Vm.Alike.refl U.vm) qK, qD⟩
/-- a part of the world moves, the rest stays -/
theorem cw_side {A0 : Nat → Prop} {D : va_G} {cl : List vw_C} {w wr w1 : va_W} {H H1 : Heap} (hP : va_P D cl (w ++ wr) H) (hD : va_D A0 (w ++ wr))
    (hk : ∀ q : Nat, q < H.size → ¬ va_A w H.size q → H1[q]? = H[q]?) (hF : ∀ q, va_A w H.size q → A0 q) (hP1 : va_P D cl w1 H1) (hD1 : va_D (va_A w H.size) w1) : va_P D cl (w1 ++ wr) H1 ∧ va_D A0 (w1 ++ wr) := by
  have hwr : ∀ (k : Nat) (q : Nat × va_E), wr[k]? = some q → (w ++ wr)[w.length + k]? = some q := fun k q h => by
    rw [List.getElem?_append_right (by omega), show w.length + k - w.length = k by omega]; exact h
  have hwl : ∀ (k : Nat) (q : Nat × va_E), w[k]? = some q → (w ++ wr)[k]? = some q := fun k q h => by
    rw [List.getElem?_append_left (List.getElem?_eq_some_iff.mp h).1]; exact h
  have apart : ∀ (k : Nat) (q : Nat × va_E), wr[k]? = some q → q.1 < H.size ∧ ¬ va_A w H.size q.1 := by
    intro k q hq
    have hl := (hP _ q (hwr k q hq)).lt
    refine ⟨hl, fun h => ?_⟩
    rcases h with ⟨k2, e, h⟩ | h
    · have := hD.1 _ _ _ _ (hwr k q hq) (hwl k2 (q.1, e) h) rfl
      have h2 := (List.getElem?_eq_some_iff.mp h).1
      omega
    · omega
  refine ⟨va_P.app hP1 (fun k q hq => ?_), va_D.app (hD1.weaken (fun k q _ h => hF q.1 h)) ⟨fun i j x y hi hj hxy => ?_, fun k q hq => hD.2 _ q (hwr k q hq)⟩ (fun i j x y hx hy hxy => ?_)⟩
  · exact (hP _ q (hwr k q hq)).kept (hk q.1 (apart k q hq).1 (apart k q hq).2)
  · have := hD.1 _ _ x y (hwr i x hi) (hwr j y hj) hxy
    omega
  · exact (apart j y hy).2 (by rw [← hxy]; exact hD1.2 i x hx)
theorem cw_swap {A0 : Nat → Prop} {D : va_G} {cl : List vw_C} {w wr : va_W} {H : Heap} (hP : va_P D cl (w ++ wr) H) (hD : va_D A0 (w ++ wr)) : va_P D cl (wr ++ w) H ∧ va_D A0 (wr ++ w) := by
  have hwr : ∀ (k : Nat) (q : Nat × va_E), wr[k]? = some q → (w ++ wr)[w.length + k]? = some q := fun k q h => by
    rw [List.getElem?_append_right (by omega), show w.length + k - w.length = k by omega]; exact h
  have hwl : ∀ (k : Nat) (q : Nat × va_E), w[k]? = some q → (w ++ wr)[k]? = some q := fun k q h => by
    rw [List.getElem?_append_left (List.getElem?_eq_some_iff.mp h).1]; exact h
  refine ⟨va_P.app (fun k q hq => hP _ q (hwr k q hq)) (fun k q hq => hP _ q (hwl k q hq)), va_D.app ⟨fun i j x y hi hj hxy => ?_, fun k q hq => hD.2 _ q (hwr k q hq)⟩ ⟨fun i j x y hi hj hxy => hD.1 _ _ x y (hwl i x hi) (hwl j y hj) hxy, fun k q hq => hD.2 _ q (hwl k q hq)⟩ (fun i j x y hx hy hxy => ?_)⟩
  · have := hD.1 _ _ x y (hwr i x hi) (hwr j y hj) hxy
    omega
  · have h1 := hD.1 _ _ x y (hwr i x hx) (hwl j y hy) hxy
    have h2 := (List.getElem?_eq_some_iff.mp hy).1
    omega
theorem cw_left {A0 : Nat → Prop} {D : va_G} {cl : List vw_C} {w wr : va_W} {H : Heap} (hP : va_P D cl (w ++ wr) H) (hD : va_D A0 (w ++ wr)) : va_P D cl w H ∧ va_D A0 w := by
  have hwl : ∀ (k : Nat) (q : Nat × va_E), w[k]? = some q → (w ++ wr)[k]? = some q := fun k q h => by
    rw [List.getElem?_append_left (List.getElem?_eq_some_iff.mp h).1]; exact h
  exact ⟨fun k q hq => hP _ q (hwl k q hq), fun i j x y hi hj hxy => hD.1 _ _ x y (hwl i x hi) (hwl j y hj) hxy, fun k q hq => hD.2 _ q (hwl k q hq)⟩
theorem cw_free {A0 : Nat → Prop} {w wr : va_W} {H0 H : Heap} {locs : List Loc} (hD : va_D A0 (w ++ wr)) (hS : va_S A0 H0 H locs) (hA : ∀ q, H0.size ≤ q → A0 q) : ∀ q, va_A w H.size q → A0 q := by
  intro q h
  rcases h with ⟨k, e, h⟩ | h
  · exact hD.2 k (q, e) (by rw [List.getElem?_append_left (List.getElem?_eq_some_iff.mp h).1]; exact h)
  · exact hA q (Nat.le_trans hS.1 h)
section CWc
variable {p : Program} {l : Launch} {e : Env} {R : Room} {s : State} {m : MethodId} {args : Array Value} {below : List Frame} {meth : Method} {c : Code} {H : Heap} {locs : List Loc} {cells slots : Nat} {Q : State → Prop}
variable {cc : ByteArray} {pc : Nat} {ls : Array Slot} {rest st : List Value} {D : va_G} {cl : List vw_C} {A : Nat → Prop} {tys tysc : List (ClassId × FieldType)} {w wr : va_W} {H0 : Heap}
variable {y : MethodName} {bytes : ByteArray} {maxL nL n index : Nat} {ret : Option FieldType} {ws : List Cond} {rm : Room} {Ts : List Cond} {own C : String} {b : Nat} {As : List Value}
/-- a call through an object of an int method: its world w moves to wf u, what stands beside stays -/
theorem cw_calli {S : Type} {post : Int32 → S → Prop} {wf : S → va_W} (F : CallFix p m c cc nL s args Ts own) (hM : CI l y ws rm D cl tysc w (.ref b :: As) post wf) (cw : CallW R s args own C index y bytes maxL ret ws rm 0 0 n) (hK : va_K D cl tysc s) (hP : va_P D cl (w ++ wr) H) (hD : va_D A (w ++ wr)) (hS : va_S A H0 H locs) (hA : ∀ q, H0.size ≤ q → A q) {ci : Nat} {fs : List Value} {T : u_T} {N : Nat} (he : w[0]? = some (b, .inr (ci, fs))) (hc : cl[ci]? = some (C, T, N))
    (hn : As.length = n) (hsize : ls.size = nL) (hstack : st = As.reverse ++ .ref b :: rest) (hW : (rest.map fun v => v.category).sum ≤ 8) (hdg : decode cc pc = .ok (.invokevirtual index, 3)) (hf : cells ≤ R.cells ∧ slots ≤ R.slots)
    (kk : ∀ (r : Int32) (u : S) (H1 : Heap) (locs1 : List Loc), post r u → va_P D cl (wf u ++ wr) H1 → va_D A (wf u ++ wr) → va_S A H0 H1 locs1 → W p l e R s m args below meth c H1 locs1 cells slots Q (F0 m (pc + 3) ls (.int r :: rest))) : W p l e R s m args below meth c H locs cells slots Q (F0 m pc ls st) := by
  have hFc := cw_free hD hS hA
  have hL := cw_left hP hD
  refine va_calli (va_runV (b := b) (As := As) (rest := rest) F (hM H.size) cw ⟨cw_blind, va_recv hK hL.1 hc he, fun U hU hW => ⟨rfl, by rw [hU], by rw [hU]; exact hL.1, va_K.moved hW.alike hK, hL.2.weaken (fun _ _ _ _ => trivial)⟩⟩ rfl hn hsize hstack (lv_room hW) hdg hf) hS (fun q _ h => hFc q h) hFc (fun r u t H1 locs1 ht hvm hpo hB hz1 hk1 hS1 => ?_)
  obtain ⟨hP1, hK1, hD1⟩ := hB
  rw [ht] at hP1
  obtain ⟨hP2, hD2⟩ := cw_side hP hD hk1 hFc hP1 hD1
  exact kk r u H1 locs1 hpo hP2 hD2 hS1
theorem cw_callv {S : Type} {post : S → Prop} {wf : S → va_W} (F : CallFix p m c cc nL s args Ts own) (hM : CV l y ws rm D cl tysc w (.ref b :: As) post wf) (cw : CallW R s args own C index y bytes maxL ret ws rm 0 0 n) (hK : va_K D cl tysc s) (hP : va_P D cl (w ++ wr) H) (hD : va_D A (w ++ wr)) (hS : va_S A H0 H locs) (hA : ∀ q, H0.size ≤ q → A q) {ci : Nat} {fs : List Value} {T : u_T} {N : Nat} (he : w[0]? = some (b, .inr (ci, fs))) (hc : cl[ci]? = some (C, T, N))
    (hn : As.length = n) (hsize : ls.size = nL) (hstack : st = As.reverse ++ .ref b :: rest) (hW : (rest.map fun v => v.category).sum ≤ 8) (hdg : decode cc pc = .ok (.invokevirtual index, 3)) (hf : cells ≤ R.cells ∧ slots ≤ R.slots)
    (kk : ∀ (u : S) (H1 : Heap) (locs1 : List Loc), post u → va_P D cl (wf u ++ wr) H1 → va_D A (wf u ++ wr) → va_S A H0 H1 locs1 → W p l e R s m args below meth c H1 locs1 cells slots Q (F0 m (pc + 3) ls rest)) : W p l e R s m args below meth c H locs cells slots Q (F0 m pc ls st) := by
  have hFc := cw_free hD hS hA
  have hL := cw_left hP hD
  refine va_callv (va_runV (b := b) (As := As) (rest := rest) F (hM H.size) cw ⟨cw_blind, va_recv hK hL.1 hc he, fun U hU hW => ⟨rfl, by rw [hU], by rw [hU]; exact hL.1, va_K.moved hW.alike hK, hL.2.weaken (fun _ _ _ _ => trivial)⟩⟩ rfl hn hsize hstack (lv_room hW) hdg hf) hS (fun q _ h => hFc q h) hFc (fun u t H1 locs1 ht hvm hpo hB hz1 hk1 hS1 => ?_)
  obtain ⟨hP1, hK1, hD1⟩ := hB
  rw [ht] at hP1
  obtain ⟨hP2, hD2⟩ := cw_side hP hD hk1 hFc hP1 hD1
  exact kk u H1 locs1 hpo hP2 hD2 hS1
/-- the same within the class: the whole world is the callee's -/
theorem sf_calli {S : Type} {post : Int32 → S → Prop} {wf : S → va_W} (F : CallFix p m c cc nL s args Ts own) (hM : CI l y ws rm D cl tysc w (.ref b :: As) post wf) (cw : CallW R s args own C index y bytes maxL ret ws rm 0 0 n) (hK : va_K D cl tysc s) (hP : va_P D cl w H) (hD : va_D A w) (hS : va_S A H0 H locs) (hA : ∀ q, H0.size ≤ q → A q) {ci : Nat} {fs : List Value} {T : u_T} {N : Nat} (he : w[0]? = some (b, .inr (ci, fs))) (hc : cl[ci]? = some (C, T, N))
    (hn : As.length = n) (hsize : ls.size = nL) (hstack : st = As.reverse ++ .ref b :: rest) (hW : (rest.map fun v => v.category).sum ≤ 8) (hdg : decode cc pc = .ok (.invokevirtual index, 3)) (hf : cells ≤ R.cells ∧ slots ≤ R.slots)
    (kk : ∀ (r : Int32) (u : S) (H1 : Heap) (locs1 : List Loc), post r u → va_P D cl (wf u) H1 → va_D A (wf u) → va_S A H0 H1 locs1 → W p l e R s m args below meth c H1 locs1 cells slots Q (F0 m (pc + 3) ls (.int r :: rest))) : W p l e R s m args below meth c H locs cells slots Q (F0 m pc ls st) :=
  cw_calli (wr := []) F hM cw hK (by rw [List.append_nil]; exact hP) (by rw [List.append_nil]; exact hD) hS hA he hc hn hsize hstack hW hdg hf (fun r u H1 locs1 hpo hP2 hD2 hS1 => kk r u H1 locs1 hpo (by rw [List.append_nil] at hP2; exact hP2) (by rw [List.append_nil] at hD2; exact hD2) hS1)
theorem sf_callv {S : Type} {post : S → Prop} {wf : S → va_W} (F : CallFix p m c cc nL s args Ts own) (hM : CV l y ws rm D cl tysc w (.ref b :: As) post wf) (cw : CallW R s args own C index y bytes maxL ret ws rm 0 0 n) (hK : va_K D cl tysc s) (hP : va_P D cl w H) (hD : va_D A w) (hS : va_S A H0 H locs) (hA : ∀ q, H0.size ≤ q → A q) {ci : Nat} {fs : List Value} {T : u_T} {N : Nat} (he : w[0]? = some (b, .inr (ci, fs))) (hc : cl[ci]? = some (C, T, N))
    (hn : As.length = n) (hsize : ls.size = nL) (hstack : st = As.reverse ++ .ref b :: rest) (hW : (rest.map fun v => v.category).sum ≤ 8) (hdg : decode cc pc = .ok (.invokevirtual index, 3)) (hf : cells ≤ R.cells ∧ slots ≤ R.slots)
    (kk : ∀ (u : S) (H1 : Heap) (locs1 : List Loc), post u → va_P D cl (wf u) H1 → va_D A (wf u) → va_S A H0 H1 locs1 → W p l e R s m args below meth c H1 locs1 cells slots Q (F0 m (pc + 3) ls rest)) : W p l e R s m args below meth c H locs cells slots Q (F0 m pc ls st) :=
  cw_callv (wr := []) F hM cw hK (by rw [List.append_nil]; exact hP) (by rw [List.append_nil]; exact hD) hS hA he hc hn hsize hstack hW hdg hf (fun u H1 locs1 hpo hP2 hD2 hS1 => kk u H1 locs1 hpo (by rw [List.append_nil] at hP2; exact hP2) (by rw [List.append_nil] at hD2; exact hD2) hS1)
/-- the ends -/
theorem cw_iret {S : Type} {post : Int32 → S → Prop} {wf : S → va_W} {v : Int32} (hx : p.tables.exec = Jvm.exec) (hb : c.code = cc) (hr : meth.sig.returnType = some .int) (hlocks : meth.locks = false) (u : S) (hpo : post v u) (hK : va_K D cl tysc s) (hP : va_P D cl (wf u) H) (hD : va_D A (wf u)) (hS : va_S A s.heap H locs) {sz : Nat} (hA : va_A w sz = A) (hd : decode cc pc = .ok (.ireturn, 1)) : W p l e R s m args below meth c H locs 0 0 (MQ below (va_Qi post (cw_Post D cl tysc w sz wf) (va_A w sz)) args s 0 0 (va_A w sz)) (F0 m pc ls [.int v]) := by
  subst hA
  exact W.iret hx hb hr (fun t ht hW => ⟨⟨v, u, rfl, hpo, by rw [ht]; exact hP, va_K.moved hW.alike hK, hD⟩, hS.F ht⟩) hS.2.2 hd hlocks
theorem cw_zret {S : Type} {post : Int32 → S → Prop} {wf : S → va_W} {v : Bool} (hx : p.tables.exec = Jvm.exec) (hb : c.code = cc) (hr : meth.sig.returnType = some .boolean) (hlocks : meth.locks = false) (u : S) (hpo : post (bI v) u) (hK : va_K D cl tysc s) (hP : va_P D cl (wf u) H) (hD : va_D A (wf u)) (hS : va_S A s.heap H locs) {sz : Nat} (hA : va_A w sz = A) (hd : decode cc pc = .ok (.ireturn, 1)) : W p l e R s m args below meth c H locs 0 0 (MQ below (va_Qi post (cw_Post D cl tysc w sz wf) (va_A w sz)) args s 0 0 (va_A w sz)) (F0 m pc ls [.int (bI v)]) := by
  subst hA
  exact W.zret hx hb hr (bI_nar v) (fun t ht hW => ⟨⟨bI v, u, rfl, hpo, by rw [ht]; exact hP, va_K.moved hW.alike hK, hD⟩, hS.F ht⟩) hS.2.2 hd hlocks
theorem cw_vret {S : Type} {post : S → Prop} {wf : S → va_W} (hx : p.tables.exec = Jvm.exec) (hb : c.code = cc) (hr : meth.sig.returnType = none) (hlocks : meth.locks = false) (u : S) (hpo : post u) (hK : va_K D cl tysc s) (hP : va_P D cl (wf u) H) (hD : va_D A (wf u)) (hS : va_S A s.heap H locs) {sz : Nat} (hA : va_A w sz = A) (hd : decode cc pc = .ok (.return_, 1)) : W p l e R s m args below meth c H locs 0 0 (MQ below (va_Qv post (cw_Post D cl tysc w sz wf) (va_A w sz)) args s 0 0 (va_A w sz)) (F0 m pc ls []) := by
  subst hA
  exact W.vret hx hb hr (fun t ht hW => ⟨⟨u, rfl, hpo, by rw [ht]; exact hP, va_K.moved hW.alike hK, hD⟩, hS.F ht⟩) hS.2.2 hd hlocks
end CWc
end
section
/-! the two worlds, the rooms, how a method's walk begins -/
set_option maxRecDepth 100000
abbrev clR : List vw_C := [(RX1, TX1, 10), (RX2, TX2, 12)]
/-- an object of the class: arena, dead, runLen, tmp, tmpDead, cap, live, total, probes, moves; ad: its cells' places, ca: their classes -/
def WX (ad : Nat → Nat) (ca : Nat → ClassId) (cp : Nat) (Ar : Nat → Int32) (De : Nat → Bool) (Ln : Nat → Nat) (Tm : Nat → Int32) (Td : Nat → Bool) (lv tt pb mv : Nat) : va_W :=
  [(ad 0, .inr (0, [.ref (ad 1), .ref (ad 2), .ref (ad 3), .ref (ad 4), .ref (ad 5), .int (nI cp), .int (nI lv), .int (nI tt), .int (nI pb), .int (nI mv)])), (ad 1, .inl (ca 1, 1024, .inl Ar)), (ad 2, .inl (ca 2, 1024, .inl (zF De))), (ad 3, .inl (ca 3, 10, .inl (nF Ln))), (ad 4, .inl (ca 4, 1024, .inl Tm)), (ad 5, .inl (ca 5, 1024, .inl (zF Td)))]
def tyX (ca : Nat → ClassId) : List (ClassId × FieldType) := [(ca 1, .int), (ca 2, .boolean), (ca 3, .int), (ca 4, .int), (ca 5, .boolean)]
/-- an object of the reference: most, value, isLive, isThere, carried, carriedLive, spare, spareLive, size, dead, moves, probes -/
def WM (ad : Nat → Nat) (ca : Nat → ClassId) (cp : Nat) (Va : Nat → Int32) (Li Th : Nat → Bool) (Ca : Nat → Int32) (Cl : Nat → Bool) (Sp : Nat → Int32) (Sl : Nat → Bool) (sz dd mv pb : Nat) : va_W :=
  [(ad 0, .inr (1, [.int (nI cp), .ref (ad 1), .ref (ad 2), .ref (ad 3), .ref (ad 4), .ref (ad 5), .ref (ad 6), .ref (ad 7), .int (nI sz), .int (nI dd), .int (nI mv), .int (nI pb)])), (ad 1, .inl (ca 1, 1024, .inl Va)), (ad 2, .inl (ca 2, 1024, .inl (zF Li))), (ad 3, .inl (ca 3, 10, .inl (zF Th))), (ad 4, .inl (ca 4, 1024, .inl Ca)), (ad 5, .inl (ca 5, 1024, .inl (zF Cl))), (ad 6, .inl (ca 6, 1024, .inl Sp)), (ad 7, .inl (ca 7, 1024, .inl (zF Sl)))]
def tyM (ca : Nat → ClassId) : List (ClassId × FieldType) := [(ca 1, .int), (ca 2, .boolean), (ca 3, .boolean), (ca 4, .int), (ca 5, .boolean), (ca 6, .int), (ca 7, .boolean)]
abbrev rq0 : Room := { frames := 0, cells := 0, slots := 0, locals := 0 }
abbrev rq1 : Room := { frames := 1, cells := 0, slots := 0, locals := 40 }
abbrev rq2 : Room := { frames := 2, cells := 0, slots := 0, locals := 80 }
abbrev rq3 : Room := { frames := 3, cells := 0, slots := 0, locals := 120 }
/-- the walk of an int method -/
theorem ci_start {S : Type} {l : Launch} {y : MethodName} {cc : ByteArray} {maxL : Nat} {rm : Room} {G : va_G} {cl : List vw_C} {tys : List (ClassId × FieldType)} {w : va_W} {av : List Value} {post : Int32 → S → Prop} {wf : S → va_W} (hy : plainName y.cls = true) (hlen : (lg_sl av).length ≤ maxL)
    (body : ∀ (p : Program) (e : Env) (s : State) (m : MethodId) (args : Array Value) (below : List Frame) (meth : Method) (c : Code) (R : Room) (Q : State → Prop) (A : Nat → Prop) (ls : Array Slot), p.tables.exec = Jvm.exec → c.code = cc → c.maxLocals = maxL → s.vm.findClass y.cls = some m.cls → (∀ w ∈ lw_all, w.before args s = true) → R = rm → (∀ q, s.heap.size ≤ q → A q) → va_K G cl tys s → va_P G cl w s.heap → va_D A w →
      (∀ (pc : Nat) (H : Heap) (locs : List Loc) (ls : Array Slot) (v : Int32) (u : S), decode cc pc = .ok (.ireturn, 1) → post v u → va_P G cl (wf u) H → va_D A (wf u) → va_S A s.heap H locs → W p l e R s m args below meth c H locs 0 0 Q (F0 m pc ls [.int v])) → lv_has ls maxL (lv_args 0 av) →
      W p l e R s m args below meth c s.heap [] 0 0 Q (F0 m 0 ls [])) : CI l y (ws_ y cc maxL (some .int)) rm G cl tys w av post wf := by
  intro sz
  refine Met.ofW (cc := cc) (maxL := maxL) (ret := some .int) hy rfl ?_
  intro p e s m args below meth c s₁ B hml hv
  obtain ⟨ha, hsz, hP, hK, hD0⟩ := hv
  subst hsz
  have hts0 := atoms_spec (ws := ws_ y cc maxL (some .int)) B.pre
  have hts : ∀ w ∈ lw_all, w.before args s = true := fun w h => hts0 w (List.mem_cons_of_mem _ h)
  have hl := lv_entry av (n := maxL) hlen
  have he := lg_entry_eq m av maxL
  rw [← ha] at he
  rw [he]
  exact body p e s m args below meth c _ _ _ _ B.exec B.bytes hml (findClass_of_methodNamed B.named) hts rfl (fun q h => Or.inr h) hK hP hD0.self (fun pc H locs ls v u hd hpo hP hD hS => cw_iret B.exec B.bytes B.returns B.notSynchronized u hpo hK hP hD hS rfl hd) hl
/-- .. of a boolean one -/
theorem cz_start {S : Type} {l : Launch} {y : MethodName} {cc : ByteArray} {maxL : Nat} {rm : Room} {G : va_G} {cl : List vw_C} {tys : List (ClassId × FieldType)} {w : va_W} {av : List Value} {post : Int32 → S → Prop} {wf : S → va_W} (hy : plainName y.cls = true) (hlen : (lg_sl av).length ≤ maxL)
    (body : ∀ (p : Program) (e : Env) (s : State) (m : MethodId) (args : Array Value) (below : List Frame) (meth : Method) (c : Code) (R : Room) (Q : State → Prop) (A : Nat → Prop) (ls : Array Slot), p.tables.exec = Jvm.exec → c.code = cc → c.maxLocals = maxL → s.vm.findClass y.cls = some m.cls → (∀ w ∈ lw_all, w.before args s = true) → R = rm → (∀ q, s.heap.size ≤ q → A q) → va_K G cl tys s → va_P G cl w s.heap → va_D A w →
      (∀ (pc : Nat) (H : Heap) (locs : List Loc) (ls : Array Slot) (v : Bool) (u : S), decode cc pc = .ok (.ireturn, 1) → post (bI v) u → va_P G cl (wf u) H → va_D A (wf u) → va_S A s.heap H locs → W p l e R s m args below meth c H locs 0 0 Q (F0 m pc ls [.int (bI v)])) → lv_has ls maxL (lv_args 0 av) →
      W p l e R s m args below meth c s.heap [] 0 0 Q (F0 m 0 ls [])) : CI l y (ws_ y cc maxL (some .boolean)) rm G cl tys w av post wf := by
  intro sz
  refine Met.ofW (cc := cc) (maxL := maxL) (ret := some .boolean) hy rfl ?_
  intro p e s m args below meth c s₁ B hml hv
  obtain ⟨ha, hsz, hP, hK, hD0⟩ := hv
  subst hsz
  have hts0 := atoms_spec (ws := ws_ y cc maxL (some .boolean)) B.pre
  have hts : ∀ w ∈ lw_all, w.before args s = true := fun w h => hts0 w (List.mem_cons_of_mem _ h)
  have hl := lv_entry av (n := maxL) hlen
  have he := lg_entry_eq m av maxL
  rw [← ha] at he
  rw [he]
  exact body p e s m args below meth c _ _ _ _ B.exec B.bytes hml (findClass_of_methodNamed B.named) hts rfl (fun q h => Or.inr h) hK hP hD0.self (fun pc H locs ls v u hd hpo hP hD hS => cw_zret B.exec B.bytes B.returns B.notSynchronized u hpo hK hP hD hS rfl hd) hl
/-- .. of one without an answer -/
theorem cv_start {S : Type} {l : Launch} {y : MethodName} {cc : ByteArray} {maxL : Nat} {rm : Room} {G : va_G} {cl : List vw_C} {tys : List (ClassId × FieldType)} {w : va_W} {av : List Value} {post : S → Prop} {wf : S → va_W} (hy : plainName y.cls = true) (hlen : (lg_sl av).length ≤ maxL)
    (body : ∀ (p : Program) (e : Env) (s : State) (m : MethodId) (args : Array Value) (below : List Frame) (meth : Method) (c : Code) (R : Room) (Q : State → Prop) (A : Nat → Prop) (ls : Array Slot), p.tables.exec = Jvm.exec → c.code = cc → c.maxLocals = maxL → s.vm.findClass y.cls = some m.cls → (∀ w ∈ lw_all, w.before args s = true) → R = rm → (∀ q, s.heap.size ≤ q → A q) → va_K G cl tys s → va_P G cl w s.heap → va_D A w →
      (∀ (pc : Nat) (H : Heap) (locs : List Loc) (ls : Array Slot) (u : S), decode cc pc = .ok (.return_, 1) → post u → va_P G cl (wf u) H → va_D A (wf u) → va_S A s.heap H locs → W p l e R s m args below meth c H locs 0 0 Q (F0 m pc ls [])) → lv_has ls maxL (lv_args 0 av) →
      W p l e R s m args below meth c s.heap [] 0 0 Q (F0 m 0 ls [])) : CV l y (ws_ y cc maxL none) rm G cl tys w av post wf := by
  intro sz
  refine Met.ofW (cc := cc) (maxL := maxL) (ret := none) hy rfl ?_
  intro p e s m args below meth c s₁ B hml hv
  obtain ⟨ha, hsz, hP, hK, hD0⟩ := hv
  subst hsz
  have hts0 := atoms_spec (ws := ws_ y cc maxL none) B.pre
  have hts : ∀ w ∈ lw_all, w.before args s = true := fun w h => hts0 w (List.mem_cons_of_mem _ h)
  have hl := lv_entry av (n := maxL) hlen
  have he := lg_entry_eq m av maxL
  rw [← ha] at he
  rw [he]
  exact body p e s m args below meth c _ _ _ _ B.exec B.bytes hml (findClass_of_methodNamed B.named) hts rfl (fun q h => Or.inr h) hK hP hD0.self (fun pc H locs ls u hd hpo hP hD hS => cw_vret B.exec B.bytes B.returns B.notSynchronized u hpo hK hP hD hS rfl hd) hl
/-- 2^run - 1, for both classes -/
theorem metX1_startOf (l : Launch) (i : Nat) (hi : i < 31) : Met l yX1_startOf (ws_ yX1_startOf cX1_startOf 1 (some .int)) rq0 (fun v _ => v = ([.int (nI i)] : List Value).toArray) (QcRead (nI (2 ^ i - 1))) 0 0 (fun _ => False) := by
  refine Met.ofW (cc := cX1_startOf) (maxL := 1) (ret := some .int) (by decide) rfl ?_
  intro p e s m args below meth c s₁ B hml hv
  subst hv
  have hx := B.exec
  have hb := B.bytes
  have hlocks := B.notSynchronized
  have hl := lv_entry [.int (nI i)] (n := 1) (Nat.le_of_ble_eq_true rfl)
  rw [lg_entry_eq]
  generalize (lg_sl ([.int (nI i)]) ++ List.replicate (1 - (lg_sl ([.int (nI i)])).length) Slot.unset).toArray = ls at hl ⊢
  have hl : lv_has ls 1 [(0, .int (nI i))] := hl
  refine lv_iconst (v := nI 1) hx hb dX1_startOf_0 (by decide +kernel) ?_
  refine lv_iload_n hx hb dX1_startOf_1 rfl (lv_at hl 0 rfl) ?_
  refine rr_shl1 hx hb dX1_startOf_2 hi ?_
  refine lv_iconst (v := nI 1) hx hb dX1_startOf_3 (by decide +kernel) ?_
  refine rr_nsub hx hb dX1_startOf_4 (Nat.two_pow_pos i) ?_
  exact W.iret hx hb B.returns (fun t ht hW => ⟨rfl, ht⟩) (fun q h => by cases h) dX1_startOf_5
theorem metX2_from (l : Launch) (i : Nat) (hi : i < 31) : Met l yX2_from (ws_ yX2_from cX2_from 1 (some .int)) rq0 (fun v _ => v = ([.int (nI i)] : List Value).toArray) (QcRead (nI (2 ^ i - 1))) 0 0 (fun _ => False) := by
  refine Met.ofW (cc := cX2_from) (maxL := 1) (ret := some .int) (by decide) rfl ?_
  intro p e s m args below meth c s₁ B hml hv
  subst hv
  have hx := B.exec
  have hb := B.bytes
  have hlocks := B.notSynchronized
  have hl := lv_entry [.int (nI i)] (n := 1) (Nat.le_of_ble_eq_true rfl)
  rw [lg_entry_eq]
  generalize (lg_sl ([.int (nI i)]) ++ List.replicate (1 - (lg_sl ([.int (nI i)])).length) Slot.unset).toArray = ls at hl ⊢
  have hl : lv_has ls 1 [(0, .int (nI i))] := hl
  refine lv_iconst (v := nI 1) hx hb dX2_from_0 (by decide +kernel) ?_
  refine lv_iload_n hx hb dX2_from_1 rfl (lv_at hl 0 rfl) ?_
  refine rr_shl1 hx hb dX2_from_2 hi ?_
  refine lv_iconst (v := nI 1) hx hb dX2_from_3 (by decide +kernel) ?_
  refine rr_nsub hx hb dX2_from_4 (Nat.two_pow_pos i) ?_
  exact W.iret hx hb B.returns (fun t ht hW => ⟨rfl, ht⟩) (fun q h => by cases h) dX2_from_5
section SO
variable {p : Program} {l : Launch} {e : Env} {R : Room} {s : State} {m : MethodId} {args : Array Value} {below : List Frame} {meth : Method} {c : Code} {H : Heap} {locs : List Loc} {Q : State → Prop}
variable {cc : ByteArray} {pc nL i : Nat} {ls : Array Slot} {rest : List Value}
theorem so_X (hx : p.tables.exec = Jvm.exec) (hb : c.code = cc) (hml : c.maxLocals = nL) (hown : s.vm.findClass RX1 = some m.cls) (hts : ∀ w ∈ lw_all, w.before args s = true) (hi : i < 31) (hR : 1 ≤ R.frames ∧ 20 ≤ R.locals) (hl : ls.size = nL) (hW : (rest.map fun v => v.category).sum ≤ 8) (hd : decode cc pc = .ok (.invokestatic 30, 3)) (k : W p l e R s m args below meth c H locs 0 0 Q (F0 m (pc + 3) ls (.int (nI (2 ^ i - 1)) :: rest))) : W p l e R s m args below meth c H locs 0 0 Q (F0 m pc ls (.int (nI i) :: rest)) :=
  W.callR (W.runS (As := [.int (nI i)]) (rest := rest) ⟨hx, hb, hml, hown, hts⟩ (metX1_startOf l i hi) (va_cwS 1 hts (lw_S q64 q65 q13 q66) rfl rfl rfl (by decide +kernel) ⟨hR.1, hR.2⟩) preEq rfl rfl hl rfl (lv_room hW) hd ⟨Nat.zero_le _, Nat.zero_le _⟩) k
theorem so_M (hx : p.tables.exec = Jvm.exec) (hb : c.code = cc) (hml : c.maxLocals = nL) (hown : s.vm.findClass RX2 = some m.cls) (hts : ∀ w ∈ lw_all, w.before args s = true) (hi : i < 31) (hR : 1 ≤ R.frames ∧ 20 ≤ R.locals) (hl : ls.size = nL) (hW : (rest.map fun v => v.category).sum ≤ 8) (hd : decode cc pc = .ok (.invokestatic 49, 3)) (k : W p l e R s m args below meth c H locs 0 0 Q (F0 m (pc + 3) ls (.int (nI (2 ^ i - 1)) :: rest))) : W p l e R s m args below meth c H locs 0 0 Q (F0 m pc ls (.int (nI i) :: rest)) :=
  W.callR (W.runS (As := [.int (nI i)]) (rest := rest) ⟨hx, hb, hml, hown, hts⟩ (metX2_from l i hi) (va_cwS 1 hts (lw_S q204 q205 q14 q206) rfl rfl rfl (by decide +kernel) ⟨hR.1, hR.2⟩) preEq rfl rfl hl rfl (lv_room hW) hd ⟨Nat.zero_le _, Nat.zero_le _⟩) k
end SO
end
section
/-! contracts of RankRuns: the searches -/
set_option maxRecDepth 100000
def bX (Ar : Nat → Int32) (De : Nat → Bool) (Ln : Nat → Nat) : Int64 → Nat × Nat := fun bd => bel Ar (fun p => !De p) Ln bd 10
set_option maxHeartbeats 4000000 in
set_option maxRecDepth 100000 in
theorem metX1_search (l : Launch) (G : va_G) (ad : Nat → Nat) (ca : Nat → ClassId) (cp : Nat) (Ar : Nat → Int32) (De : Nat → Bool) (Ln : Nat → Nat) (Tm : Nat → Int32) (Td : Nat → Bool) (lv tt pb mv : Nat) (i : Nat) (bd : Int64) (hi : i < 10) (hL : Ln i ≤ 2 ^ i) : CI (S := Unit) l yX1_search (ws_ yX1_search cX1_search 7 (some .int)) rq1 G clR (tyX ca) (WX ad ca cp Ar De Ln Tm Td lv tt pb mv) [.ref (ad 0), .int (nI i), .long bd] (fun r _ => r = nI (bsr Ar (2 ^ i - 1) bd (Ln i)).1) (fun _ => WX ad ca cp Ar De Ln Tm Td lv tt (pb + (bsr Ar (2 ^ i - 1) bd (Ln i)).2) mv) := by
  refine ci_start (by decide) (Nat.le_of_ble_eq_true rfl) ?_
  intro p e s m args below meth c R Q A ls hx hb hml hown hts hR hA hK hP hD hret hl
  have hown : s.vm.findClass RX1 = some m.cls := hown
  have hS : va_S A s.heap s.heap [] := va_S.rf
  have hl : lv_has ls 7 [(0, .ref (ad 0)), (1, .int (nI i)), (2, .long bd)] := hl
  have hp := rr_pow hi
  have loop : ∀ (n lo hh q : Nat), hh - lo < n → lo ≤ hh → hh ≤ Ln i → (bs Ar (2 ^ i - 1) bd n lo hh).1 = (bsr Ar (2 ^ i - 1) bd (Ln i)).1 → q + (bs Ar (2 ^ i - 1) bd n lo hh).2 = pb + (bsr Ar (2 ^ i - 1) bd (Ln i)).2 → ∀ (H : Heap) (locs : List Loc), va_P G clR (WX ad ca cp Ar De Ln Tm Td lv tt q mv) H → va_D A (WX ad ca cp Ar De Ln Tm Td lv tt q mv) → va_S A s.heap H locs → ∀ ls : Array Slot, lv_has ls 7 [(4, .int (nI lo)), (5, .int (nI hh)), (0, .ref (ad 0)), (1, .int (nI i)), (2, .long bd)] → W p l e R s m args below meth c H locs 0 0 Q (F0 m 11 ls []) := by
    intro n
    induction n with
    | zero =>
      intro lo hh q h1
      exact absurd h1 (by omega)
    | succ n ih =>
      intro lo hh q h1 h0 h2 e1 e2 H locs hP hD hS ls hl
      refine lv_iload hx hb dX1_search_11 (lv_at hl 0 rfl) ?_
      refine lv_iload hx hb dX1_search_13 (lv_at hl 1 rfl) ?_
      refine rr_icmp_ge (tgt := 71) hx hb dX1_search_15 (by decide) (by omega) (by omega) (fun c1 => ?_) (fun c1 => ?_)
      · rw [bs_out c1] at e1 e2
        have e2 : q = pb + (bsr Ar (2 ^ i - 1) bd (Ln i)).2 := e2
        subst e2
        refine lv_iload hx hb dX1_search_71 (lv_at hl 0 rfl) ?_
        exact hret 73 _ _ _ _ () dX1_search_73 (by rw [← e1]) hP hD hS
      · refine lv_iload hx hb dX1_search_18 (lv_at hl 0 rfl) ?_
        refine lv_iload hx hb dX1_search_20 (lv_at hl 1 rfl) ?_
        refine rr_nadd hx hb dX1_search_22 ?_
        refine lv_iconst (v := (nI 1)) hx hb dX1_search_23 (by decide +kernel) ?_
        refine rr_nshr1 hx hb dX1_search_24 (by omega) ?_
        refine lv_istore (lv' := [(6, .int (nI ((lo + hh) / 2))), (4, .int (nI lo)), (5, .int (nI hh)), (0, .ref (ad 0)), (1, .int (nI i)), (2, .long bd)]) hx hb dX1_search_25 hl (by decide) rfl (fun ls hl => ?_)
        refine lv_aload_n hx hb dX1_search_27 rfl (lv_at hl 3 rfl) ?_
        refine lv_dup hx hb dX1_search_28 rfl ?_
        refine va_get (D := G) (ci := 0) (v := .int (nI q)) (C := RX1) (T := TX1) (N := 10) hx hb hts in_X1 hown hK hP 0 rfl rfl 8 (by decide) (hts _ q31) (fun _ h9 => h9) rfl dX1_search_29 ?_
        refine lv_iconst (v := (nI 1)) hx hb dX1_search_32 (by decide +kernel) ?_
        refine rr_nadd hx hb dX1_search_33 ?_
        refine va_put (D := G) (ci := 0) (v := .int (nI (q + 1))) (ty := .int) (C := RX1) (T := TX1) (N := 10) hx hb hts in_X1 tyX1 tyX1_ok nmX1 hown hK hP hD hS 0 rfl rfl 8 (by decide) (hts _ q31) (fun _ h9 => h9) rfl (by decide +kernel) rfl rfl (Nat.le_of_ble_eq_true rfl) dX1_search_34 (fun H locs hP hD hS => ?_)
        have hP : va_P G clR (WX ad ca cp Ar De Ln Tm Td lv tt (q + 1) mv) H := hP
        have hD : va_D A (WX ad ca cp Ar De Ln Tm Td lv tt (q + 1) mv) := hD
        refine lv_aload_n hx hb dX1_search_37 rfl (lv_at hl 3 rfl) ?_
        refine va_get (D := G) (ci := 0) (v := .ref (ad 1)) (C := RX1) (T := TX1) (N := 10) hx hb hts in_X1 hown hK hP 0 rfl rfl 0 (by decide) (hts _ q23) (fun _ h9 => h9) rfl dX1_search_38 ?_
        refine lv_iload_n hx hb dX1_search_41 rfl (lv_at hl 4 rfl) ?_
        refine so_X (i := i) hx hb hml hown hts (by omega) (by rw [hR]; exact ⟨by decide, by decide⟩) hl.1 (Nat.le_of_ble_eq_true rfl) dX1_search_42 ?_
        refine lv_iload hx hb dX1_search_45 (lv_at hl 0 rfl) ?_
        refine rr_nadd hx hb dX1_search_47 ?_
        refine rr_iald (f := Ar) (k := (2 ^ i - 1) + ((lo + hh) / 2)) hx hb hK hP 1 0 rfl rfl (by omega) (by decide) dX1_search_48 ?_
        refine lv_i2l (v := (Ar ((2 ^ i - 1) + ((lo + hh) / 2))).toInt64) hx hb dX1_search_49 rfl ?_
        refine lv_lload_n hx hb dX1_search_50 rfl (lv_at hl 5 rfl) ?_
        refine rr_lcmp_ge (tgt := 64) hx hb dX1_search_51 dX1_search_52 (by decide) (fun c2 => ?_) (fun c2 => ?_)
        · rw [bs_hi c1 c2] at e1 e2
          refine lv_iload hx hb dX1_search_64 (lv_at hl 0 rfl) ?_
          refine lv_istore (lv' := [(5, .int (nI ((lo + hh) / 2))), (6, .int (nI ((lo + hh) / 2))), (4, .int (nI lo)), (0, .ref (ad 0)), (1, .int (nI i)), (2, .long bd)]) hx hb dX1_search_66 hl (by decide) rfl (fun ls hl => ?_)
          refine lv_goto (tgt := 11) hx hb dX1_search_68 (by decide) ?_
          exact ih lo ((lo + hh) / 2) (q + 1) (by omega) (by omega) (by omega) e1 (by omega) _ _ hP hD hS _ (lv_sub hl [2, 0, 3, 4, 5] rfl)
        · rw [bs_lo c1 c2] at e1 e2
          refine lv_iload hx hb dX1_search_55 (lv_at hl 0 rfl) ?_
          refine lv_iconst (v := (nI 1)) hx hb dX1_search_57 (by decide +kernel) ?_
          refine rr_nadd hx hb dX1_search_58 ?_
          refine lv_istore (lv' := [(4, .int (nI (((lo + hh) / 2) + 1))), (6, .int (nI ((lo + hh) / 2))), (5, .int (nI hh)), (0, .ref (ad 0)), (1, .int (nI i)), (2, .long bd)]) hx hb dX1_search_59 hl (by decide) rfl (fun ls hl => ?_)
          refine lv_goto (tgt := 68) hx hb dX1_search_61 (by decide) ?_
          refine lv_goto (tgt := 11) hx hb dX1_search_68 (by decide) ?_
          exact ih ((lo + hh) / 2 + 1) hh (q + 1) (by omega) (by omega) h2 e1 (by omega) _ _ hP hD hS _ (lv_sub hl [0, 2, 3, 4, 5] rfl)
  refine lv_iconst (v := (nI 0)) hx hb dX1_search_0 (by decide +kernel) ?_
  refine lv_istore (lv' := [(4, .int (nI 0)), (0, .ref (ad 0)), (1, .int (nI i)), (2, .long bd)]) hx hb dX1_search_1 hl (by decide) rfl (fun ls hl => ?_)
  refine lv_aload_n hx hb dX1_search_3 rfl (lv_at hl 1 rfl) ?_
  refine va_get (D := G) (ci := 0) (v := .ref (ad 3)) (C := RX1) (T := TX1) (N := 10) hx hb hts in_X1 hown hK hP 0 rfl rfl 2 (by decide) (hts _ q25) (fun _ h9 => h9) rfl dX1_search_4 ?_
  refine lv_iload_n hx hb dX1_search_7 rfl (lv_at hl 2 rfl) ?_
  refine rr_nald (L := Ln) (k := i) hx hb hK hP 3 2 rfl rfl (by omega) (by decide) dX1_search_8 ?_
  refine lv_istore (lv' := [(5, .int (nI (Ln i))), (4, .int (nI 0)), (0, .ref (ad 0)), (1, .int (nI i)), (2, .long bd)]) hx hb dX1_search_9 hl (by decide) rfl (fun ls hl => ?_)
  exact loop 1024 0 (Ln i) pb (by omega) (Nat.zero_le _) (Nat.le_refl _) rfl rfl _ _ hP hD hS _ (lv_sub hl [1, 0, 2, 3, 4] rfl)
set_option maxHeartbeats 4000000 in
set_option maxRecDepth 100000 in
theorem metX1_livingBefore (l : Launch) (G : va_G) (ad : Nat → Nat) (ca : Nat → ClassId) (cp : Nat) (Ar : Nat → Int32) (De : Nat → Bool) (Ln : Nat → Nat) (Tm : Nat → Int32) (Td : Nat → Bool) (lv tt pb mv : Nat) (i many : Nat) (hi : i < 10) (hm : many ≤ 2 ^ i) : CI (S := Unit) l yX1_livingBefore (ws_ yX1_livingBefore cX1_livingBefore 5 (some .int)) rq1 G clR (tyX ca) (WX ad ca cp Ar De Ln Tm Td lv tt pb mv) [.ref (ad 0), .int (nI i), .int (nI many)] (fun r _ => r = nI (fb_ct (fun k => !De (2 ^ i - 1 + k)) many)) (fun _ => WX ad ca cp Ar De Ln Tm Td lv tt pb mv) := by
  refine ci_start (by decide) (Nat.le_of_ble_eq_true rfl) ?_
  intro p e s m args below meth c R Q A ls hx hb hml hown hts hR hA hK hP hD hret hl
  have hown : s.vm.findClass RX1 = some m.cls := hown
  have hS : va_S A s.heap s.heap [] := va_S.rf
  have hl : lv_has ls 5 [(0, .ref (ad 0)), (1, .int (nI i)), (2, .int (nI many))] := hl
  have hp := rr_pow hi
  have loop : ∀ (n j : Nat), many - j < n → j ≤ many → ∀ (H : Heap) (locs : List Loc), va_P G clR (WX ad ca cp Ar De Ln Tm Td lv tt pb mv) H → va_D A (WX ad ca cp Ar De Ln Tm Td lv tt pb mv) → va_S A s.heap H locs → ∀ ls : Array Slot, lv_has ls 5 [(3, .int (nI (fb_ct (fun k => !De (2 ^ i - 1 + k)) j))), (4, .int (nI (2 ^ i - 1 + j))), (0, .ref (ad 0)), (1, .int (nI i)), (2, .int (nI many))] → W p l e R s m args below meth c H locs 0 0 Q (F0 m 8 ls []) := by
    intro n
    induction n with
    | zero =>
      intro j h1
      exact absurd h1 (by omega)
    | succ n ih =>
      intro j h1 h2 H locs hP hD hS ls hl
      have hct : (fb_ct (fun k => !De (2 ^ i - 1 + k)) j) < 2147483648 := Nat.lt_of_le_of_lt (fb_ct_le _ j) (by omega)
      refine lv_iload hx hb dX1_livingBefore_8 (lv_at hl 1 rfl) ?_
      refine lv_iload_n hx hb dX1_livingBefore_10 rfl (lv_at hl 3 rfl) ?_
      refine so_X (i := i) hx hb hml hown hts (by omega) (by rw [hR]; exact ⟨by decide, by decide⟩) hl.1 (Nat.le_of_ble_eq_true rfl) dX1_livingBefore_11 ?_
      refine lv_iload_n hx hb dX1_livingBefore_14 rfl (lv_at hl 4 rfl) ?_
      refine rr_nadd hx hb dX1_livingBefore_15 ?_
      refine rr_icmp_ge (tgt := 43) hx hb dX1_livingBefore_16 (by decide) (by omega) (by omega) (fun c1 => ?_) (fun c1 => ?_)
      · have ej : j = many := by omega
        subst ej
        refine lv_iload_n hx hb dX1_livingBefore_43 rfl (lv_at hl 0 rfl) ?_
        exact hret 44 _ _ _ _ () dX1_livingBefore_44 rfl hP hD hS
      · refine lv_iload_n hx hb dX1_livingBefore_19 rfl (lv_at hl 0 rfl) ?_
        refine lv_aload_n hx hb dX1_livingBefore_20 rfl (lv_at hl 2 rfl) ?_
        refine va_get (D := G) (ci := 0) (v := .ref (ad 2)) (C := RX1) (T := TX1) (N := 10) hx hb hts in_X1 hown hK hP 0 rfl rfl 1 (by decide) (hts _ q24) (fun _ h9 => h9) rfl dX1_livingBefore_21 ?_
        refine lv_iload hx hb dX1_livingBefore_24 (lv_at hl 1 rfl) ?_
        refine rr_zald (B := De) (k := 2 ^ i - 1 + j) hx hb hK hP 2 1 rfl rfl (by omega) (by decide) dX1_livingBefore_26 ?_
        refine rr_ifeq_b (tgt := 34) hx hb dX1_livingBefore_27 (by decide) (fun c2 => ?_) (fun c2 => ?_)
        · have e := ct_t (P := fun k => !De (2 ^ i - 1 + k)) (n := j) (by rw [c2]; rfl)
          refine lv_iconst (v := (nI 1)) hx hb dX1_livingBefore_34 (by decide +kernel) ?_
          refine rr_nadd hx hb dX1_livingBefore_35 ?_
          refine lv_istore_n (lv' := [(3, .int (nI ((fb_ct (fun k => !De (2 ^ i - 1 + k)) j) + 1))), (4, .int (nI (2 ^ i - 1 + j))), (0, .ref (ad 0)), (1, .int (nI i)), (2, .int (nI many))]) hx hb dX1_livingBefore_36 rfl hl (by decide) rfl (fun ls hl => ?_)
          refine lv_iinc (v := (nI (2 ^ i - 1 + j + 1))) (lv' := [(4, .int (nI (2 ^ i - 1 + j + 1))), (3, .int (nI ((fb_ct (fun k => !De (2 ^ i - 1 + k)) j) + 1))), (0, .ref (ad 0)), (1, .int (nI i)), (2, .int (nI many))]) hx hb dX1_livingBefore_37 hl (k := 1) rfl (rr_inc (2 ^ i - 1 + j)) (by decide) rfl (fun ls hl => ?_)
          refine lv_goto (tgt := 8) hx hb dX1_livingBefore_40 (by decide) ?_
          rw [← e] at hl
          exact ih (j + 1) (by omega) (by omega) _ _ hP hD hS _ (lv_sub hl [1, 0, 2, 3, 4] rfl)
        · have e := ct_f (P := fun k => !De (2 ^ i - 1 + k)) (n := j) (by rw [c2]; rfl)
          refine lv_iconst (v := (nI 0)) hx hb dX1_livingBefore_30 (by decide +kernel) ?_
          refine lv_goto (tgt := 35) hx hb dX1_livingBefore_31 (by decide) ?_
          refine rr_nadd hx hb dX1_livingBefore_35 ?_
          refine lv_istore_n (lv' := [(3, .int (nI ((fb_ct (fun k => !De (2 ^ i - 1 + k)) j) + 0))), (4, .int (nI (2 ^ i - 1 + j))), (0, .ref (ad 0)), (1, .int (nI i)), (2, .int (nI many))]) hx hb dX1_livingBefore_36 rfl hl (by decide) rfl (fun ls hl => ?_)
          refine lv_iinc (v := (nI (2 ^ i - 1 + j + 1))) (lv' := [(4, .int (nI (2 ^ i - 1 + j + 1))), (3, .int (nI ((fb_ct (fun k => !De (2 ^ i - 1 + k)) j) + 0))), (0, .ref (ad 0)), (1, .int (nI i)), (2, .int (nI many))]) hx hb dX1_livingBefore_37 hl (k := 1) rfl (rr_inc (2 ^ i - 1 + j)) (by decide) rfl (fun ls hl => ?_)
          refine lv_goto (tgt := 8) hx hb dX1_livingBefore_40 (by decide) ?_
          rw [Nat.add_zero, ← e] at hl
          exact ih (j + 1) (by omega) (by omega) _ _ hP hD hS _ (lv_sub hl [1, 0, 2, 3, 4] rfl)
  refine lv_iconst (v := (nI 0)) hx hb dX1_livingBefore_0 (by decide +kernel) ?_
  refine lv_istore_n (lv' := [(3, .int (nI 0)), (0, .ref (ad 0)), (1, .int (nI i)), (2, .int (nI many))]) hx hb dX1_livingBefore_1 rfl hl (by decide) rfl (fun ls hl => ?_)
  refine lv_iload_n hx hb dX1_livingBefore_2 rfl (lv_at hl 2 rfl) ?_
  refine so_X (i := i) hx hb hml hown hts (by omega) (by rw [hR]; exact ⟨by decide, by decide⟩) hl.1 (Nat.le_of_ble_eq_true rfl) dX1_livingBefore_3 ?_
  refine lv_istore (lv' := [(4, .int (nI (2 ^ i - 1))), (3, .int (nI 0)), (0, .ref (ad 0)), (1, .int (nI i)), (2, .int (nI many))]) hx hb dX1_livingBefore_6 hl (by decide) rfl (fun ls hl => ?_)
  exact loop (many + 1) 0 (by omega) (Nat.zero_le _) _ _ hP hD hS _ (lv_sub hl [1, 0, 2, 3, 4] rfl)
set_option maxHeartbeats 4000000 in
set_option maxRecDepth 100000 in
theorem metX1_below (l : Launch) (G : va_G) (ad : Nat → Nat) (ca : Nat → ClassId) (cp : Nat) (Ar : Nat → Int32) (De : Nat → Bool) (Ln : Nat → Nat) (Tm : Nat → Int32) (Td : Nat → Bool) (lv tt pb mv : Nat) (bd : Int64) (hL : ∀ j, j < 10 → Ln j ≤ 2 ^ j) : CI (S := Unit) l yX1_below (ws_ yX1_below cX1_below 5 (some .int)) rq2 G clR (tyX ca) (WX ad ca cp Ar De Ln Tm Td lv tt pb mv) [.ref (ad 0), .long bd] (fun r _ => r = nI (bX Ar De Ln bd).1) (fun _ => WX ad ca cp Ar De Ln Tm Td lv tt (pb + (bX Ar De Ln bd).2) mv) := by
  refine ci_start (by decide) (Nat.le_of_ble_eq_true rfl) ?_
  intro p e s m args below meth c R Q A ls hx hb hml hown hts hR hA hK hP hD hret hl
  have hown : s.vm.findClass RX1 = some m.cls := hown
  have hS : va_S A s.heap s.heap [] := va_S.rf
  have hl : lv_has ls 5 [(0, .ref (ad 0)), (1, .long bd)] := hl
  have loop : ∀ (n i : Nat), 10 - i < n → i ≤ 10 → ∀ (H : Heap) (locs : List Loc), va_P G clR (WX ad ca cp Ar De Ln Tm Td lv tt (pb + (bel Ar (fun p => !De p) Ln bd i).2) mv) H → va_D A (WX ad ca cp Ar De Ln Tm Td lv tt (pb + (bel Ar (fun p => !De p) Ln bd i).2) mv) → va_S A s.heap H locs → ∀ ls : Array Slot, lv_has ls 5 [(3, .int (nI ((bel Ar (fun p => !De p) Ln bd i).1))), (4, .int (nI i)), (0, .ref (ad 0)), (1, .long bd)] → W p l e R s m args below meth c H locs 0 0 Q (F0 m 5 ls []) := by
    intro n
    induction n with
    | zero =>
      intro i h1
      exact absurd h1 (by omega)
    | succ n ih =>
      intro i h1 h2 H locs hP hD hS ls hl
      refine lv_iload hx hb dX1_below_5 (lv_at hl 1 rfl) ?_
      refine lv_bipush (v := (nI 10)) hx hb dX1_below_7 (by decide +kernel) ?_
      refine rr_icmp_ge (tgt := 34) hx hb dX1_below_9 (by decide) (by omega) (by omega) (fun c1 => ?_) (fun c1 => ?_)
      · have ei : i = 10 := by omega
        subst ei
        refine lv_iload_n hx hb dX1_below_34 rfl (lv_at hl 0 rfl) ?_
        exact hret 35 _ _ _ _ () dX1_below_35 rfl hP hD hS
      · refine lv_iload_n hx hb dX1_below_12 rfl (lv_at hl 0 rfl) ?_
        refine lv_aload_n hx hb dX1_below_13 rfl (lv_at hl 2 rfl) ?_
        refine lv_iload hx hb dX1_below_14 (lv_at hl 1 rfl) ?_
        refine lv_aload_n hx hb dX1_below_16 rfl (lv_at hl 2 rfl) ?_
        refine lv_iload hx hb dX1_below_17 (lv_at hl 1 rfl) ?_
        refine lv_lload_n hx hb dX1_below_19 rfl (lv_at hl 3 rfl) ?_
        refine sf_calli (C := RX1) (As := [.int (nI i), .long bd]) (rest := [.int (nI i), .ref (ad 0), .int (nI ((bel Ar (fun p => !De p) Ln bd i).1))]) ⟨hx, hb, hml, hown, hts⟩ (metX1_search l G ad ca cp Ar De Ln Tm Td lv tt (pb + (bel Ar (fun p => !De p) Ln bd i).2) mv i bd (by omega) (hL i (by omega))) (cwV 2 hts (lw_V q96 q98 qs5 q13 q99) rfl rfl rfl (by decide +kernel) (by rw [hR]; exact ⟨by decide, by decide⟩)) hK hP hD hS hA rfl rfl rfl hl.1 rfl (Nat.le_of_ble_eq_true rfl) dX1_below_20 ⟨Nat.zero_le _, Nat.zero_le _⟩ (fun r u H locs hpo hP hD hS => ?_)
        subst hpo
        have hP : va_P G clR (WX ad ca cp Ar De Ln Tm Td lv tt (pb + (bel Ar (fun p => !De p) Ln bd i).2 + (bsr Ar (2 ^ i - 1) bd (Ln i)).2) mv) H := hP
        have hD : va_D A (WX ad ca cp Ar De Ln Tm Td lv tt (pb + (bel Ar (fun p => !De p) Ln bd i).2 + (bsr Ar (2 ^ i - 1) bd (Ln i)).2) mv) := hD
        refine sf_calli (C := RX1) (As := [.int (nI i), .int (nI ((bsr Ar (2 ^ i - 1) bd (Ln i)).1))]) (rest := [.int (nI ((bel Ar (fun p => !De p) Ln bd i).1))]) ⟨hx, hb, hml, hown, hts⟩ (metX1_livingBefore l G ad ca cp Ar De Ln Tm Td lv tt (pb + (bel Ar (fun p => !De p) Ln bd i).2 + (bsr Ar (2 ^ i - 1) bd (Ln i)).2) mv i (bsr Ar (2 ^ i - 1) bd (Ln i)).1 (by omega) (Nat.le_trans (bsr_le _ _ _ _) (hL i (by omega)))) (cwV 2 hts (lw_V q100 q102 qs6 q13 q103) rfl rfl rfl (by decide +kernel) (by rw [hR]; exact ⟨by decide, by decide⟩)) hK hP hD hS hA rfl rfl rfl hl.1 rfl (Nat.le_of_ble_eq_true rfl) dX1_below_23 ⟨Nat.zero_le _, Nat.zero_le _⟩ (fun r u H locs hpo hP hD hS => ?_)
        subst hpo
        have hP : va_P G clR (WX ad ca cp Ar De Ln Tm Td lv tt (pb + (bel Ar (fun p => !De p) Ln bd i).2 + (bsr Ar (2 ^ i - 1) bd (Ln i)).2) mv) H := hP
        have hD : va_D A (WX ad ca cp Ar De Ln Tm Td lv tt (pb + (bel Ar (fun p => !De p) Ln bd i).2 + (bsr Ar (2 ^ i - 1) bd (Ln i)).2) mv) := hD
        refine rr_nadd hx hb dX1_below_26 ?_
        refine lv_istore_n (lv' := [(3, .int (nI (((bel Ar (fun p => !De p) Ln bd i).1) + (fb_ct (fun k => !De (2 ^ i - 1 + k)) (bsr Ar (2 ^ i - 1) bd (Ln i)).1)))), (4, .int (nI i)), (0, .ref (ad 0)), (1, .long bd)]) hx hb dX1_below_27 rfl hl (by decide) rfl (fun ls hl => ?_)
        refine lv_iinc (v := (nI (i + 1))) (lv' := [(4, .int (nI (i + 1))), (3, .int (nI (((bel Ar (fun p => !De p) Ln bd i).1) + (fb_ct (fun k => !De (2 ^ i - 1 + k)) (bsr Ar (2 ^ i - 1) bd (Ln i)).1)))), (0, .ref (ad 0)), (1, .long bd)]) hx hb dX1_below_28 hl (k := 1) rfl (rr_inc i) (by decide) rfl (fun ls hl => ?_)
        refine lv_goto (tgt := 5) hx hb dX1_below_31 (by decide) ?_
        rw [Nat.add_assoc] at hP hD
        exact ih (i + 1) (by omega) (by omega) _ _ hP hD hS _ (lv_sub hl [1, 0, 2, 3] rfl)
  refine lv_iconst (v := (nI 0)) hx hb dX1_below_0 (by decide +kernel) ?_
  refine lv_istore_n (lv' := [(3, .int (nI 0)), (0, .ref (ad 0)), (1, .long bd)]) hx hb dX1_below_1 rfl hl (by decide) rfl (fun ls hl => ?_)
  refine lv_iconst (v := (nI 0)) hx hb dX1_below_2 (by decide +kernel) ?_
  refine lv_istore (lv' := [(4, .int (nI 0)), (3, .int (nI 0)), (0, .ref (ad 0)), (1, .long bd)]) hx hb dX1_below_3 hl (by decide) rfl (fun ls hl => ?_)
  exact loop 11 0 (by omega) (by omega) _ _ hP hD hS _ (lv_sub hl [1, 0, 2, 3] rfl)
end
section
/-! contracts of RankRuns: what is asked -/
set_option maxRecDepth 100000
set_option maxHeartbeats 4000000 in
set_option maxRecDepth 100000 in
theorem metX1_count (l : Launch) (G : va_G) (ad : Nat → Nat) (ca : Nat → ClassId) (cp : Nat) (Ar : Nat → Int32) (De : Nat → Bool) (Ln : Nat → Nat) (Tm : Nat → Int32) (Td : Nat → Bool) (lv tt pb mv : Nat) (v : Int32) (hL : ∀ j, j < 10 → Ln j ≤ 2 ^ j) : CI (S := Unit) l yX1_count (ws_ yX1_count cX1_count 3 (some .int)) rq3 G clR (tyX ca) (WX ad ca cp Ar De Ln Tm Td lv tt pb mv) [.ref (ad 0), .int v] (fun r _ => r = nI (bX Ar De Ln (v.toInt64 + 1)).1 - nI (bX Ar De Ln v.toInt64).1) (fun _ => WX ad ca cp Ar De Ln Tm Td lv tt (0 + (bX Ar De Ln v.toInt64).2 + (bX Ar De Ln (v.toInt64 + 1)).2) mv) := by
  refine ci_start (by decide) (Nat.le_of_ble_eq_true rfl) ?_
  intro p e s m args below meth c R Q A ls hx hb hml hown hts hR hA hK hP hD hret hl
  have hown : s.vm.findClass RX1 = some m.cls := hown
  have hS : va_S A s.heap s.heap [] := va_S.rf
  have hl : lv_has ls 3 [(0, .ref (ad 0)), (1, .int v)] := hl
  refine lv_aload_n hx hb dX1_count_0 rfl (lv_at hl 0 rfl) ?_
  refine lv_iconst (v := (nI 0)) hx hb dX1_count_1 (by decide +kernel) ?_
  refine va_put (D := G) (ci := 0) (v := .int (nI 0)) (ty := .int) (C := RX1) (T := TX1) (N := 10) hx hb hts in_X1 tyX1 tyX1_ok nmX1 hown hK hP hD hS 0 rfl rfl 8 (by decide) (hts _ q31) (fun _ h9 => h9) rfl (by decide +kernel) rfl rfl (Nat.le_of_ble_eq_true rfl) dX1_count_2 (fun H locs hP hD hS => ?_)
  have hP : va_P G clR (WX ad ca cp Ar De Ln Tm Td lv tt 0 mv) H := hP
  have hD : va_D A (WX ad ca cp Ar De Ln Tm Td lv tt 0 mv) := hD
  refine lv_aload_n hx hb dX1_count_5 rfl (lv_at hl 0 rfl) ?_
  refine lv_iload_n hx hb dX1_count_6 rfl (lv_at hl 1 rfl) ?_
  refine lv_i2l (v := v.toInt64) hx hb dX1_count_7 rfl ?_
  refine sf_calli (C := RX1) (As := [.long (v.toInt64)]) (rest := []) ⟨hx, hb, hml, hown, hts⟩ (metX1_below l G ad ca cp Ar De Ln Tm Td lv tt 0 mv (v.toInt64) hL) (cwV 1 hts (lw_V q92 q94 qs4 q13 q95) rfl rfl rfl (by decide +kernel) (by rw [hR]; exact ⟨by decide, by decide⟩)) hK hP hD hS hA rfl rfl rfl hl.1 rfl (Nat.le_of_ble_eq_true rfl) dX1_count_8 ⟨Nat.zero_le _, Nat.zero_le _⟩ (fun r u H locs hpo hP hD hS => ?_)
  subst hpo
  have hP : va_P G clR (WX ad ca cp Ar De Ln Tm Td lv tt (0 + (bX Ar De Ln (v.toInt64)).2) mv) H := hP
  have hD : va_D A (WX ad ca cp Ar De Ln Tm Td lv tt (0 + (bX Ar De Ln (v.toInt64)).2) mv) := hD
  refine lv_istore_n (lv' := [(2, .int (nI ((bX Ar De Ln (v.toInt64)).1))), (0, .ref (ad 0)), (1, .int v)]) hx hb dX1_count_11 rfl hl (by decide) rfl (fun ls hl => ?_)
  refine lv_aload_n hx hb dX1_count_12 rfl (lv_at hl 1 rfl) ?_
  refine lv_iload_n hx hb dX1_count_13 rfl (lv_at hl 2 rfl) ?_
  refine lv_i2l (v := v.toInt64) hx hb dX1_count_14 rfl ?_
  refine lv_lconst (v := 1) hx hb dX1_count_15 (by decide +kernel) ?_
  refine lv_ladd hx hb dX1_count_16 ?_
  refine sf_calli (C := RX1) (As := [.long ((v.toInt64) + 1)]) (rest := []) ⟨hx, hb, hml, hown, hts⟩ (metX1_below l G ad ca cp Ar De Ln Tm Td lv tt (0 + (bX Ar De Ln v.toInt64).2) mv (v.toInt64 + 1) hL) (cwV 1 hts (lw_V q92 q94 qs4 q13 q95) rfl rfl rfl (by decide +kernel) (by rw [hR]; exact ⟨by decide, by decide⟩)) hK hP hD hS hA rfl rfl rfl hl.1 rfl (Nat.le_of_ble_eq_true rfl) dX1_count_17 ⟨Nat.zero_le _, Nat.zero_le _⟩ (fun r u H locs hpo hP hD hS => ?_)
  subst hpo
  have hP : va_P G clR (WX ad ca cp Ar De Ln Tm Td lv tt (0 + (bX Ar De Ln v.toInt64).2 + (bX Ar De Ln (v.toInt64 + 1)).2) mv) H := hP
  have hD : va_D A (WX ad ca cp Ar De Ln Tm Td lv tt (0 + (bX Ar De Ln v.toInt64).2 + (bX Ar De Ln (v.toInt64 + 1)).2) mv) := hD
  refine lv_iload_n hx hb dX1_count_20 rfl (lv_at hl 0 rfl) ?_
  refine lv_isub hx hb dX1_count_21 ?_
  exact hret 22 _ _ _ _ () dX1_count_22 rfl hP hD hS
set_option maxHeartbeats 4000000 in
set_option maxRecDepth 100000 in
theorem metX1_rank (l : Launch) (G : va_G) (ad : Nat → Nat) (ca : Nat → ClassId) (cp : Nat) (Ar : Nat → Int32) (De : Nat → Bool) (Ln : Nat → Nat) (Tm : Nat → Int32) (Td : Nat → Bool) (lv tt pb mv : Nat) (v : Int32) (hL : ∀ j, j < 10 → Ln j ≤ 2 ^ j) : CI (S := Unit) l yX1_rank (ws_ yX1_rank cX1_rank 2 (some .int)) rq3 G clR (tyX ca) (WX ad ca cp Ar De Ln Tm Td lv tt pb mv) [.ref (ad 0), .int v] (fun r _ => r = nI (bX Ar De Ln v.toInt64).1) (fun _ => WX ad ca cp Ar De Ln Tm Td lv tt (0 + (bX Ar De Ln v.toInt64).2) mv) := by
  refine ci_start (by decide) (Nat.le_of_ble_eq_true rfl) ?_
  intro p e s m args below meth c R Q A ls hx hb hml hown hts hR hA hK hP hD hret hl
  have hown : s.vm.findClass RX1 = some m.cls := hown
  have hS : va_S A s.heap s.heap [] := va_S.rf
  have hl : lv_has ls 2 [(0, .ref (ad 0)), (1, .int v)] := hl
  refine lv_aload_n hx hb dX1_rank_0 rfl (lv_at hl 0 rfl) ?_
  refine lv_iconst (v := (nI 0)) hx hb dX1_rank_1 (by decide +kernel) ?_
  refine va_put (D := G) (ci := 0) (v := .int (nI 0)) (ty := .int) (C := RX1) (T := TX1) (N := 10) hx hb hts in_X1 tyX1 tyX1_ok nmX1 hown hK hP hD hS 0 rfl rfl 8 (by decide) (hts _ q31) (fun _ h9 => h9) rfl (by decide +kernel) rfl rfl (Nat.le_of_ble_eq_true rfl) dX1_rank_2 (fun H locs hP hD hS => ?_)
  have hP : va_P G clR (WX ad ca cp Ar De Ln Tm Td lv tt 0 mv) H := hP
  have hD : va_D A (WX ad ca cp Ar De Ln Tm Td lv tt 0 mv) := hD
  refine lv_aload_n hx hb dX1_rank_5 rfl (lv_at hl 0 rfl) ?_
  refine lv_iload_n hx hb dX1_rank_6 rfl (lv_at hl 1 rfl) ?_
  refine lv_i2l (v := v.toInt64) hx hb dX1_rank_7 rfl ?_
  refine sf_calli (C := RX1) (As := [.long (v.toInt64)]) (rest := []) ⟨hx, hb, hml, hown, hts⟩ (metX1_below l G ad ca cp Ar De Ln Tm Td lv tt 0 mv (v.toInt64) hL) (cwV 1 hts (lw_V q92 q94 qs4 q13 q95) rfl rfl rfl (by decide +kernel) (by rw [hR]; exact ⟨by decide, by decide⟩)) hK hP hD hS hA rfl rfl rfl hl.1 rfl (Nat.le_of_ble_eq_true rfl) dX1_rank_8 ⟨Nat.zero_le _, Nat.zero_le _⟩ (fun r u H locs hpo hP hD hS => ?_)
  subst hpo
  have hP : va_P G clR (WX ad ca cp Ar De Ln Tm Td lv tt (0 + (bX Ar De Ln (v.toInt64)).2) mv) H := hP
  have hD : va_D A (WX ad ca cp Ar De Ln Tm Td lv tt (0 + (bX Ar De Ln (v.toInt64)).2) mv) := hD
  exact hret 11 _ _ _ _ () dX1_rank_11 rfl hP hD hS
set_option maxHeartbeats 4000000 in
set_option maxRecDepth 100000 in
theorem metX1_pred (l : Launch) (G : va_G) (ad : Nat → Nat) (ca : Nat → ClassId) (cp : Nat) (Ar : Nat → Int32) (De : Nat → Bool) (Ln : Nat → Nat) (Tm : Nat → Int32) (Td : Nat → Bool) (lv tt pb mv : Nat) (v : Int32) (hL : ∀ j, j < 10 → Ln j ≤ 2 ^ j) : CI (S := Unit) l yX1_pred (ws_ yX1_pred cX1_pred 2 (some .int)) rq3 G clR (tyX ca) (WX ad ca cp Ar De Ln Tm Td lv tt pb mv) [.ref (ad 0), .int v] (fun r _ => r = mI (bX Ar De Ln v.toInt64).1) (fun _ => WX ad ca cp Ar De Ln Tm Td lv tt (0 + (bX Ar De Ln v.toInt64).2) mv) := by
  refine ci_start (by decide) (Nat.le_of_ble_eq_true rfl) ?_
  intro p e s m args below meth c R Q A ls hx hb hml hown hts hR hA hK hP hD hret hl
  have hown : s.vm.findClass RX1 = some m.cls := hown
  have hS : va_S A s.heap s.heap [] := va_S.rf
  have hl : lv_has ls 2 [(0, .ref (ad 0)), (1, .int v)] := hl
  refine lv_aload_n hx hb dX1_pred_0 rfl (lv_at hl 0 rfl) ?_
  refine lv_iconst (v := (nI 0)) hx hb dX1_pred_1 (by decide +kernel) ?_
  refine va_put (D := G) (ci := 0) (v := .int (nI 0)) (ty := .int) (C := RX1) (T := TX1) (N := 10) hx hb hts in_X1 tyX1 tyX1_ok nmX1 hown hK hP hD hS 0 rfl rfl 8 (by decide) (hts _ q31) (fun _ h9 => h9) rfl (by decide +kernel) rfl rfl (Nat.le_of_ble_eq_true rfl) dX1_pred_2 (fun H locs hP hD hS => ?_)
  have hP : va_P G clR (WX ad ca cp Ar De Ln Tm Td lv tt 0 mv) H := hP
  have hD : va_D A (WX ad ca cp Ar De Ln Tm Td lv tt 0 mv) := hD
  refine lv_aload_n hx hb dX1_pred_5 rfl (lv_at hl 0 rfl) ?_
  refine lv_iload_n hx hb dX1_pred_6 rfl (lv_at hl 1 rfl) ?_
  refine lv_i2l (v := v.toInt64) hx hb dX1_pred_7 rfl ?_
  refine sf_calli (C := RX1) (As := [.long (v.toInt64)]) (rest := []) ⟨hx, hb, hml, hown, hts⟩ (metX1_below l G ad ca cp Ar De Ln Tm Td lv tt 0 mv (v.toInt64) hL) (cwV 1 hts (lw_V q92 q94 qs4 q13 q95) rfl rfl rfl (by decide +kernel) (by rw [hR]; exact ⟨by decide, by decide⟩)) hK hP hD hS hA rfl rfl rfl hl.1 rfl (Nat.le_of_ble_eq_true rfl) dX1_pred_8 ⟨Nat.zero_le _, Nat.zero_le _⟩ (fun r u H locs hpo hP hD hS => ?_)
  subst hpo
  have hP : va_P G clR (WX ad ca cp Ar De Ln Tm Td lv tt (0 + (bX Ar De Ln (v.toInt64)).2) mv) H := hP
  have hD : va_D A (WX ad ca cp Ar De Ln Tm Td lv tt (0 + (bX Ar De Ln (v.toInt64)).2) mv) := hD
  refine lv_iconst (v := (nI 1)) hx hb dX1_pred_11 (by decide +kernel) ?_
  refine rr_nsub1 hx hb dX1_pred_12 ?_
  exact hret 13 _ _ _ _ () dX1_pred_13 rfl hP hD hS
set_option maxHeartbeats 4000000 in
set_option maxRecDepth 100000 in
theorem metX1_succ (l : Launch) (G : va_G) (ad : Nat → Nat) (ca : Nat → ClassId) (cp : Nat) (Ar : Nat → Int32) (De : Nat → Bool) (Ln : Nat → Nat) (Tm : Nat → Int32) (Td : Nat → Bool) (lv tt pb mv : Nat) (v : Int32) (hL : ∀ j, j < 10 → Ln j ≤ 2 ^ j) (hn : lv < 2147483648) (hf : (bX Ar De Ln (v.toInt64 + 1)).1 < 2147483648) : CI (S := Unit) l yX1_succ (ws_ yX1_succ cX1_succ 3 (some .int)) rq3 G clR (tyX ca) (WX ad ca cp Ar De Ln Tm Td lv tt pb mv) [.ref (ad 0), .int v] (fun r _ => r = if (bX Ar De Ln (v.toInt64 + 1)).1 < lv then nI (bX Ar De Ln (v.toInt64 + 1)).1 else -1) (fun _ => WX ad ca cp Ar De Ln Tm Td lv tt (0 + (bX Ar De Ln (v.toInt64 + 1)).2) mv) := by
  refine ci_start (by decide) (Nat.le_of_ble_eq_true rfl) ?_
  intro p e s m args below meth c R Q A ls hx hb hml hown hts hR hA hK hP hD hret hl
  have hown : s.vm.findClass RX1 = some m.cls := hown
  have hS : va_S A s.heap s.heap [] := va_S.rf
  have hl : lv_has ls 3 [(0, .ref (ad 0)), (1, .int v)] := hl
  refine lv_aload_n hx hb dX1_succ_0 rfl (lv_at hl 0 rfl) ?_
  refine lv_iconst (v := (nI 0)) hx hb dX1_succ_1 (by decide +kernel) ?_
  refine va_put (D := G) (ci := 0) (v := .int (nI 0)) (ty := .int) (C := RX1) (T := TX1) (N := 10) hx hb hts in_X1 tyX1 tyX1_ok nmX1 hown hK hP hD hS 0 rfl rfl 8 (by decide) (hts _ q31) (fun _ h9 => h9) rfl (by decide +kernel) rfl rfl (Nat.le_of_ble_eq_true rfl) dX1_succ_2 (fun H locs hP hD hS => ?_)
  have hP : va_P G clR (WX ad ca cp Ar De Ln Tm Td lv tt 0 mv) H := hP
  have hD : va_D A (WX ad ca cp Ar De Ln Tm Td lv tt 0 mv) := hD
  refine lv_aload_n hx hb dX1_succ_5 rfl (lv_at hl 0 rfl) ?_
  refine lv_iload_n hx hb dX1_succ_6 rfl (lv_at hl 1 rfl) ?_
  refine lv_i2l (v := v.toInt64) hx hb dX1_succ_7 rfl ?_
  refine lv_lconst (v := 1) hx hb dX1_succ_8 (by decide +kernel) ?_
  refine lv_ladd hx hb dX1_succ_9 ?_
  refine sf_calli (C := RX1) (As := [.long ((v.toInt64) + 1)]) (rest := []) ⟨hx, hb, hml, hown, hts⟩ (metX1_below l G ad ca cp Ar De Ln Tm Td lv tt 0 mv (v.toInt64 + 1) hL) (cwV 1 hts (lw_V q92 q94 qs4 q13 q95) rfl rfl rfl (by decide +kernel) (by rw [hR]; exact ⟨by decide, by decide⟩)) hK hP hD hS hA rfl rfl rfl hl.1 rfl (Nat.le_of_ble_eq_true rfl) dX1_succ_10 ⟨Nat.zero_le _, Nat.zero_le _⟩ (fun r u H locs hpo hP hD hS => ?_)
  subst hpo
  have hP : va_P G clR (WX ad ca cp Ar De Ln Tm Td lv tt (0 + (bX Ar De Ln (v.toInt64 + 1)).2) mv) H := hP
  have hD : va_D A (WX ad ca cp Ar De Ln Tm Td lv tt (0 + (bX Ar De Ln (v.toInt64 + 1)).2) mv) := hD
  refine lv_istore_n (lv' := [(2, .int (nI ((bX Ar De Ln (v.toInt64 + 1)).1))), (0, .ref (ad 0)), (1, .int v)]) hx hb dX1_succ_13 rfl hl (by decide) rfl (fun ls hl => ?_)
  refine lv_iload_n hx hb dX1_succ_14 rfl (lv_at hl 0 rfl) ?_
  refine lv_aload_n hx hb dX1_succ_15 rfl (lv_at hl 1 rfl) ?_
  refine va_get (D := G) (ci := 0) (v := .int (nI lv)) (C := RX1) (T := TX1) (N := 10) hx hb hts in_X1 hown hK hP 0 rfl rfl 6 (by decide) (hts _ q29) (fun _ h9 => h9) rfl dX1_succ_16 ?_
  refine rr_icmp_ge (tgt := 26) hx hb dX1_succ_19 (by decide) (by omega) (by omega) (fun c1 => ?_) (fun c1 => ?_)
  · refine lv_iconst (v := (-1)) hx hb dX1_succ_26 (by decide +kernel) ?_
    exact hret 27 _ _ _ _ () dX1_succ_27 (by rw [if_neg (Nat.not_lt.mpr c1)]) hP hD hS
  · refine lv_iload_n hx hb dX1_succ_22 rfl (lv_at hl 0 rfl) ?_
    refine lv_goto (tgt := 27) hx hb dX1_succ_23 (by decide) ?_
    exact hret 27 _ _ _ _ () dX1_succ_27 (by rw [if_pos c1]) hP hD hS
set_option maxHeartbeats 4000000 in
set_option maxRecDepth 100000 in
theorem metX1_rangeCount (l : Launch) (G : va_G) (ad : Nat → Nat) (ca : Nat → ClassId) (cp : Nat) (Ar : Nat → Int32) (De : Nat → Bool) (Ln : Nat → Nat) (Tm : Nat → Int32) (Td : Nat → Bool) (lv tt pb mv : Nat) (v v2 : Int32) (hL : ∀ j, j < 10 → Ln j ≤ 2 ^ j) : CI (S := Nat) l yX1_rangeCount (ws_ yX1_rangeCount cX1_rangeCount 4 (some .int)) rq3 G clR (tyX ca) (WX ad ca cp Ar De Ln Tm Td lv tt pb mv) [.ref (ad 0), .int v, .int v2] (fun r u => (v ≤ v2 → r = nI (bX Ar De Ln (v2.toInt64 + 1)).1 - nI (bX Ar De Ln v.toInt64).1 ∧ u = 0 + (bX Ar De Ln v.toInt64).2 + (bX Ar De Ln (v2.toInt64 + 1)).2) ∧ (¬ v ≤ v2 → r = nI 0 ∧ u = 0)) (fun u => WX ad ca cp Ar De Ln Tm Td lv tt u mv) := by
  refine ci_start (by decide) (Nat.le_of_ble_eq_true rfl) ?_
  intro p e s m args below meth c R Q A ls hx hb hml hown hts hR hA hK hP hD hret hl
  have hown : s.vm.findClass RX1 = some m.cls := hown
  have hS : va_S A s.heap s.heap [] := va_S.rf
  have hl : lv_has ls 4 [(0, .ref (ad 0)), (1, .int v), (2, .int v2)] := hl
  refine lv_aload_n hx hb dX1_rangeCount_0 rfl (lv_at hl 0 rfl) ?_
  refine lv_iconst (v := (nI 0)) hx hb dX1_rangeCount_1 (by decide +kernel) ?_
  refine va_put (D := G) (ci := 0) (v := .int (nI 0)) (ty := .int) (C := RX1) (T := TX1) (N := 10) hx hb hts in_X1 tyX1 tyX1_ok nmX1 hown hK hP hD hS 0 rfl rfl 8 (by decide) (hts _ q31) (fun _ h9 => h9) rfl (by decide +kernel) rfl rfl (Nat.le_of_ble_eq_true rfl) dX1_rangeCount_2 (fun H locs hP hD hS => ?_)
  have hP : va_P G clR (WX ad ca cp Ar De Ln Tm Td lv tt 0 mv) H := hP
  have hD : va_D A (WX ad ca cp Ar De Ln Tm Td lv tt 0 mv) := hD
  refine lv_iload_n hx hb dX1_rangeCount_5 rfl (lv_at hl 1 rfl) ?_
  refine lv_iload_n hx hb dX1_rangeCount_6 rfl (lv_at hl 2 rfl) ?_
  refine lv_icmp_le (tgt := 12) hx hb dX1_rangeCount_7 (by decide) (fun c1 => ?_) (fun c1 => ?_)
  · refine lv_aload_n hx hb dX1_rangeCount_12 rfl (lv_at hl 0 rfl) ?_
    refine lv_iload_n hx hb dX1_rangeCount_13 rfl (lv_at hl 1 rfl) ?_
    refine lv_i2l (v := v.toInt64) hx hb dX1_rangeCount_14 rfl ?_
    refine sf_calli (C := RX1) (As := [.long (v.toInt64)]) (rest := []) ⟨hx, hb, hml, hown, hts⟩ (metX1_below l G ad ca cp Ar De Ln Tm Td lv tt 0 mv (v.toInt64) hL) (cwV 1 hts (lw_V q92 q94 qs4 q13 q95) rfl rfl rfl (by decide +kernel) (by rw [hR]; exact ⟨by decide, by decide⟩)) hK hP hD hS hA rfl rfl rfl hl.1 rfl (Nat.le_of_ble_eq_true rfl) dX1_rangeCount_15 ⟨Nat.zero_le _, Nat.zero_le _⟩ (fun r u H locs hpo hP hD hS => ?_)
    subst hpo
    have hP : va_P G clR (WX ad ca cp Ar De Ln Tm Td lv tt (0 + (bX Ar De Ln (v.toInt64)).2) mv) H := hP
    have hD : va_D A (WX ad ca cp Ar De Ln Tm Td lv tt (0 + (bX Ar De Ln (v.toInt64)).2) mv) := hD
    refine lv_istore_n (lv' := [(3, .int (nI ((bX Ar De Ln (v.toInt64)).1))), (0, .ref (ad 0)), (1, .int v), (2, .int v2)]) hx hb dX1_rangeCount_18 rfl hl (by decide) rfl (fun ls hl => ?_)
    refine lv_aload_n hx hb dX1_rangeCount_19 rfl (lv_at hl 1 rfl) ?_
    refine lv_iload_n hx hb dX1_rangeCount_20 rfl (lv_at hl 3 rfl) ?_
    refine lv_i2l (v := v2.toInt64) hx hb dX1_rangeCount_21 rfl ?_
    refine lv_lconst (v := 1) hx hb dX1_rangeCount_22 (by decide +kernel) ?_
    refine lv_ladd hx hb dX1_rangeCount_23 ?_
    refine sf_calli (C := RX1) (As := [.long ((v2.toInt64) + 1)]) (rest := []) ⟨hx, hb, hml, hown, hts⟩ (metX1_below l G ad ca cp Ar De Ln Tm Td lv tt (0 + (bX Ar De Ln v.toInt64).2) mv (v2.toInt64 + 1) hL) (cwV 1 hts (lw_V q92 q94 qs4 q13 q95) rfl rfl rfl (by decide +kernel) (by rw [hR]; exact ⟨by decide, by decide⟩)) hK hP hD hS hA rfl rfl rfl hl.1 rfl (Nat.le_of_ble_eq_true rfl) dX1_rangeCount_24 ⟨Nat.zero_le _, Nat.zero_le _⟩ (fun r u H locs hpo hP hD hS => ?_)
    subst hpo
    have hP : va_P G clR (WX ad ca cp Ar De Ln Tm Td lv tt (0 + (bX Ar De Ln v.toInt64).2 + (bX Ar De Ln (v2.toInt64 + 1)).2) mv) H := hP
    have hD : va_D A (WX ad ca cp Ar De Ln Tm Td lv tt (0 + (bX Ar De Ln v.toInt64).2 + (bX Ar De Ln (v2.toInt64 + 1)).2) mv) := hD
    refine lv_iload_n hx hb dX1_rangeCount_27 rfl (lv_at hl 0 rfl) ?_
    refine lv_isub hx hb dX1_rangeCount_28 ?_
    exact hret 29 _ _ _ _ _ dX1_rangeCount_29 ⟨fun _ => ⟨rfl, rfl⟩, fun h => absurd c1 h⟩ hP hD hS
  · refine lv_iconst (v := (nI 0)) hx hb dX1_rangeCount_10 (by decide +kernel) ?_
    exact hret 11 _ _ _ _ _ dX1_rangeCount_11 ⟨fun h => absurd h c1, fun _ => ⟨rfl, rfl⟩⟩ hP hD hS
set_option maxHeartbeats 4000000 in
set_option maxRecDepth 100000 in
theorem metX1_has (l : Launch) (G : va_G) (ad : Nat → Nat) (ca : Nat → ClassId) (cp : Nat) (Ar : Nat → Int32) (De : Nat → Bool) (Ln : Nat → Nat) (Tm : Nat → Int32) (Td : Nat → Bool) (lv tt pb mv : Nat) (k : Int32)  : CI (S := Unit) l yX1_has (ws_ yX1_has cX1_has 2 (some .boolean)) rq3 G clR (tyX ca) (WX ad ca cp Ar De Ln Tm Td lv tt pb mv) [.ref (ad 0), .int k] (fun r _ => r = bI (decide (¬ k < 0 ∧ ¬ nI lv ≤ k))) (fun _ => WX ad ca cp Ar De Ln Tm Td lv tt 0 mv) := by
  refine cz_start (by decide) (Nat.le_of_ble_eq_true rfl) ?_
  intro p e s m args below meth c R Q A ls hx hb hml hown hts hR hA hK hP hD hret hl
  have hown : s.vm.findClass RX1 = some m.cls := hown
  have hS : va_S A s.heap s.heap [] := va_S.rf
  have hl : lv_has ls 2 [(0, .ref (ad 0)), (1, .int k)] := hl
  refine lv_aload_n hx hb dX1_has_0 rfl (lv_at hl 0 rfl) ?_
  refine lv_iconst (v := (nI 0)) hx hb dX1_has_1 (by decide +kernel) ?_
  refine va_put (D := G) (ci := 0) (v := .int (nI 0)) (ty := .int) (C := RX1) (T := TX1) (N := 10) hx hb hts in_X1 tyX1 tyX1_ok nmX1 hown hK hP hD hS 0 rfl rfl 8 (by decide) (hts _ q31) (fun _ h9 => h9) rfl (by decide +kernel) rfl rfl (Nat.le_of_ble_eq_true rfl) dX1_has_2 (fun H locs hP hD hS => ?_)
  have hP : va_P G clR (WX ad ca cp Ar De Ln Tm Td lv tt 0 mv) H := hP
  have hD : va_D A (WX ad ca cp Ar De Ln Tm Td lv tt 0 mv) := hD
  refine lv_iload_n hx hb dX1_has_5 rfl (lv_at hl 1 rfl) ?_
  refine lv_if_lt (tgt := 21) hx hb dX1_has_6 (by decide) (fun c1 => ?_) (fun c1 => ?_)
  · refine lv_iconst (v := (bI false)) hx hb dX1_has_21 (by decide +kernel) ?_
    exact hret 22 _ _ _ _ () dX1_has_22 (by rw [decide_eq_false (fun h => h.1 c1)]) hP hD hS
  · refine lv_iload_n hx hb dX1_has_9 rfl (lv_at hl 1 rfl) ?_
    refine lv_aload_n hx hb dX1_has_10 rfl (lv_at hl 0 rfl) ?_
    refine va_get (D := G) (ci := 0) (v := .int (nI lv)) (C := RX1) (T := TX1) (N := 10) hx hb hts in_X1 hown hK hP 0 rfl rfl 6 (by decide) (hts _ q29) (fun _ h9 => h9) rfl dX1_has_11 ?_
    refine lv_icmp_ge (tgt := 21) hx hb dX1_has_14 (by decide) (fun c2 => ?_) (fun c2 => ?_)
    · refine lv_iconst (v := (bI false)) hx hb dX1_has_21 (by decide +kernel) ?_
      exact hret 22 _ _ _ _ () dX1_has_22 (by rw [decide_eq_false (fun h => h.2 c2)]) hP hD hS
    · refine lv_iconst (v := (bI true)) hx hb dX1_has_17 (by decide +kernel) ?_
      refine lv_goto (tgt := 22) hx hb dX1_has_18 (by decide) ?_
      exact hret 22 _ _ _ _ () dX1_has_22 (by rw [decide_eq_true ⟨c1, c2⟩]) hP hD hS
set_option maxHeartbeats 4000000 in
set_option maxRecDepth 100000 in
theorem metX1_select (l : Launch) (G : va_G) (ad : Nat → Nat) (ca : Nat → ClassId) (cp : Nat) (Ar : Nat → Int32) (De : Nat → Bool) (Ln : Nat → Nat) (Tm : Nat → Int32) (Td : Nat → Bool) (lv tt pb mv : Nat) (k : Int32) (hL : ∀ j, j < 10 → Ln j ≤ 2 ^ j) : CI (S := Nat) l yX1_select (ws_ yX1_select cX1_select 8 (some .int)) rq3 G clR (tyX ca) (WX ad ca cp Ar De Ln Tm Td lv tt pb mv) [.ref (ad 0), .int k] (fun r u => ((¬ k < 0 ∧ ¬ nI lv ≤ k) → r = (selr (bX Ar De Ln) k).1.toInt32 ∧ u = (selr (bX Ar De Ln) k).2) ∧ (¬ (¬ k < 0 ∧ ¬ nI lv ≤ k) → r = nI 0 ∧ u = 0)) (fun u => WX ad ca cp Ar De Ln Tm Td lv tt u mv) := by
  refine ci_start (by decide) (Nat.le_of_ble_eq_true rfl) ?_
  intro p e s m args below meth c R Q A ls hx hb hml hown hts hR hA hK hP hD hret hl
  have hown : s.vm.findClass RX1 = some m.cls := hown
  have hS : va_S A s.heap s.heap [] := va_S.rf
  have hl : lv_has ls 8 [(0, .ref (ad 0)), (1, .int k)] := hl
  have loop : ∀ (n q : Nat) (lo hh : Int64), (¬ k < 0 ∧ ¬ nI lv ≤ k) → selB lo hh n → (sel (bX Ar De Ln) k n lo hh).1 = (selr (bX Ar De Ln) k).1 → q + (sel (bX Ar De Ln) k n lo hh).2 = (selr (bX Ar De Ln) k).2 → ∀ (H : Heap) (locs : List Loc), va_P G clR (WX ad ca cp Ar De Ln Tm Td lv tt q mv) H → va_D A (WX ad ca cp Ar De Ln Tm Td lv tt q mv) → va_S A s.heap H locs → ∀ ls : Array Slot, lv_has ls 8 [(4, .long hh), (2, .long lo), (0, .ref (ad 0)), (1, .int k)] → W p l e R s m args below meth c H locs 0 0 Q (F0 m 28 ls []) := by
    intro n
    induction n with
    | zero =>
      intro q lo hh hk hB e1 e2 H locs hP hD hS ls hl
      have h0 := selB_0 hB
      rw [sel_out h0] at e1 e2
      have e2 : q = (selr (bX Ar De Ln) k).2 := e2
      have e1 : lo = (selr (bX Ar De Ln) k).1 := e1
      refine lv_lload_n hx hb dX1_select_28 rfl (lv_at hl 1 rfl) ?_
      refine lv_lload hx hb dX1_select_29 (lv_at hl 0 rfl) ?_
      refine rr_lcmp_ge (tgt := 70) hx hb dX1_select_31 dX1_select_32 (by decide) (fun c1 => ?_) (fun c1 => ?_)
      · refine lv_lload_n hx hb dX1_select_70 rfl (lv_at hl 1 rfl) ?_
        refine lv_l2i (v := lo.toInt32) hx hb dX1_select_71 rfl ?_
        exact hret 72 _ _ _ _ _ dX1_select_72 ⟨fun _ => ⟨by rw [e1], e2⟩, fun h => absurd hk h⟩ hP hD hS
      · exact absurd h0 c1
    | succ n ih =>
      intro q lo hh hk hB e1 e2 H locs hP hD hS ls hl
      refine lv_lload_n hx hb dX1_select_28 rfl (lv_at hl 1 rfl) ?_
      refine lv_lload hx hb dX1_select_29 (lv_at hl 0 rfl) ?_
      refine rr_lcmp_ge (tgt := 70) hx hb dX1_select_31 dX1_select_32 (by decide) (fun c1 => ?_) (fun c1 => ?_)
      · rw [sel_out c1] at e1 e2
        have e2 : q = (selr (bX Ar De Ln) k).2 := e2
        have e1 : lo = (selr (bX Ar De Ln) k).1 := e1
        refine lv_lload_n hx hb dX1_select_70 rfl (lv_at hl 1 rfl) ?_
        refine lv_l2i (v := lo.toInt32) hx hb dX1_select_71 rfl ?_
        exact hret 72 _ _ _ _ _ dX1_select_72 ⟨fun _ => ⟨by rw [e1], e2⟩, fun h => absurd hk h⟩ hP hD hS
      · have hB2 := selB_step hB c1
        refine lv_lload_n hx hb dX1_select_35 rfl (lv_at hl 1 rfl) ?_
        refine lv_lload hx hb dX1_select_36 (lv_at hl 0 rfl) ?_
        refine lv_ladd hx hb dX1_select_38 ?_
        refine lv_iconst (v := (nI 1)) hx hb dX1_select_39 (by decide +kernel) ?_
        refine lv_lshr (v := sh1 (lo + hh)) hx hb dX1_select_40 rfl ?_
        refine lv_lstore (lv' := [(6, .long (sh1 (lo + hh))), (4, .long hh), (2, .long lo), (0, .ref (ad 0)), (1, .int k)]) hx hb dX1_select_41 hl (by decide) rfl (fun ls hl => ?_)
        refine lv_aload_n hx hb dX1_select_43 rfl (lv_at hl 3 rfl) ?_
        refine lv_lload hx hb dX1_select_44 (lv_at hl 0 rfl) ?_
        refine lv_lconst (v := 1) hx hb dX1_select_46 (by decide +kernel) ?_
        refine lv_ladd hx hb dX1_select_47 ?_
        refine sf_calli (C := RX1) (As := [.long ((sh1 (lo + hh)) + 1)]) (rest := []) ⟨hx, hb, hml, hown, hts⟩ (metX1_below l G ad ca cp Ar De Ln Tm Td lv tt q mv (sh1 (lo + hh) + 1) hL) (cwV 1 hts (lw_V q92 q94 qs4 q13 q95) rfl rfl rfl (by decide +kernel) (by rw [hR]; exact ⟨by decide, by decide⟩)) hK hP hD hS hA rfl rfl rfl hl.1 rfl (Nat.le_of_ble_eq_true rfl) dX1_select_48 ⟨Nat.zero_le _, Nat.zero_le _⟩ (fun r u H locs hpo hP hD hS => ?_)
        subst hpo
        have hP : va_P G clR (WX ad ca cp Ar De Ln Tm Td lv tt (q + (bX Ar De Ln (sh1 (lo + hh) + 1)).2) mv) H := hP
        have hD : va_D A (WX ad ca cp Ar De Ln Tm Td lv tt (q + (bX Ar De Ln (sh1 (lo + hh) + 1)).2) mv) := hD
        refine lv_iload_n hx hb dX1_select_51 rfl (lv_at hl 4 rfl) ?_
        refine lv_icmp_le (tgt := 62) hx hb dX1_select_52 (by decide) (fun c2 => ?_) (fun c2 => ?_)
        · rw [sel_up c1 c2] at e1 e2
          refine lv_lload hx hb dX1_select_62 (lv_at hl 0 rfl) ?_
          refine lv_lconst (v := 1) hx hb dX1_select_64 (by decide +kernel) ?_
          refine lv_ladd hx hb dX1_select_65 ?_
          refine lv_lstore_n (lv' := [(2, .long ((sh1 (lo + hh)) + 1)), (6, .long (sh1 (lo + hh))), (4, .long hh), (0, .ref (ad 0)), (1, .int k)]) hx hb dX1_select_66 rfl hl (by decide) rfl (fun ls hl => ?_)
          refine lv_goto (tgt := 28) hx hb dX1_select_67 (by decide) ?_
          exact ih _ _ _ hk hB2.1 e1 (by rw [← e2, Nat.add_assoc]) _ _ hP hD hS _ (lv_sub hl [2, 0, 3, 4] rfl)
        · rw [sel_dn c1 c2] at e1 e2
          refine lv_lload hx hb dX1_select_55 (lv_at hl 0 rfl) ?_
          refine lv_lstore (lv' := [(4, .long (sh1 (lo + hh))), (6, .long (sh1 (lo + hh))), (2, .long lo), (0, .ref (ad 0)), (1, .int k)]) hx hb dX1_select_57 hl (by decide) rfl (fun ls hl => ?_)
          refine lv_goto (tgt := 67) hx hb dX1_select_59 (by decide) ?_
          refine lv_goto (tgt := 28) hx hb dX1_select_67 (by decide) ?_
          exact ih _ _ _ hk hB2.2 e1 (by rw [← e2, Nat.add_assoc]) _ _ hP hD hS _ (lv_sub hl [0, 2, 3, 4] rfl)
  refine lv_aload_n hx hb dX1_select_0 rfl (lv_at hl 0 rfl) ?_
  refine lv_iconst (v := (nI 0)) hx hb dX1_select_1 (by decide +kernel) ?_
  refine va_put (D := G) (ci := 0) (v := .int (nI 0)) (ty := .int) (C := RX1) (T := TX1) (N := 10) hx hb hts in_X1 tyX1 tyX1_ok nmX1 hown hK hP hD hS 0 rfl rfl 8 (by decide) (hts _ q31) (fun _ h9 => h9) rfl (by decide +kernel) rfl rfl (Nat.le_of_ble_eq_true rfl) dX1_select_2 (fun H locs hP hD hS => ?_)
  have hP : va_P G clR (WX ad ca cp Ar De Ln Tm Td lv tt 0 mv) H := hP
  have hD : va_D A (WX ad ca cp Ar De Ln Tm Td lv tt 0 mv) := hD
  refine lv_iload_n hx hb dX1_select_5 rfl (lv_at hl 1 rfl) ?_
  refine lv_if_lt (tgt := 17) hx hb dX1_select_6 (by decide) (fun c1 => ?_) (fun c1 => ?_)
  · refine lv_iconst (v := (nI 0)) hx hb dX1_select_17 (by decide +kernel) ?_
    exact hret 18 _ _ _ _ _ dX1_select_18 ⟨fun h => absurd c1 h.1, fun _ => ⟨rfl, rfl⟩⟩ hP hD hS
  · refine lv_iload_n hx hb dX1_select_9 rfl (lv_at hl 1 rfl) ?_
    refine lv_aload_n hx hb dX1_select_10 rfl (lv_at hl 0 rfl) ?_
    refine va_get (D := G) (ci := 0) (v := .int (nI lv)) (C := RX1) (T := TX1) (N := 10) hx hb hts in_X1 hown hK hP 0 rfl rfl 6 (by decide) (hts _ q29) (fun _ h9 => h9) rfl dX1_select_11 ?_
    refine lv_icmp_lt (tgt := 19) hx hb dX1_select_14 (by decide) (fun c2 => ?_) (fun c2 => ?_)
    · have c3 : ¬ nI lv ≤ k := i_nle.mpr c2
      refine lv_ldc2 hx hb hown (hts _ q112) dX1_select_19 ?_
      refine lv_lstore_n (lv' := [(2, .long (-2147483648)), (0, .ref (ad 0)), (1, .int k)]) hx hb dX1_select_22 rfl hl (by decide) rfl (fun ls hl => ?_)
      refine lv_ldc2 hx hb hown (hts _ q113) dX1_select_23 ?_
      refine lv_lstore (lv' := [(4, .long (2147483647)), (2, .long (-2147483648)), (0, .ref (ad 0)), (1, .int k)]) hx hb dX1_select_26 hl (by decide) rfl (fun ls hl => ?_)
      exact loop 4294967295 0 (-2147483648) 2147483647 ⟨c1, c3⟩ selB_start rfl (Nat.zero_add _) _ _ hP hD hS _ (lv_sub hl [0, 1, 2, 3] rfl)
    · have c3 : nI lv ≤ k := i_nlt.mp c2
      refine lv_iconst (v := (nI 0)) hx hb dX1_select_17 (by decide +kernel) ?_
      exact hret 18 _ _ _ _ _ dX1_select_18 ⟨fun h => absurd c3 h.2, fun _ => ⟨rfl, rfl⟩⟩ hP hD hS
set_option maxHeartbeats 4000000 in
set_option maxRecDepth 100000 in
theorem metX1_size (l : Launch) (G : va_G) (ad : Nat → Nat) (ca : Nat → ClassId) (cp : Nat) (Ar : Nat → Int32) (De : Nat → Bool) (Ln : Nat → Nat) (Tm : Nat → Int32) (Td : Nat → Bool) (lv tt pb mv : Nat)   : CI (S := Unit) l yX1_size (ws_ yX1_size cX1_size 1 (some .int)) rq3 G clR (tyX ca) (WX ad ca cp Ar De Ln Tm Td lv tt pb mv) [.ref (ad 0)] (fun r _ => r = nI lv) (fun _ => WX ad ca cp Ar De Ln Tm Td lv tt pb mv) := by
  refine ci_start (by decide) (Nat.le_of_ble_eq_true rfl) ?_
  intro p e s m args below meth c R Q A ls hx hb hml hown hts hR hA hK hP hD hret hl
  have hown : s.vm.findClass RX1 = some m.cls := hown
  have hS : va_S A s.heap s.heap [] := va_S.rf
  have hl : lv_has ls 1 [(0, .ref (ad 0))] := hl
  refine lv_aload_n hx hb dX1_size_0 rfl (lv_at hl 0 rfl) ?_
  refine va_get (D := G) (ci := 0) (v := .int (nI lv)) (C := RX1) (T := TX1) (N := 10) hx hb hts in_X1 hown hK hP 0 rfl rfl 6 (by decide) (hts _ q29) (fun _ h9 => h9) rfl dX1_size_1 ?_
  exact hret 4 _ _ _ _ () dX1_size_4 rfl hP hD hS
set_option maxHeartbeats 4000000 in
set_option maxRecDepth 100000 in
theorem metX1_movesMade (l : Launch) (G : va_G) (ad : Nat → Nat) (ca : Nat → ClassId) (cp : Nat) (Ar : Nat → Int32) (De : Nat → Bool) (Ln : Nat → Nat) (Tm : Nat → Int32) (Td : Nat → Bool) (lv tt pb mv : Nat)   : CI (S := Unit) l yX1_movesMade (ws_ yX1_movesMade cX1_movesMade 1 (some .int)) rq3 G clR (tyX ca) (WX ad ca cp Ar De Ln Tm Td lv tt pb mv) [.ref (ad 0)] (fun r _ => r = nI mv) (fun _ => WX ad ca cp Ar De Ln Tm Td lv tt pb mv) := by
  refine ci_start (by decide) (Nat.le_of_ble_eq_true rfl) ?_
  intro p e s m args below meth c R Q A ls hx hb hml hown hts hR hA hK hP hD hret hl
  have hown : s.vm.findClass RX1 = some m.cls := hown
  have hS : va_S A s.heap s.heap [] := va_S.rf
  have hl : lv_has ls 1 [(0, .ref (ad 0))] := hl
  refine lv_aload_n hx hb dX1_movesMade_0 rfl (lv_at hl 0 rfl) ?_
  refine va_get (D := G) (ci := 0) (v := .int (nI mv)) (C := RX1) (T := TX1) (N := 10) hx hb hts in_X1 hown hK hP 0 rfl rfl 9 (by decide) (hts _ q32) (fun _ h9 => h9) rfl dX1_movesMade_1 ?_
  exact hret 4 _ _ _ _ () dX1_movesMade_4 rfl hP hD hS
set_option maxHeartbeats 4000000 in
set_option maxRecDepth 100000 in
theorem metX1_probesLast (l : Launch) (G : va_G) (ad : Nat → Nat) (ca : Nat → ClassId) (cp : Nat) (Ar : Nat → Int32) (De : Nat → Bool) (Ln : Nat → Nat) (Tm : Nat → Int32) (Td : Nat → Bool) (lv tt pb mv : Nat)   : CI (S := Unit) l yX1_probesLast (ws_ yX1_probesLast cX1_probesLast 1 (some .int)) rq3 G clR (tyX ca) (WX ad ca cp Ar De Ln Tm Td lv tt pb mv) [.ref (ad 0)] (fun r _ => r = nI pb) (fun _ => WX ad ca cp Ar De Ln Tm Td lv tt pb mv) := by
  refine ci_start (by decide) (Nat.le_of_ble_eq_true rfl) ?_
  intro p e s m args below meth c R Q A ls hx hb hml hown hts hR hA hK hP hD hret hl
  have hown : s.vm.findClass RX1 = some m.cls := hown
  have hS : va_S A s.heap s.heap [] := va_S.rf
  have hl : lv_has ls 1 [(0, .ref (ad 0))] := hl
  refine lv_aload_n hx hb dX1_probesLast_0 rfl (lv_at hl 0 rfl) ?_
  refine va_get (D := G) (ci := 0) (v := .int (nI pb)) (C := RX1) (T := TX1) (N := 10) hx hb hts in_X1 hown hK hP 0 rfl rfl 8 (by decide) (hts _ q31) (fun _ h9 => h9) rfl dX1_probesLast_1 ?_
  exact hret 4 _ _ _ _ () dX1_probesLast_4 rfl hP hD hS
set_option maxHeartbeats 4000000 in
set_option maxRecDepth 100000 in
theorem metX1_cellsOf (l : Launch) (G : va_G) (ad : Nat → Nat) (ca : Nat → ClassId) (cp : Nat) (Ar : Nat → Int32) (De : Nat → Bool) (Ln : Nat → Nat) (Tm : Nat → Int32) (Td : Nat → Bool) (lv tt pb mv : Nat) (k : Int32) (ht : lv ≤ tt) : CI (S := Unit) l yX1_cellsOf (ws_ yX1_cellsOf cX1_cellsOf 2 (some .int)) rq3 G clR (tyX ca) (WX ad ca cp Ar De Ln Tm Td lv tt pb mv) [.ref (ad 0), .int k] (fun r _ => (k = -1 → r = nI (tt - lv)) ∧ (k ≠ -1 → (k < 0 ∨ nI 10 ≤ k) → r = nI 0) ∧ (∀ j, j < 10 → k = nI j → r = nI (Ln j))) (fun _ => WX ad ca cp Ar De Ln Tm Td lv tt pb mv) := by
  refine ci_start (by decide) (Nat.le_of_ble_eq_true rfl) ?_
  intro p e s m args below meth c R Q A ls hx hb hml hown hts hR hA hK hP hD hret hl
  have hown : s.vm.findClass RX1 = some m.cls := hown
  have hS : va_S A s.heap s.heap [] := va_S.rf
  have hl : lv_has ls 2 [(0, .ref (ad 0)), (1, .int k)] := hl
  have hm : ∀ j, j < 10 → ¬ nI j < 0 ∧ ¬ nI 10 ≤ nI j ∧ nI j ≠ -1 := by decide +kernel
  refine lv_iload_n hx hb dX1_cellsOf_0 rfl (lv_at hl 1 rfl) ?_
  refine lv_iconst (v := (-1)) hx hb dX1_cellsOf_1 (by decide +kernel) ?_
  refine lv_icmp_ne (tgt := 17) hx hb dX1_cellsOf_2 (by decide) (fun c1 => ?_) (fun c1 => ?_)
  · refine lv_iload_n hx hb dX1_cellsOf_17 rfl (lv_at hl 1 rfl) ?_
    refine lv_if_lt (tgt := 36) hx hb dX1_cellsOf_18 (by decide) (fun c2 => ?_) (fun c2 => ?_)
    · refine lv_iconst (v := (nI 0)) hx hb dX1_cellsOf_36 (by decide +kernel) ?_
      exact hret 37 _ _ _ _ () dX1_cellsOf_37 ⟨fun h => absurd h c1, fun _ _ => rfl, fun j hj e => absurd c2 (by rw [e]; exact (hm j hj).1)⟩ hP hD hS
    · refine lv_iload_n hx hb dX1_cellsOf_21 rfl (lv_at hl 1 rfl) ?_
      refine lv_bipush (v := (nI 10)) hx hb dX1_cellsOf_22 (by decide +kernel) ?_
      refine lv_icmp_ge (tgt := 36) hx hb dX1_cellsOf_24 (by decide) (fun c3 => ?_) (fun c3 => ?_)
      · refine lv_iconst (v := (nI 0)) hx hb dX1_cellsOf_36 (by decide +kernel) ?_
        exact hret 37 _ _ _ _ () dX1_cellsOf_37 ⟨fun h => absurd h c1, fun _ _ => rfl, fun j hj e => absurd c3 (by rw [e]; exact (hm j hj).2.1)⟩ hP hD hS
      · obtain ⟨j, hj, ek⟩ : ∃ j : Nat, j < 10 ∧ k = nI j := by
          rcases pk_ix k (n := 10) (by decide) with h | h | h
          · exact absurd h c2
          · exact absurd h c3
          · exact h
        subst ek
        refine lv_aload_n hx hb dX1_cellsOf_27 rfl (lv_at hl 0 rfl) ?_
        refine va_get (D := G) (ci := 0) (v := .ref (ad 3)) (C := RX1) (T := TX1) (N := 10) hx hb hts in_X1 hown hK hP 0 rfl rfl 2 (by decide) (hts _ q25) (fun _ h9 => h9) rfl dX1_cellsOf_28 ?_
        refine lv_iload_n hx hb dX1_cellsOf_31 rfl (lv_at hl 1 rfl) ?_
        refine rr_nald (L := Ln) (k := j) hx hb hK hP 3 2 rfl rfl (by omega) (by decide) dX1_cellsOf_32 ?_
        refine lv_goto (tgt := 37) hx hb dX1_cellsOf_33 (by decide) ?_
        exact hret 37 _ _ _ _ () dX1_cellsOf_37 ⟨fun h => absurd h c1, fun _ h => h.elim (fun z => absurd z c2) (fun z => absurd z c3), fun j2 hj2 e => by rw [(nI_eq (by omega) (by omega)).mp e]⟩ hP hD hS
  · refine lv_aload_n hx hb dX1_cellsOf_5 rfl (lv_at hl 0 rfl) ?_
    refine va_get (D := G) (ci := 0) (v := .int (nI tt)) (C := RX1) (T := TX1) (N := 10) hx hb hts in_X1 hown hK hP 0 rfl rfl 7 (by decide) (hts _ q30) (fun _ h9 => h9) rfl dX1_cellsOf_6 ?_
    refine lv_aload_n hx hb dX1_cellsOf_9 rfl (lv_at hl 0 rfl) ?_
    refine va_get (D := G) (ci := 0) (v := .int (nI lv)) (C := RX1) (T := TX1) (N := 10) hx hb hts in_X1 hown hK hP 0 rfl rfl 6 (by decide) (hts _ q29) (fun _ h9 => h9) rfl dX1_cellsOf_10 ?_
    refine rr_nsub hx hb dX1_cellsOf_13 ht ?_
    refine lv_goto (tgt := 37) hx hb dX1_cellsOf_14 (by decide) ?_
    exact hret 37 _ _ _ _ () dX1_cellsOf_37 ⟨fun _ => rfl, fun h => absurd c1 h, fun j hj e => absurd c1 (by rw [e]; exact (hm j hj).2.2)⟩ hP hD hS
set_option maxHeartbeats 4000000 in
set_option maxRecDepth 100000 in
theorem metX1_cell (l : Launch) (G : va_G) (ad : Nat → Nat) (ca : Nat → ClassId) (cp : Nat) (Ar : Nat → Int32) (De : Nat → Bool) (Ln : Nat → Nat) (Tm : Nat → Int32) (Td : Nat → Bool) (lv tt pb mv : Nat) (k k2 : Int32) (hL : ∀ j, j < 10 → Ln j ≤ 2 ^ j) : CI (S := Unit) l yX1_cell (ws_ yX1_cell cX1_cell 3 (some .int)) rq3 G clR (tyX ca) (WX ad ca cp Ar De Ln Tm Td lv tt pb mv) [.ref (ad 0), .int k, .int k2] (fun r _ => ((k < 0 ∨ nI 10 ≤ k ∨ k2 < 0) → r = nI 0) ∧ (∀ j q, j < 10 → q < 2147483648 → k = nI j → k2 = nI q → r = if q < Ln j then Ar (2 ^ j - 1 + q) else nI 0)) (fun _ => WX ad ca cp Ar De Ln Tm Td lv tt pb mv) := by
  refine ci_start (by decide) (Nat.le_of_ble_eq_true rfl) ?_
  intro p e s m args below meth c R Q A ls hx hb hml hown hts hR hA hK hP hD hret hl
  have hown : s.vm.findClass RX1 = some m.cls := hown
  have hS : va_S A s.heap s.heap [] := va_S.rf
  have hl : lv_has ls 3 [(0, .ref (ad 0)), (1, .int k), (2, .int k2)] := hl
  have hm : ∀ j, j < 10 → ¬ nI j < 0 ∧ ¬ nI 10 ≤ nI j := by decide +kernel
  refine lv_iload_n hx hb dX1_cell_0 rfl (lv_at hl 1 rfl) ?_
  refine lv_if_lt (tgt := 38) hx hb dX1_cell_1 (by decide) (fun c1 => ?_) (fun c1 => ?_)
  · refine lv_iconst (v := (nI 0)) hx hb dX1_cell_38 (by decide +kernel) ?_
    exact hret 39 _ _ _ _ () dX1_cell_39 ⟨fun _ => rfl, fun j q hj hq e e2 => absurd c1 (by rw [e]; exact (hm j hj).1)⟩ hP hD hS
  · refine lv_iload_n hx hb dX1_cell_4 rfl (lv_at hl 1 rfl) ?_
    refine lv_bipush (v := (nI 10)) hx hb dX1_cell_5 (by decide +kernel) ?_
    refine lv_icmp_ge (tgt := 38) hx hb dX1_cell_7 (by decide) (fun c2 => ?_) (fun c2 => ?_)
    · refine lv_iconst (v := (nI 0)) hx hb dX1_cell_38 (by decide +kernel) ?_
      exact hret 39 _ _ _ _ () dX1_cell_39 ⟨fun _ => rfl, fun j q hj hq e e2 => absurd c2 (by rw [e]; exact (hm j hj).2)⟩ hP hD hS
    · refine lv_iload_n hx hb dX1_cell_10 rfl (lv_at hl 2 rfl) ?_
      refine lv_if_lt (tgt := 38) hx hb dX1_cell_11 (by decide) (fun c3 => ?_) (fun c3 => ?_)
      · refine lv_iconst (v := (nI 0)) hx hb dX1_cell_38 (by decide +kernel) ?_
        exact hret 39 _ _ _ _ () dX1_cell_39 ⟨fun _ => rfl, fun j q hj hq e e2 => absurd c3 (by rw [e2]; exact nI_pos hq)⟩ hP hD hS
      · obtain ⟨j, hj, ek⟩ : ∃ j : Nat, j < 10 ∧ k = nI j := by
          rcases pk_ix k (n := 10) (by decide) with h | h | h
          · exact absurd h c1
          · exact absurd h c2
          · exact h
        obtain ⟨q, hq, ek2⟩ := nI_of c3
        subst ek
        subst ek2
        have hp := rr_pow hj
        have hLj := hL j hj
        refine lv_iload_n hx hb dX1_cell_14 rfl (lv_at hl 2 rfl) ?_
        refine lv_aload_n hx hb dX1_cell_15 rfl (lv_at hl 0 rfl) ?_
        refine va_get (D := G) (ci := 0) (v := .ref (ad 3)) (C := RX1) (T := TX1) (N := 10) hx hb hts in_X1 hown hK hP 0 rfl rfl 2 (by decide) (hts _ q25) (fun _ h9 => h9) rfl dX1_cell_16 ?_
        refine lv_iload_n hx hb dX1_cell_19 rfl (lv_at hl 1 rfl) ?_
        refine rr_nald (L := Ln) (k := j) hx hb hK hP 3 2 rfl rfl (by omega) (by decide) dX1_cell_20 ?_
        refine rr_icmp_ge (tgt := 38) hx hb dX1_cell_21 (by decide) (by omega) (by omega) (fun c4 => ?_) (fun c4 => ?_)
        · refine lv_iconst (v := (nI 0)) hx hb dX1_cell_38 (by decide +kernel) ?_
          exact hret 39 _ _ _ _ () dX1_cell_39 ⟨fun h => h.elim (fun z => absurd z c1) (fun h => h.elim (fun z => absurd z c2) (fun z => absurd z c3)), fun j2 q2 hj2 hq2 e e2 => by rw [← (nI_eq (by omega) (by omega)).mp e, ← (nI_eq (by omega) (by omega)).mp e2, if_neg (Nat.not_lt.mpr c4)]⟩ hP hD hS
        · refine lv_aload_n hx hb dX1_cell_24 rfl (lv_at hl 0 rfl) ?_
          refine va_get (D := G) (ci := 0) (v := .ref (ad 1)) (C := RX1) (T := TX1) (N := 10) hx hb hts in_X1 hown hK hP 0 rfl rfl 0 (by decide) (hts _ q23) (fun _ h9 => h9) rfl dX1_cell_25 ?_
          refine lv_iload_n hx hb dX1_cell_28 rfl (lv_at hl 1 rfl) ?_
          refine so_X (i := j) hx hb hml hown hts (by omega) (by rw [hR]; exact ⟨by decide, by decide⟩) hl.1 (Nat.le_of_ble_eq_true rfl) dX1_cell_29 ?_
          refine lv_iload_n hx hb dX1_cell_32 rfl (lv_at hl 2 rfl) ?_
          refine rr_nadd hx hb dX1_cell_33 ?_
          refine rr_iald (f := Ar) (k := (2 ^ j - 1) + q) hx hb hK hP 1 0 rfl rfl (by omega) (by decide) dX1_cell_34 ?_
          refine lv_goto (tgt := 39) hx hb dX1_cell_35 (by decide) ?_
          exact hret 39 _ _ _ _ () dX1_cell_39 ⟨fun h => h.elim (fun z => absurd z c1) (fun h => h.elim (fun z => absurd z c2) (fun z => absurd z c3)), fun j2 q2 hj2 hq2 e e2 => by rw [← (nI_eq (by omega) (by omega)).mp e, ← (nI_eq (by omega) (by omega)).mp e2, if_pos c4]⟩ hP hD hS
end
section
/-! contracts of RankRuns: what is put in -/
set_option maxRecDepth 100000
set_option maxHeartbeats 4000000 in
set_option maxRecDepth 100000 in
theorem metX1_keep (l : Launch) (G : va_G) (ad : Nat → Nat) (ca : Nat → ClassId) (cp : Nat) (Ar : Nat → Int32) (De : Nat → Bool) (Ln : Nat → Nat) (Tm : Nat → Int32) (Td : Nat → Bool) (lv tt pb mv : Nat) (i at_ many : Nat) (hi : i < 10) (hm : many ≤ 2 ^ i) (ha : at_ + many ≤ 1024) : CV (S := Unit) l yX1_keep (ws_ yX1_keep cX1_keep 5 none) rq1 G clR (tyX ca) (WX ad ca cp Ar De Ln Tm Td lv tt pb mv) [.ref (ad 0), .int (nI i), .int (nI at_), .int (nI many)] (fun _ => True) (fun _ => WX ad ca cp (fb_put Ar (fun k => Tm (at_ + k)) (2 ^ i - 1) many) (fb_put De (fun k => Td (at_ + k)) (2 ^ i - 1) many) (va_up Ln i many) Tm Td lv tt pb mv) := by
  refine cv_start (by decide) (Nat.le_of_ble_eq_true rfl) ?_
  intro p e s m args below meth c R Q A ls hx hb hml hown hts hR hA hK hP hD hret hl
  have hown : s.vm.findClass RX1 = some m.cls := hown
  have hS : va_S A s.heap s.heap [] := va_S.rf
  have hl : lv_has ls 5 [(0, .ref (ad 0)), (1, .int (nI i)), (2, .int (nI at_)), (3, .int (nI many))] := hl
  have hp := rr_pow hi
  have loop : ∀ (n k : Nat) (A1 : Nat → Int32) (D1 : Nat → Bool), many - k < n → k ≤ many → A1 = (fb_put Ar (fun k => Tm (at_ + k)) (2 ^ i - 1) k) → D1 = (fb_put De (fun k => Td (at_ + k)) (2 ^ i - 1) k) → ∀ (H : Heap) (locs : List Loc), va_P G clR (WX ad ca cp A1 D1 Ln Tm Td lv tt pb mv) H → va_D A (WX ad ca cp A1 D1 Ln Tm Td lv tt pb mv) → va_S A s.heap H locs → ∀ ls : Array Slot, lv_has ls 5 [(4, .int (nI k)), (0, .ref (ad 0)), (1, .int (nI i)), (2, .int (nI at_)), (3, .int (nI many))] → W p l e R s m args below meth c H locs 0 0 Q (F0 m 3 ls []) := by
    intro n
    induction n with
    | zero =>
      intro k A1 D1 h1
      exact absurd h1 (by omega)
    | succ n ih =>
      intro k A1 D1 h1 h2 eA eD H locs hP hD hS ls hl
      refine lv_iload hx hb dX1_keep_3 (lv_at hl 0 rfl) ?_
      refine lv_iload_n hx hb dX1_keep_5 rfl (lv_at hl 4 rfl) ?_
      refine rr_icmp_ge (tgt := 57) hx hb dX1_keep_6 (by decide) (by omega) (by omega) (fun c1 => ?_) (fun c1 => ?_)
      · have ek : k = many := by omega
        refine lv_aload_n hx hb dX1_keep_57 rfl (lv_at hl 1 rfl) ?_
        refine va_get (D := G) (ci := 0) (v := .ref (ad 3)) (C := RX1) (T := TX1) (N := 10) hx hb hts in_X1 hown hK hP 0 rfl rfl 2 (by decide) (hts _ q25) (fun _ h9 => h9) rfl dX1_keep_58 ?_
        refine lv_iload_n hx hb dX1_keep_61 rfl (lv_at hl 2 rfl) ?_
        refine lv_iload_n hx hb dX1_keep_62 rfl (lv_at hl 4 rfl) ?_
        refine rr_nast (L := Ln) (k := i) hx hb hK hP hD hS 3 2 rfl rfl (by omega) (by decide) dX1_keep_63 (fun H locs hP hD hS => ?_)
        have hP : va_P G clR (WX ad ca cp A1 D1 (va_up Ln i many) Tm Td lv tt pb mv) H := hP
        have hD : va_D A (WX ad ca cp A1 D1 (va_up Ln i many) Tm Td lv tt pb mv) := hD
        subst ek
        subst eA
        subst eD
        exact hret 64 _ _ _ () dX1_keep_64 trivial hP hD hS
      · refine lv_aload_n hx hb dX1_keep_9 rfl (lv_at hl 1 rfl) ?_
        refine va_get (D := G) (ci := 0) (v := .ref (ad 1)) (C := RX1) (T := TX1) (N := 10) hx hb hts in_X1 hown hK hP 0 rfl rfl 0 (by decide) (hts _ q23) (fun _ h9 => h9) rfl dX1_keep_10 ?_
        refine lv_iload_n hx hb dX1_keep_13 rfl (lv_at hl 2 rfl) ?_
        refine so_X (i := i) hx hb hml hown hts (by omega) (by rw [hR]; exact ⟨by decide, by decide⟩) hl.1 (Nat.le_of_ble_eq_true rfl) dX1_keep_14 ?_
        refine lv_iload hx hb dX1_keep_17 (lv_at hl 0 rfl) ?_
        refine rr_nadd hx hb dX1_keep_19 ?_
        refine lv_aload_n hx hb dX1_keep_20 rfl (lv_at hl 1 rfl) ?_
        refine va_get (D := G) (ci := 0) (v := .ref (ad 4)) (C := RX1) (T := TX1) (N := 10) hx hb hts in_X1 hown hK hP 0 rfl rfl 3 (by decide) (hts _ q26) (fun _ h9 => h9) rfl dX1_keep_21 ?_
        refine lv_iload_n hx hb dX1_keep_24 rfl (lv_at hl 3 rfl) ?_
        refine lv_iload hx hb dX1_keep_25 (lv_at hl 0 rfl) ?_
        refine rr_nadd hx hb dX1_keep_27 ?_
        refine rr_iald (f := Tm) (k := at_ + k) hx hb hK hP 4 3 rfl rfl (by omega) (by decide) dX1_keep_28 ?_
        refine rr_iast (f := A1) (k := (2 ^ i - 1) + k) hx hb hK hP hD hS 1 0 rfl rfl (by omega) (by decide) dX1_keep_29 (fun H locs hP hD hS => ?_)
        have hP : va_P G clR (WX ad ca cp (va_up A1 ((2 ^ i - 1) + k) (Tm (at_ + k))) D1 Ln Tm Td lv tt pb mv) H := hP
        have hD : va_D A (WX ad ca cp (va_up A1 ((2 ^ i - 1) + k) (Tm (at_ + k))) D1 Ln Tm Td lv tt pb mv) := hD
        refine lv_aload_n hx hb dX1_keep_30 rfl (lv_at hl 1 rfl) ?_
        refine va_get (D := G) (ci := 0) (v := .ref (ad 2)) (C := RX1) (T := TX1) (N := 10) hx hb hts in_X1 hown hK hP 0 rfl rfl 1 (by decide) (hts _ q24) (fun _ h9 => h9) rfl dX1_keep_31 ?_
        refine lv_iload_n hx hb dX1_keep_34 rfl (lv_at hl 2 rfl) ?_
        refine so_X (i := i) hx hb hml hown hts (by omega) (by rw [hR]; exact ⟨by decide, by decide⟩) hl.1 (Nat.le_of_ble_eq_true rfl) dX1_keep_35 ?_
        refine lv_iload hx hb dX1_keep_38 (lv_at hl 0 rfl) ?_
        refine rr_nadd hx hb dX1_keep_40 ?_
        refine lv_aload_n hx hb dX1_keep_41 rfl (lv_at hl 1 rfl) ?_
        refine va_get (D := G) (ci := 0) (v := .ref (ad 5)) (C := RX1) (T := TX1) (N := 10) hx hb hts in_X1 hown hK hP 0 rfl rfl 4 (by decide) (hts _ q27) (fun _ h9 => h9) rfl dX1_keep_42 ?_
        refine lv_iload_n hx hb dX1_keep_45 rfl (lv_at hl 3 rfl) ?_
        refine lv_iload hx hb dX1_keep_46 (lv_at hl 0 rfl) ?_
        refine rr_nadd hx hb dX1_keep_48 ?_
        refine rr_zald (B := Td) (k := at_ + k) hx hb hK hP 5 4 rfl rfl (by omega) (by decide) dX1_keep_49 ?_
        refine rr_zast (B := D1) (k := (2 ^ i - 1) + k) hx hb hK hP hD hS 2 1 rfl rfl (by omega) (by decide) dX1_keep_50 (fun H locs hP hD hS => ?_)
        have hP : va_P G clR (WX ad ca cp (va_up A1 ((2 ^ i - 1) + k) (Tm (at_ + k))) (va_up D1 ((2 ^ i - 1) + k) (Td (at_ + k))) Ln Tm Td lv tt pb mv) H := hP
        have hD : va_D A (WX ad ca cp (va_up A1 ((2 ^ i - 1) + k) (Tm (at_ + k))) (va_up D1 ((2 ^ i - 1) + k) (Td (at_ + k))) Ln Tm Td lv tt pb mv) := hD
        refine lv_iinc (v := (nI (k + 1))) (lv' := [(4, .int (nI (k + 1))), (0, .ref (ad 0)), (1, .int (nI i)), (2, .int (nI at_)), (3, .int (nI many))]) hx hb dX1_keep_51 hl (k := 0) rfl (rr_inc k) (by decide) rfl (fun ls hl => ?_)
        refine lv_goto (tgt := 3) hx hb dX1_keep_54 (by decide) ?_
        exact ih (k + 1) _ _ (by omega) (by omega) (by rw [eA]; exact put_succ Ar (fun k => Tm (at_ + k)) (2 ^ i - 1) k) (by rw [eD]; exact put_succ De (fun k => Td (at_ + k)) (2 ^ i - 1) k) _ _ hP hD hS _ (lv_sub hl [0, 1, 2, 3, 4] rfl)
  refine lv_iconst (v := (nI 0)) hx hb dX1_keep_0 (by decide +kernel) ?_
  refine lv_istore (lv' := [(4, .int (nI 0)), (0, .ref (ad 0)), (1, .int (nI i)), (2, .int (nI at_)), (3, .int (nI many))]) hx hb dX1_keep_1 hl (by decide) rfl (fun ls hl => ?_)
  exact loop (many + 1) 0 Ar De (by omega) (Nat.zero_le _) (fb_put_0 _ _ _).symm (fb_put_0 _ _ _).symm _ _ hP hD hS _ (lv_sub hl [0, 1, 2, 3, 4] rfl)
set_option maxHeartbeats 4000000 in
set_option maxRecDepth 100000 in
theorem metX1_merge (l : Launch) (G : va_G) (ad : Nat → Nat) (ca : Nat → ClassId) (cp : Nat) (Ar : Nat → Int32) (De : Nat → Bool) (Ln : Nat → Nat) (Tm : Nat → Int32) (Td : Nat → Bool) (lv tt pb mv : Nat) (i many : Nat) (hi : i < 10) (hL : Ln i ≤ 2 ^ i) (hm : Ln i + many ≤ 1024) : CV (S := (Nat → Int32) × (Nat → Bool)) l yX1_merge (ws_ yX1_merge cX1_merge 8 none) rq1 G clR (tyX ca) (WX ad ca cp Ar De Ln Tm Td lv tt pb mv) [.ref (ad 0), .int (nI i), .int (nI many)] (fun u => ∀ j, j < Ln i + many → u.1 j = ((mbf (rn Ar (fun p => !De p) i) (fun k => (Tm k, !Td k)) (Ln i) many) j).1 ∧ u.2 j = !((mbf (rn Ar (fun p => !De p) i) (fun k => (Tm k, !Td k)) (Ln i) many) j).2) (fun u => WX ad ca cp Ar De (va_up Ln i 0) (u.1) (u.2) lv tt pb (mv + (Ln i + many))) := by
  refine cv_start (by decide) (Nat.le_of_ble_eq_true rfl) ?_
  intro p e s m args below meth c R Q A ls hx hb hml hown hts hR hA hK hP hD hret hl
  have hown : s.vm.findClass RX1 = some m.cls := hown
  have hS : va_S A s.heap s.heap [] := va_S.rf
  have hl : lv_has ls 8 [(0, .ref (ad 0)), (1, .int (nI i)), (2, .int (nI many))] := hl
  have hp := rr_pow hi
  have loop : ∀ (n a b : Nat) (T : Nat → Int32) (U : Nat → Bool) (q : Nat), a + b < n → a ≤ Ln i → b ≤ many → mgI (rn Ar (fun p => !De p) i) (fun k => (Tm k, !Td k)) (Ln i + many) (mbf (rn Ar (fun p => !De p) i) (fun k => (Tm k, !Td k)) (Ln i) many) Tm Td a b T U → q + (a + b) = mv + (Ln i + many) → ∀ (H : Heap) (locs : List Loc), va_P G clR (WX ad ca cp Ar De Ln T U lv tt pb q) H → va_D A (WX ad ca cp Ar De Ln T U lv tt pb q) → va_S A s.heap H locs → ∀ ls : Array Slot, lv_has ls 8 [(4, .int (mI a)), (5, .int (mI b)), (6, .int (mI (a + b))), (3, .int (nI (2 ^ i - 1))), (0, .ref (ad 0)), (1, .int (nI i)), (2, .int (nI many))] → W p l e R s m args below meth c H locs 0 0 Q (F0 m 32 ls []) := by
    intro n
    induction n with
    | zero =>
      intro a b T U q h1
      exact absurd h1 (by omega)
    | succ n ih =>
      intro a b T U q h1 h2 h3 hI hq H locs hP hD hS ls hl
      have own : ∀ (a b : Nat), (a + 1) ≤ Ln i → b ≤ many → a + b < n → mgI (rn Ar (fun p => !De p) i) (fun k => (Tm k, !Td k)) (Ln i + many) (mbf (rn Ar (fun p => !De p) i) (fun k => (Tm k, !Td k)) (Ln i) many) Tm Td (a + 1) b T U → (b = 0 ∨ ((fun k => (Tm k, !Td k)) (b - 1)).1 < ((rn Ar (fun p => !De p) i) a).1) → q + (a + b + 1) = mv + (Ln i + many) → ∀ (H : Heap) (locs : List Loc), va_P G clR (WX ad ca cp Ar De Ln T U lv tt pb q) H → va_D A (WX ad ca cp Ar De Ln T U lv tt pb q) → va_S A s.heap H locs → ∀ ls : Array Slot, lv_has ls 8 [(4, .int (nI a)), (5, .int (mI b)), (6, .int (nI (a + b))), (3, .int (nI (2 ^ i - 1))), (0, .ref (ad 0)), (1, .int (nI i)), (2, .int (nI many))] → W p l e R s m args below meth c H locs 0 0 Q (F0 m 71 ls [.int (bI true)]) := by
        intro a b g1 g2 g3 gI gc gq H locs hP hD hS ls hl
        refine lv_istore (lv' := [(7, .int (bI true)), (4, .int (nI a)), (5, .int (mI b)), (6, .int (nI (a + b))), (3, .int (nI (2 ^ i - 1))), (0, .ref (ad 0)), (1, .int (nI i)), (2, .int (nI many))]) hx hb dX1_merge_71 hl (by decide) rfl (fun ls hl => ?_)
        refine lv_aload_n hx hb dX1_merge_73 rfl (lv_at hl 5 rfl) ?_
        refine va_get (D := G) (ci := 0) (v := .ref (ad 4)) (C := RX1) (T := TX1) (N := 10) hx hb hts in_X1 hown hK hP 0 rfl rfl 3 (by decide) (hts _ q26) (fun _ h9 => h9) rfl dX1_merge_74 ?_
        refine lv_iload hx hb dX1_merge_77 (lv_at hl 3 rfl) ?_
        refine lv_iload hx hb dX1_merge_79 (lv_at hl 0 rfl) ?_
        refine rr_ifeq_b (tgt := 96) hx hb dX1_merge_81 (by decide) (fun h9 => absurd h9 (by decide)) (fun _ => ?_)
        refine lv_aload_n hx hb dX1_merge_84 rfl (lv_at hl 5 rfl) ?_
        refine va_get (D := G) (ci := 0) (v := .ref (ad 1)) (C := RX1) (T := TX1) (N := 10) hx hb hts in_X1 hown hK hP 0 rfl rfl 0 (by decide) (hts _ q23) (fun _ h9 => h9) rfl dX1_merge_85 ?_
        refine lv_iload_n hx hb dX1_merge_88 rfl (lv_at hl 4 rfl) ?_
        refine lv_iload hx hb dX1_merge_89 (lv_at hl 1 rfl) ?_
        refine rr_nadd hx hb dX1_merge_91 ?_
        refine rr_iald (f := Ar) (k := (2 ^ i - 1) + a) hx hb hK hP 1 0 rfl rfl (by omega) (by decide) dX1_merge_92 ?_
        refine lv_goto (tgt := 103) hx hb dX1_merge_93 (by decide) ?_
        refine rr_iast (f := T) (k := a + b) hx hb hK hP hD hS 4 3 rfl rfl (by omega) (by decide) dX1_merge_103 (fun H locs hP hD hS => ?_)
        have hP : va_P G clR (WX ad ca cp Ar De Ln (va_up T (a + b) (Ar ((2 ^ i - 1) + a))) U lv tt pb q) H := hP
        have hD : va_D A (WX ad ca cp Ar De Ln (va_up T (a + b) (Ar ((2 ^ i - 1) + a))) U lv tt pb q) := hD
        refine lv_aload_n hx hb dX1_merge_104 rfl (lv_at hl 5 rfl) ?_
        refine va_get (D := G) (ci := 0) (v := .ref (ad 5)) (C := RX1) (T := TX1) (N := 10) hx hb hts in_X1 hown hK hP 0 rfl rfl 4 (by decide) (hts _ q27) (fun _ h9 => h9) rfl dX1_merge_105 ?_
        refine lv_iload hx hb dX1_merge_108 (lv_at hl 3 rfl) ?_
        refine lv_iload hx hb dX1_merge_110 (lv_at hl 0 rfl) ?_
        refine rr_ifeq_b (tgt := 127) hx hb dX1_merge_112 (by decide) (fun h9 => absurd h9 (by decide)) (fun _ => ?_)
        refine lv_aload_n hx hb dX1_merge_115 rfl (lv_at hl 5 rfl) ?_
        refine va_get (D := G) (ci := 0) (v := .ref (ad 2)) (C := RX1) (T := TX1) (N := 10) hx hb hts in_X1 hown hK hP 0 rfl rfl 1 (by decide) (hts _ q24) (fun _ h9 => h9) rfl dX1_merge_116 ?_
        refine lv_iload_n hx hb dX1_merge_119 rfl (lv_at hl 4 rfl) ?_
        refine lv_iload hx hb dX1_merge_120 (lv_at hl 1 rfl) ?_
        refine rr_nadd hx hb dX1_merge_122 ?_
        refine rr_zald (B := De) (k := (2 ^ i - 1) + a) hx hb hK hP 2 1 rfl rfl (by omega) (by decide) dX1_merge_123 ?_
        refine lv_goto (tgt := 134) hx hb dX1_merge_124 (by decide) ?_
        refine rr_zast (B := U) (k := a + b) hx hb hK hP hD hS 5 4 rfl rfl (by omega) (by decide) dX1_merge_134 (fun H locs hP hD hS => ?_)
        have hP : va_P G clR (WX ad ca cp Ar De Ln (va_up T (a + b) (Ar ((2 ^ i - 1) + a))) (va_up U (a + b) (De ((2 ^ i - 1) + a))) lv tt pb q) H := hP
        have hD : va_D A (WX ad ca cp Ar De Ln (va_up T (a + b) (Ar ((2 ^ i - 1) + a))) (va_up U (a + b) (De ((2 ^ i - 1) + a))) lv tt pb q) := hD
        refine lv_iload hx hb dX1_merge_135 (lv_at hl 0 rfl) ?_
        refine rr_ifeq_b (tgt := 146) hx hb dX1_merge_137 (by decide) (fun h9 => absurd h9 (by decide)) (fun _ => ?_)
        refine lv_iinc (v := (mI a)) (lv' := [(4, .int (mI a)), (7, .int (bI true)), (5, .int (mI b)), (6, .int (nI (a + b))), (3, .int (nI (2 ^ i - 1))), (0, .ref (ad 0)), (1, .int (nI i)), (2, .int (nI many))]) hx hb dX1_merge_140 hl (k := 1) rfl (rr_dec a) (by decide) rfl (fun ls hl => ?_)
        refine lv_goto (tgt := 149) hx hb dX1_merge_143 (by decide) ?_
        refine lv_aload_n hx hb dX1_merge_149 rfl (lv_at hl 5 rfl) ?_
        refine lv_dup hx hb dX1_merge_150 rfl ?_
        refine va_get (D := G) (ci := 0) (v := .int (nI q)) (C := RX1) (T := TX1) (N := 10) hx hb hts in_X1 hown hK hP 0 rfl rfl 9 (by decide) (hts _ q32) (fun _ h9 => h9) rfl dX1_merge_151 ?_
        refine lv_iconst (v := (nI 1)) hx hb dX1_merge_154 (by decide +kernel) ?_
        refine rr_nadd hx hb dX1_merge_155 ?_
        refine va_put (D := G) (ci := 0) (v := .int (nI (q + 1))) (ty := .int) (C := RX1) (T := TX1) (N := 10) hx hb hts in_X1 tyX1 tyX1_ok nmX1 hown hK hP hD hS 0 rfl rfl 9 (by decide) (hts _ q32) (fun _ h9 => h9) rfl (by decide +kernel) rfl rfl (Nat.le_of_ble_eq_true rfl) dX1_merge_156 (fun H locs hP hD hS => ?_)
        have hP : va_P G clR (WX ad ca cp Ar De Ln (va_up T (a + b) (Ar ((2 ^ i - 1) + a))) (va_up U (a + b) (De ((2 ^ i - 1) + a))) lv tt pb (q + 1)) H := hP
        have hD : va_D A (WX ad ca cp Ar De Ln (va_up T (a + b) (Ar ((2 ^ i - 1) + a))) (va_up U (a + b) (De ((2 ^ i - 1) + a))) lv tt pb (q + 1)) := hD
        refine lv_iinc (v := (mI (a + b))) (lv' := [(6, .int (mI (a + b))), (4, .int (mI a)), (7, .int (bI true)), (5, .int (mI b)), (3, .int (nI (2 ^ i - 1))), (0, .ref (ad 0)), (1, .int (nI i)), (2, .int (nI many))]) hx hb dX1_merge_159 hl (k := 3) rfl (rr_dec (a + b)) (by decide) rfl (fun ls hl => ?_)
        refine lv_goto (tgt := 32) hx hb dX1_merge_162 (by decide) ?_
        exact ih a b _ _ (q + 1) g3 (by omega) g2 (mgI_own gI gc rfl (by unfold rn; simp)) (by omega) _ _ hP hD hS _ (lv_sub hl [1, 3, 0, 4, 5, 6, 7] rfl)
      have oth : ∀ (a b : Nat), a ≤ Ln i → (b + 1) ≤ many → a + b < n → mgI (rn Ar (fun p => !De p) i) (fun k => (Tm k, !Td k)) (Ln i + many) (mbf (rn Ar (fun p => !De p) i) (fun k => (Tm k, !Td k)) (Ln i) many) Tm Td a (b + 1) T U → (a = 0 ∨ ¬ ((fun k => (Tm k, !Td k)) b).1 < ((rn Ar (fun p => !De p) i) (a - 1)).1) → q + (a + b + 1) = mv + (Ln i + many) → ∀ (H : Heap) (locs : List Loc), va_P G clR (WX ad ca cp Ar De Ln T U lv tt pb q) H → va_D A (WX ad ca cp Ar De Ln T U lv tt pb q) → va_S A s.heap H locs → ∀ ls : Array Slot, lv_has ls 8 [(4, .int (mI a)), (5, .int (nI b)), (6, .int (nI (a + b))), (3, .int (nI (2 ^ i - 1))), (0, .ref (ad 0)), (1, .int (nI i)), (2, .int (nI many))] → W p l e R s m args below meth c H locs 0 0 Q (F0 m 71 ls [.int (bI false)]) := by
        intro a b g1 g2 g3 gI gc gq H locs hP hD hS ls hl
        refine lv_istore (lv' := [(7, .int (bI false)), (4, .int (mI a)), (5, .int (nI b)), (6, .int (nI (a + b))), (3, .int (nI (2 ^ i - 1))), (0, .ref (ad 0)), (1, .int (nI i)), (2, .int (nI many))]) hx hb dX1_merge_71 hl (by decide) rfl (fun ls hl => ?_)
        refine lv_aload_n hx hb dX1_merge_73 rfl (lv_at hl 5 rfl) ?_
        refine va_get (D := G) (ci := 0) (v := .ref (ad 4)) (C := RX1) (T := TX1) (N := 10) hx hb hts in_X1 hown hK hP 0 rfl rfl 3 (by decide) (hts _ q26) (fun _ h9 => h9) rfl dX1_merge_74 ?_
        refine lv_iload hx hb dX1_merge_77 (lv_at hl 3 rfl) ?_
        refine lv_iload hx hb dX1_merge_79 (lv_at hl 0 rfl) ?_
        refine rr_ifeq_b (tgt := 96) hx hb dX1_merge_81 (by decide) (fun _ => ?_) (fun h9 => absurd h9 (by decide))
        refine lv_aload_n hx hb dX1_merge_96 rfl (lv_at hl 5 rfl) ?_
        refine va_get (D := G) (ci := 0) (v := .ref (ad 4)) (C := RX1) (T := TX1) (N := 10) hx hb hts in_X1 hown hK hP 0 rfl rfl 3 (by decide) (hts _ q26) (fun _ h9 => h9) rfl dX1_merge_97 ?_
        refine lv_iload hx hb dX1_merge_100 (lv_at hl 2 rfl) ?_
        refine rr_iald (f := T) (k := b) hx hb hK hP 4 3 rfl rfl (by omega) (by decide) dX1_merge_102 ?_
        refine rr_iast (f := T) (k := a + b) hx hb hK hP hD hS 4 3 rfl rfl (by omega) (by decide) dX1_merge_103 (fun H locs hP hD hS => ?_)
        have hP : va_P G clR (WX ad ca cp Ar De Ln (va_up T (a + b) (T b)) U lv tt pb q) H := hP
        have hD : va_D A (WX ad ca cp Ar De Ln (va_up T (a + b) (T b)) U lv tt pb q) := hD
        refine lv_aload_n hx hb dX1_merge_104 rfl (lv_at hl 5 rfl) ?_
        refine va_get (D := G) (ci := 0) (v := .ref (ad 5)) (C := RX1) (T := TX1) (N := 10) hx hb hts in_X1 hown hK hP 0 rfl rfl 4 (by decide) (hts _ q27) (fun _ h9 => h9) rfl dX1_merge_105 ?_
        refine lv_iload hx hb dX1_merge_108 (lv_at hl 3 rfl) ?_
        refine lv_iload hx hb dX1_merge_110 (lv_at hl 0 rfl) ?_
        refine rr_ifeq_b (tgt := 127) hx hb dX1_merge_112 (by decide) (fun _ => ?_) (fun h9 => absurd h9 (by decide))
        refine lv_aload_n hx hb dX1_merge_127 rfl (lv_at hl 5 rfl) ?_
        refine va_get (D := G) (ci := 0) (v := .ref (ad 5)) (C := RX1) (T := TX1) (N := 10) hx hb hts in_X1 hown hK hP 0 rfl rfl 4 (by decide) (hts _ q27) (fun _ h9 => h9) rfl dX1_merge_128 ?_
        refine lv_iload hx hb dX1_merge_131 (lv_at hl 2 rfl) ?_
        refine rr_zald (B := U) (k := b) hx hb hK hP 5 4 rfl rfl (by omega) (by decide) dX1_merge_133 ?_
        refine rr_zast (B := U) (k := a + b) hx hb hK hP hD hS 5 4 rfl rfl (by omega) (by decide) dX1_merge_134 (fun H locs hP hD hS => ?_)
        have hP : va_P G clR (WX ad ca cp Ar De Ln (va_up T (a + b) (T b)) (va_up U (a + b) (U b)) lv tt pb q) H := hP
        have hD : va_D A (WX ad ca cp Ar De Ln (va_up T (a + b) (T b)) (va_up U (a + b) (U b)) lv tt pb q) := hD
        refine lv_iload hx hb dX1_merge_135 (lv_at hl 0 rfl) ?_
        refine rr_ifeq_b (tgt := 146) hx hb dX1_merge_137 (by decide) (fun _ => ?_) (fun h9 => absurd h9 (by decide))
        refine lv_iinc (v := (mI b)) (lv' := [(5, .int (mI b)), (7, .int (bI false)), (4, .int (mI a)), (6, .int (nI (a + b))), (3, .int (nI (2 ^ i - 1))), (0, .ref (ad 0)), (1, .int (nI i)), (2, .int (nI many))]) hx hb dX1_merge_146 hl (k := 2) rfl (rr_dec b) (by decide) rfl (fun ls hl => ?_)
        refine lv_aload_n hx hb dX1_merge_149 rfl (lv_at hl 5 rfl) ?_
        refine lv_dup hx hb dX1_merge_150 rfl ?_
        refine va_get (D := G) (ci := 0) (v := .int (nI q)) (C := RX1) (T := TX1) (N := 10) hx hb hts in_X1 hown hK hP 0 rfl rfl 9 (by decide) (hts _ q32) (fun _ h9 => h9) rfl dX1_merge_151 ?_
        refine lv_iconst (v := (nI 1)) hx hb dX1_merge_154 (by decide +kernel) ?_
        refine rr_nadd hx hb dX1_merge_155 ?_
        refine va_put (D := G) (ci := 0) (v := .int (nI (q + 1))) (ty := .int) (C := RX1) (T := TX1) (N := 10) hx hb hts in_X1 tyX1 tyX1_ok nmX1 hown hK hP hD hS 0 rfl rfl 9 (by decide) (hts _ q32) (fun _ h9 => h9) rfl (by decide +kernel) rfl rfl (Nat.le_of_ble_eq_true rfl) dX1_merge_156 (fun H locs hP hD hS => ?_)
        have hP : va_P G clR (WX ad ca cp Ar De Ln (va_up T (a + b) (T b)) (va_up U (a + b) (U b)) lv tt pb (q + 1)) H := hP
        have hD : va_D A (WX ad ca cp Ar De Ln (va_up T (a + b) (T b)) (va_up U (a + b) (U b)) lv tt pb (q + 1)) := hD
        refine lv_iinc (v := (mI (a + b))) (lv' := [(6, .int (mI (a + b))), (5, .int (mI b)), (7, .int (bI false)), (4, .int (mI a)), (3, .int (nI (2 ^ i - 1))), (0, .ref (ad 0)), (1, .int (nI i)), (2, .int (nI many))]) hx hb dX1_merge_159 hl (k := 3) rfl (rr_dec (a + b)) (by decide) rfl (fun ls hl => ?_)
        refine lv_goto (tgt := 32) hx hb dX1_merge_162 (by decide) ?_
        exact ih a b _ _ (q + 1) g3 g1 (by omega) (mgI_oth gI gc rfl) (by omega) _ _ hP hD hS _ (lv_sub hl [3, 1, 0, 4, 5, 6, 7] rfl)
      cases b with
      | zero =>
        cases a with
        | zero =>
          have hl : lv_has ls 8 [(4, .int (mI 0)), (5, .int (mI 0)), (6, .int (mI 0)), (3, .int (nI (2 ^ i - 1))), (0, .ref (ad 0)), (1, .int (nI i)), (2, .int (nI many))] := by exact hl
          refine lv_iload hx hb dX1_merge_32 (lv_at hl 2 rfl) ?_
          refine rr_if_lt_m (tgt := 165) hx hb dX1_merge_34 (by decide) ?_
          refine lv_aload_n hx hb dX1_merge_165 rfl (lv_at hl 4 rfl) ?_
          refine va_get (D := G) (ci := 0) (v := .ref (ad 3)) (C := RX1) (T := TX1) (N := 10) hx hb hts in_X1 hown hK hP 0 rfl rfl 2 (by decide) (hts _ q25) (fun _ h9 => h9) rfl dX1_merge_166 ?_
          refine lv_iload_n hx hb dX1_merge_169 rfl (lv_at hl 5 rfl) ?_
          refine lv_iconst (v := (nI 0)) hx hb dX1_merge_170 (by decide +kernel) ?_
          refine rr_nast (L := Ln) (k := i) hx hb hK hP hD hS 3 2 rfl rfl (by omega) (by decide) dX1_merge_171 (fun H locs hP hD hS => ?_)
          have hP : va_P G clR (WX ad ca cp Ar De (va_up Ln i 0) T U lv tt pb q) H := hP
          have hD : va_D A (WX ad ca cp Ar De (va_up Ln i 0) T U lv tt pb q) := hD
          have hq : q = mv + (Ln i + many) := hq
          subst hq
          exact hret 172 _ _ _ (T, U) dX1_merge_172 (fun j hj => hI.2.1 j (Nat.zero_le _) hj) hP hD hS
        | succ a =>
          have e4 := mI_succ a
          have e6 : mI (a + 1 + 0) = nI (a + 0) := mI_succ a
          rw [e4] at hl
          have hl : lv_has ls 8 [(4, .int (nI a)), (5, .int (mI 0)), (6, .int (nI (a + 0))), (3, .int (nI (2 ^ i - 1))), (0, .ref (ad 0)), (1, .int (nI i)), (2, .int (nI many))] := by exact hl
          refine lv_iload hx hb dX1_merge_32 (lv_at hl 2 rfl) ?_
          refine rr_if_lt_n (tgt := 165) hx hb dX1_merge_34 (by decide) (by omega) ?_
          refine lv_iload hx hb dX1_merge_37 (lv_at hl 1 rfl) ?_
          refine rr_if_lt_m (tgt := 66) hx hb dX1_merge_39 (by decide) ?_
          refine lv_iconst (v := (bI true)) hx hb dX1_merge_66 (by decide +kernel) ?_
          refine lv_goto (tgt := 71) hx hb dX1_merge_67 (by decide) ?_
          exact own a 0 h2 h3 (by omega) hI (Or.inl rfl) (by omega) _ _ hP hD hS _ (lv_sub hl [0, 1, 2, 3, 4, 5, 6] rfl)
      | succ b =>
        cases a with
        | zero =>
          have e5 := mI_succ b
          have e6 : mI (0 + (b + 1)) = nI (0 + b) := mI_succ (0 + b)
          rw [e5, e6] at hl
          refine lv_iload hx hb dX1_merge_32 (lv_at hl 2 rfl) ?_
          refine rr_if_lt_n (tgt := 165) hx hb dX1_merge_34 (by decide) (by omega) ?_
          refine lv_iload hx hb dX1_merge_37 (lv_at hl 1 rfl) ?_
          refine rr_if_lt_n (tgt := 66) hx hb dX1_merge_39 (by decide) (by omega) ?_
          refine lv_iload hx hb dX1_merge_42 (lv_at hl 0 rfl) ?_
          refine rr_if_lt_m (tgt := 70) hx hb dX1_merge_44 (by decide) ?_
          refine lv_iconst (v := (bI false)) hx hb dX1_merge_70 (by decide +kernel) ?_
          exact oth 0 b h2 h3 (by omega) hI (Or.inl rfl) (by omega) _ _ hP hD hS _ (lv_sub hl [0, 1, 2, 3, 4, 5, 6] rfl)
        | succ a =>
          have e4 := mI_succ a
          have e5 := mI_succ b
          have e6 : mI (a + 1 + (b + 1)) = nI (a + 1 + b) := mI_succ (a + 1 + b)
          rw [e4, e5, e6] at hl
          have eT := (hI.1 b (by omega)).1
          refine lv_iload hx hb dX1_merge_32 (lv_at hl 2 rfl) ?_
          refine rr_if_lt_n (tgt := 165) hx hb dX1_merge_34 (by decide) (by omega) ?_
          refine lv_iload hx hb dX1_merge_37 (lv_at hl 1 rfl) ?_
          refine rr_if_lt_n (tgt := 66) hx hb dX1_merge_39 (by decide) (by omega) ?_
          refine lv_iload hx hb dX1_merge_42 (lv_at hl 0 rfl) ?_
          refine rr_if_lt_n (tgt := 70) hx hb dX1_merge_44 (by decide) (by omega) ?_
          refine lv_aload_n hx hb dX1_merge_47 rfl (lv_at hl 4 rfl) ?_
          refine va_get (D := G) (ci := 0) (v := .ref (ad 1)) (C := RX1) (T := TX1) (N := 10) hx hb hts in_X1 hown hK hP 0 rfl rfl 0 (by decide) (hts _ q23) (fun _ h9 => h9) rfl dX1_merge_48 ?_
          refine lv_iload_n hx hb dX1_merge_51 rfl (lv_at hl 3 rfl) ?_
          refine lv_iload hx hb dX1_merge_52 (lv_at hl 0 rfl) ?_
          refine rr_nadd hx hb dX1_merge_54 ?_
          refine rr_iald (f := Ar) (k := (2 ^ i - 1) + a) hx hb hK hP 1 0 rfl rfl (by omega) (by decide) dX1_merge_55 ?_
          refine lv_aload_n hx hb dX1_merge_56 rfl (lv_at hl 4 rfl) ?_
          refine va_get (D := G) (ci := 0) (v := .ref (ad 4)) (C := RX1) (T := TX1) (N := 10) hx hb hts in_X1 hown hK hP 0 rfl rfl 3 (by decide) (hts _ q26) (fun _ h9 => h9) rfl dX1_merge_57 ?_
          refine lv_iload hx hb dX1_merge_60 (lv_at hl 1 rfl) ?_
          refine rr_iald (f := T) (k := b) hx hb hK hP 4 3 rfl rfl (by omega) (by decide) dX1_merge_62 ?_
          refine lv_icmp_le (tgt := 70) hx hb dX1_merge_63 (by decide) (fun c1 => ?_) (fun c1 => ?_)
          · refine lv_iconst (v := (bI false)) hx hb dX1_merge_70 (by decide +kernel) ?_
            rw [← e4] at hl
            exact oth (a + 1) b h2 h3 (by omega) hI (Or.inr (by rw [eT] at c1; exact i_nlt.mpr c1)) (by omega) _ _ hP hD hS _ (lv_sub hl [0, 1, 2, 3, 4, 5, 6] rfl)
          · refine lv_iconst (v := (bI true)) hx hb dX1_merge_66 (by decide +kernel) ?_
            refine lv_goto (tgt := 71) hx hb dX1_merge_67 (by decide) ?_
            rw [← e5, show a + 1 + b = a + (b + 1) by omega] at hl
            exact own a (b + 1) h2 h3 (by omega) hI (Or.inr (by rw [eT] at c1; exact i_nle.mp c1)) (by omega) _ _ hP hD hS _ (lv_sub hl [0, 1, 2, 3, 4, 5, 6] rfl)
  refine lv_iload_n hx hb dX1_merge_0 rfl (lv_at hl 1 rfl) ?_
  refine so_X (i := i) hx hb hml hown hts (by omega) (by rw [hR]; exact ⟨by decide, by decide⟩) hl.1 (Nat.le_of_ble_eq_true rfl) dX1_merge_1 ?_
  refine lv_istore_n (lv' := [(3, .int (nI (2 ^ i - 1))), (0, .ref (ad 0)), (1, .int (nI i)), (2, .int (nI many))]) hx hb dX1_merge_4 rfl hl (by decide) rfl (fun ls hl => ?_)
  refine lv_aload_n hx hb dX1_merge_5 rfl (lv_at hl 1 rfl) ?_
  refine va_get (D := G) (ci := 0) (v := .ref (ad 3)) (C := RX1) (T := TX1) (N := 10) hx hb hts in_X1 hown hK hP 0 rfl rfl 2 (by decide) (hts _ q25) (fun _ h9 => h9) rfl dX1_merge_6 ?_
  refine lv_iload_n hx hb dX1_merge_9 rfl (lv_at hl 2 rfl) ?_
  refine rr_nald (L := Ln) (k := i) hx hb hK hP 3 2 rfl rfl (by omega) (by decide) dX1_merge_10 ?_
  refine lv_iconst (v := (nI 1)) hx hb dX1_merge_11 (by decide +kernel) ?_
  refine rr_nsub1 hx hb dX1_merge_12 ?_
  refine lv_istore (lv' := [(4, .int (mI (Ln i))), (3, .int (nI (2 ^ i - 1))), (0, .ref (ad 0)), (1, .int (nI i)), (2, .int (nI many))]) hx hb dX1_merge_13 hl (by decide) rfl (fun ls hl => ?_)
  refine lv_iload_n hx hb dX1_merge_15 rfl (lv_at hl 4 rfl) ?_
  refine lv_iconst (v := (nI 1)) hx hb dX1_merge_16 (by decide +kernel) ?_
  refine rr_nsub1 hx hb dX1_merge_17 ?_
  refine lv_istore (lv' := [(5, .int (mI many)), (4, .int (mI (Ln i))), (3, .int (nI (2 ^ i - 1))), (0, .ref (ad 0)), (1, .int (nI i)), (2, .int (nI many))]) hx hb dX1_merge_18 hl (by decide) rfl (fun ls hl => ?_)
  refine lv_aload_n hx hb dX1_merge_20 rfl (lv_at hl 3 rfl) ?_
  refine va_get (D := G) (ci := 0) (v := .ref (ad 3)) (C := RX1) (T := TX1) (N := 10) hx hb hts in_X1 hown hK hP 0 rfl rfl 2 (by decide) (hts _ q25) (fun _ h9 => h9) rfl dX1_merge_21 ?_
  refine lv_iload_n hx hb dX1_merge_24 rfl (lv_at hl 4 rfl) ?_
  refine rr_nald (L := Ln) (k := i) hx hb hK hP 3 2 rfl rfl (by omega) (by decide) dX1_merge_25 ?_
  refine lv_iload_n hx hb dX1_merge_26 rfl (lv_at hl 5 rfl) ?_
  refine rr_nadd hx hb dX1_merge_27 ?_
  refine lv_iconst (v := (nI 1)) hx hb dX1_merge_28 (by decide +kernel) ?_
  refine rr_nsub1 hx hb dX1_merge_29 ?_
  refine lv_istore (lv' := [(6, .int (mI ((Ln i) + many))), (5, .int (mI many)), (4, .int (mI (Ln i))), (3, .int (nI (2 ^ i - 1))), (0, .ref (ad 0)), (1, .int (nI i)), (2, .int (nI many))]) hx hb dX1_merge_30 hl (by decide) rfl (fun ls hl => ?_)
  exact loop (Ln i + many + 1) (Ln i) many Tm Td mv (by omega) (Nat.le_refl _) (Nat.le_refl _) mgI_start rfl _ _ hP hD hS _ (lv_sub hl [2, 1, 0, 3, 4, 5, 6] rfl)
set_option maxHeartbeats 4000000 in
set_option maxRecDepth 100000 in
theorem metX1_insert_full (l : Launch) (G : va_G) (ad : Nat → Nat) (ca : Nat → ClassId) (cp : Nat) (Ar : Nat → Int32) (De : Nat → Bool) (Ln : Nat → Nat) (Tm : Nat → Int32) (Td : Nat → Bool) (lv tt pb mv : Nat) (v : Int32) (hf : lv = cp) : CI (S := Unit) l yX1_insert (ws_ yX1_insert cX1_insert 4 (some .int)) rq2 G clR (tyX ca) (WX ad ca cp Ar De Ln Tm Td lv tt pb mv) [.ref (ad 0), .int v] (fun r _ => r = -2) (fun _ => WX ad ca cp Ar De Ln Tm Td lv tt pb mv) := by
  refine ci_start (by decide) (Nat.le_of_ble_eq_true rfl) ?_
  intro p e s m args below meth c R Q A ls hx hb hml hown hts hR hA hK hP hD hret hl
  have hown : s.vm.findClass RX1 = some m.cls := hown
  have hS : va_S A s.heap s.heap [] := va_S.rf
  have hl : lv_has ls 4 [(0, .ref (ad 0)), (1, .int v)] := hl
  refine lv_aload_n hx hb dX1_insert_0 rfl (lv_at hl 0 rfl) ?_
  refine va_get (D := G) (ci := 0) (v := .int (nI lv)) (C := RX1) (T := TX1) (N := 10) hx hb hts in_X1 hown hK hP 0 rfl rfl 6 (by decide) (hts _ q29) (fun _ h9 => h9) rfl dX1_insert_1 ?_
  refine lv_aload_n hx hb dX1_insert_4 rfl (lv_at hl 0 rfl) ?_
  refine va_get (D := G) (ci := 0) (v := .int (nI cp)) (C := RX1) (T := TX1) (N := 10) hx hb hts in_X1 hown hK hP 0 rfl rfl 5 (by decide) (hts _ q28) (fun _ h9 => h9) rfl dX1_insert_5 ?_
  refine lv_icmp_ne (tgt := 14) hx hb dX1_insert_8 (by decide) (fun c1 => ?_) (fun c1 => ?_)
  · exact absurd (by rw [hf]) c1
  · refine lv_bipush (v := (-2)) hx hb dX1_insert_11 (by decide +kernel) ?_
    exact hret 13 _ _ _ _ () dX1_insert_13 rfl hP hD hS
set_option maxHeartbeats 4000000 in
set_option maxRecDepth 100000 in
theorem metX1_insert (l : Launch) (G : va_G) (ad : Nat → Nat) (ca : Nat → ClassId) (cp : Nat) (Ar : Nat → Int32) (De : Nat → Bool) (Ln : Nat → Nat) (Tm : Nat → Int32) (Td : Nat → Bool) (lv tt pb mv : Nat) (v : Int32) (j0 : Nat) (hf : lv ≠ cp) (hlv : lv < 2147483648) (hcp : cp < 2147483648) (hj : j0 < 10) (hL0 : Ln j0 = 0) (hL1 : ∀ i, i < j0 → Ln i = 2 ^ i) : CI (S := (Nat → Nat) × (Nat → Int32) × (Nat → Bool)) l yX1_insert (ws_ yX1_insert cX1_insert 4 (some .int)) rq2 G clR (tyX ca) (WX ad ca cp Ar De Ln Tm Td lv tt pb mv) [.ref (ad 0), .int v] (fun r u => r = nI 0 ∧ ∀ i, i < 10 → u.1 i = if i < j0 then 0 else if i = j0 then 2 ^ j0 else Ln i) (fun u => WX ad ca cp (fb_put Ar (fun k => (cas Ar (fun p => !De p) v j0 k).1) (2 ^ j0 - 1) (2 ^ j0)) (fb_put De (fun k => !(cas Ar (fun p => !De p) v j0 k).2) (2 ^ j0 - 1) (2 ^ j0)) (u.1) (u.2.1) (u.2.2) (lv + 1) (tt + 1) pb (mv + (2 ^ (j0 + 1) - 1))) := by
  refine ci_start (by decide) (Nat.le_of_ble_eq_true rfl) ?_
  intro p e s m args below meth c R Q A ls hx hb hml hown hts hR hA hK hP hD hret hl
  have hown : s.vm.findClass RX1 = some m.cls := hown
  have hS : va_S A s.heap s.heap [] := va_S.rf
  have hl : lv_has ls 4 [(0, .ref (ad 0)), (1, .int v)] := hl
  have hp := rr_pow hj
  have loop : ∀ (n j : Nat) (L1 : Nat → Nat) (T : Nat → Int32) (U : Nat → Bool) (q : Nat), j0 - j < n → j ≤ j0 → (∀ i, L1 i = if i < j then 0 else Ln i) → (∀ k, k < 2 ^ j → T k = (cas Ar (fun p => !De p) v j k).1 ∧ U k = !(cas Ar (fun p => !De p) v j k).2) → q = mv + (2 ^ (j + 1) - 1) → ∀ (H : Heap) (locs : List Loc), va_P G clR (WX ad ca cp Ar De L1 T U lv tt pb q) H → va_D A (WX ad ca cp Ar De L1 T U lv tt pb q) → va_S A s.heap H locs → ∀ ls : Array Slot, lv_has ls 4 [(3, .int (nI (2 ^ j))), (2, .int (nI j)), (0, .ref (ad 0)), (1, .int v)] → W p l e R s m args below meth c H locs 0 0 Q (F0 m 42 ls []) := by
    intro n
    induction n with
    | zero =>
      intro j L1 T U q h1
      exact absurd h1 (by omega)
    | succ n ih =>
      intro j L1 T U q h1 h2 hL hT hq H locs hP hD hS ls hl
      have hpj := rr_pow (i := j) (by omega)
      have eL : L1 j = Ln j := by rw [hL j, if_neg (Nat.lt_irrefl j)]
      have hLs : L1 j < 2147483648 := by
        rw [eL]
        rcases Nat.lt_or_ge j j0 with h | h
        · rw [hL1 j h]; omega
        · rw [show j = j0 by omega, hL0]; decide
      refine lv_aload_n hx hb dX1_insert_42 rfl (lv_at hl 2 rfl) ?_
      refine va_get (D := G) (ci := 0) (v := .ref (ad 3)) (C := RX1) (T := TX1) (N := 10) hx hb hts in_X1 hown hK hP 0 rfl rfl 2 (by decide) (hts _ q25) (fun _ h9 => h9) rfl dX1_insert_43 ?_
      refine lv_iload_n hx hb dX1_insert_46 rfl (lv_at hl 1 rfl) ?_
      refine rr_nald (L := L1) (k := j) hx hb hK hP 3 2 rfl rfl (by omega) (by decide) dX1_insert_47 ?_
      refine rr_if_le (tgt := 67) hx hb dX1_insert_48 (by decide) (by omega) (fun c1 => ?_) (fun c1 => ?_)
      · have ej : j = j0 := by
          rcases Nat.lt_or_ge j j0 with h | h
          · rw [eL, hL1 j h] at c1; omega
          · omega
        subst ej
        subst hq
        refine lv_aload_n hx hb dX1_insert_67 rfl (lv_at hl 2 rfl) ?_
        refine lv_iload_n hx hb dX1_insert_68 rfl (lv_at hl 1 rfl) ?_
        refine lv_iconst (v := (nI 0)) hx hb dX1_insert_69 (by decide +kernel) ?_
        refine lv_iload_n hx hb dX1_insert_70 rfl (lv_at hl 0 rfl) ?_
        refine sf_callv (C := RX1) (As := [.int (nI j), .int (nI 0), .int (nI (2 ^ j))]) (rest := []) ⟨hx, hb, hml, hown, hts⟩ (metX1_keep l G ad ca cp Ar De L1 T U lv tt pb (mv + (2 ^ (j + 1) - 1)) j 0 (2 ^ j) hj (Nat.le_refl _) (by omega)) (cwV 3 hts (lw_V q67 q69 qs1 q13 q70) rfl rfl rfl (by decide +kernel) (by rw [hR]; exact ⟨by decide, by decide⟩)) hK hP hD hS hA rfl rfl rfl hl.1 rfl (Nat.le_of_ble_eq_true rfl) dX1_insert_71 ⟨Nat.zero_le _, Nat.zero_le _⟩ (fun u H locs hpo hP hD hS => ?_)
        have eA : fb_put Ar (fun k => T (0 + k)) (2 ^ j - 1) (2 ^ j) = fb_put Ar (fun k => (cas Ar (fun p => !De p) v j k).1) (2 ^ j - 1) (2 ^ j) := fb_put_cong (fun _ _ => rfl) (fun k hk => by rw [Nat.zero_add]; exact (hT k hk).1)
        have eD : fb_put De (fun k => U (0 + k)) (2 ^ j - 1) (2 ^ j) = fb_put De (fun k => !(cas Ar (fun p => !De p) v j k).2) (2 ^ j - 1) (2 ^ j) := fb_put_cong (fun _ _ => rfl) (fun k hk => by rw [Nat.zero_add]; exact (hT k hk).2)
        rw [eA, eD] at hP hD
        have hP : va_P G clR (WX ad ca cp (fb_put Ar (fun k => (cas Ar (fun p => !De p) v j k).1) (2 ^ j - 1) (2 ^ j)) (fb_put De (fun k => !(cas Ar (fun p => !De p) v j k).2) (2 ^ j - 1) (2 ^ j)) (va_up L1 j (2 ^ j)) T U lv tt pb (mv + (2 ^ (j + 1) - 1))) H := hP
        have hD : va_D A (WX ad ca cp (fb_put Ar (fun k => (cas Ar (fun p => !De p) v j k).1) (2 ^ j - 1) (2 ^ j)) (fb_put De (fun k => !(cas Ar (fun p => !De p) v j k).2) (2 ^ j - 1) (2 ^ j)) (va_up L1 j (2 ^ j)) T U lv tt pb (mv + (2 ^ (j + 1) - 1))) := hD
        refine lv_aload_n hx hb dX1_insert_74 rfl (lv_at hl 2 rfl) ?_
        refine lv_dup hx hb dX1_insert_75 rfl ?_
        refine va_get (D := G) (ci := 0) (v := .int (nI lv)) (C := RX1) (T := TX1) (N := 10) hx hb hts in_X1 hown hK hP 0 rfl rfl 6 (by decide) (hts _ q29) (fun _ h9 => h9) rfl dX1_insert_76 ?_
        refine lv_iconst (v := (nI 1)) hx hb dX1_insert_79 (by decide +kernel) ?_
        refine rr_nadd hx hb dX1_insert_80 ?_
        refine va_put (D := G) (ci := 0) (v := .int (nI (lv + 1))) (ty := .int) (C := RX1) (T := TX1) (N := 10) hx hb hts in_X1 tyX1 tyX1_ok nmX1 hown hK hP hD hS 0 rfl rfl 6 (by decide) (hts _ q29) (fun _ h9 => h9) rfl (by decide +kernel) rfl rfl (Nat.le_of_ble_eq_true rfl) dX1_insert_81 (fun H locs hP hD hS => ?_)
        have hP : va_P G clR (WX ad ca cp (fb_put Ar (fun k => (cas Ar (fun p => !De p) v j k).1) (2 ^ j - 1) (2 ^ j)) (fb_put De (fun k => !(cas Ar (fun p => !De p) v j k).2) (2 ^ j - 1) (2 ^ j)) (va_up L1 j (2 ^ j)) T U (lv + 1) tt pb (mv + (2 ^ (j + 1) - 1))) H := hP
        have hD : va_D A (WX ad ca cp (fb_put Ar (fun k => (cas Ar (fun p => !De p) v j k).1) (2 ^ j - 1) (2 ^ j)) (fb_put De (fun k => !(cas Ar (fun p => !De p) v j k).2) (2 ^ j - 1) (2 ^ j)) (va_up L1 j (2 ^ j)) T U (lv + 1) tt pb (mv + (2 ^ (j + 1) - 1))) := hD
        refine lv_aload_n hx hb dX1_insert_84 rfl (lv_at hl 2 rfl) ?_
        refine lv_dup hx hb dX1_insert_85 rfl ?_
        refine va_get (D := G) (ci := 0) (v := .int (nI tt)) (C := RX1) (T := TX1) (N := 10) hx hb hts in_X1 hown hK hP 0 rfl rfl 7 (by decide) (hts _ q30) (fun _ h9 => h9) rfl dX1_insert_86 ?_
        refine lv_iconst (v := (nI 1)) hx hb dX1_insert_89 (by decide +kernel) ?_
        refine rr_nadd hx hb dX1_insert_90 ?_
        refine va_put (D := G) (ci := 0) (v := .int (nI (tt + 1))) (ty := .int) (C := RX1) (T := TX1) (N := 10) hx hb hts in_X1 tyX1 tyX1_ok nmX1 hown hK hP hD hS 0 rfl rfl 7 (by decide) (hts _ q30) (fun _ h9 => h9) rfl (by decide +kernel) rfl rfl (Nat.le_of_ble_eq_true rfl) dX1_insert_91 (fun H locs hP hD hS => ?_)
        have hP : va_P G clR (WX ad ca cp (fb_put Ar (fun k => (cas Ar (fun p => !De p) v j k).1) (2 ^ j - 1) (2 ^ j)) (fb_put De (fun k => !(cas Ar (fun p => !De p) v j k).2) (2 ^ j - 1) (2 ^ j)) (va_up L1 j (2 ^ j)) T U (lv + 1) (tt + 1) pb (mv + (2 ^ (j + 1) - 1))) H := hP
        have hD : va_D A (WX ad ca cp (fb_put Ar (fun k => (cas Ar (fun p => !De p) v j k).1) (2 ^ j - 1) (2 ^ j)) (fb_put De (fun k => !(cas Ar (fun p => !De p) v j k).2) (2 ^ j - 1) (2 ^ j)) (va_up L1 j (2 ^ j)) T U (lv + 1) (tt + 1) pb (mv + (2 ^ (j + 1) - 1))) := hD
        refine lv_iconst (v := (nI 0)) hx hb dX1_insert_94 (by decide +kernel) ?_
        exact hret 95 _ _ _ _ (va_up L1 j (2 ^ j), T, U) dX1_insert_95 ⟨rfl, fun i hi => by
          by_cases e : i = j
          · subst e; show va_up L1 i (2 ^ i) i = _; rw [up_s, if_neg (Nat.lt_irrefl i), if_pos rfl]
          · show va_up L1 j (2 ^ j) i = _; rw [up_n e, hL i, if_neg e]⟩ hP hD hS
      · have hlt : j < j0 := by
          rcases Nat.lt_or_ge j j0 with h | h
          · exact h
          · rw [eL, show j = j0 by omega, hL0] at c1; omega
        have eL2 : L1 j = 2 ^ j := by rw [eL, hL1 j hlt]
        have hpp := pow_2 j
        have hpp2 := pow_2 (j + 1)
        refine lv_aload_n hx hb dX1_insert_51 rfl (lv_at hl 2 rfl) ?_
        refine lv_iload_n hx hb dX1_insert_52 rfl (lv_at hl 1 rfl) ?_
        refine lv_iload_n hx hb dX1_insert_53 rfl (lv_at hl 0 rfl) ?_
        refine sf_callv (C := RX1) (As := [.int (nI j), .int (nI (2 ^ j))]) (rest := []) ⟨hx, hb, hml, hown, hts⟩ (metX1_merge l G ad ca cp Ar De L1 T U lv tt pb q j (2 ^ j) (by omega) (by omega) (by omega)) (cwV 2 hts (lw_V q60 q62 qs0 q13 q63) rfl rfl rfl (by decide +kernel) (by rw [hR]; exact ⟨by decide, by decide⟩)) hK hP hD hS hA rfl rfl rfl hl.1 rfl (Nat.le_of_ble_eq_true rfl) dX1_insert_54 ⟨Nat.zero_le _, Nat.zero_le _⟩ (fun u H locs hpo hP hD hS => ?_)
        have hP : va_P G clR (WX ad ca cp Ar De (va_up L1 j 0) (u.1) (u.2) lv tt pb (q + (L1 j + 2 ^ j))) H := hP
        have hD : va_D A (WX ad ca cp Ar De (va_up L1 j 0) (u.1) (u.2) lv tt pb (q + (L1 j + 2 ^ j))) := hD
        refine lv_iload_n hx hb dX1_insert_57 rfl (lv_at hl 0 rfl) ?_
        refine lv_iconst (v := (nI 2)) hx hb dX1_insert_58 (by decide +kernel) ?_
        refine rr_nmul hx hb dX1_insert_59 ?_
        refine lv_istore_n (lv' := [(3, .int (nI ((2 ^ j) * 2))), (2, .int (nI j)), (0, .ref (ad 0)), (1, .int v)]) hx hb dX1_insert_60 rfl hl (by decide) rfl (fun ls hl => ?_)
        refine lv_iinc (v := (nI (j + 1))) (lv' := [(2, .int (nI (j + 1))), (3, .int (nI ((2 ^ j) * 2))), (0, .ref (ad 0)), (1, .int v)]) hx hb dX1_insert_61 hl (k := 1) rfl (rr_inc j) (by decide) rfl (fun ls hl => ?_)
        refine lv_goto (tgt := 42) hx hb dX1_insert_64 (by decide) ?_
        rw [show 2 ^ j * 2 = 2 ^ (j + 1) from (Nat.pow_succ ..).symm] at hl
        rw [eL2, hpp] at hpo
        refine ih (j + 1) _ _ _ _ (by omega) hlt (fun i => ?_) (fun k hk => ?_) (by rw [eL2, hq]; omega) _ _ hP hD hS _ (lv_sub hl [1, 0, 2, 3] rfl)
        · by_cases e : i = j
          · rw [e, up_s, if_pos (by omega)]
          · rw [up_n e, hL i]
            by_cases e2 : i < j
            · rw [if_pos e2, if_pos (by omega)]
            · rw [if_neg e2, if_neg (by omega)]
        · have e1 := hpo k hk
          have e2 : mbf (rn Ar (fun p => !De p) j) (fun k => (T k, !U k)) (2 ^ j) (2 ^ j) = cas Ar (fun p => !De p) v (j + 1) := mbf_cong _ _ (fun _ _ => rfl) (fun k hk => by
            rw [(hT k hk).1, (hT k hk).2, Bool.not_not])
          rw [e2] at e1
          exact e1
  refine lv_aload_n hx hb dX1_insert_0 rfl (lv_at hl 0 rfl) ?_
  refine va_get (D := G) (ci := 0) (v := .int (nI lv)) (C := RX1) (T := TX1) (N := 10) hx hb hts in_X1 hown hK hP 0 rfl rfl 6 (by decide) (hts _ q29) (fun _ h9 => h9) rfl dX1_insert_1 ?_
  refine lv_aload_n hx hb dX1_insert_4 rfl (lv_at hl 0 rfl) ?_
  refine va_get (D := G) (ci := 0) (v := .int (nI cp)) (C := RX1) (T := TX1) (N := 10) hx hb hts in_X1 hown hK hP 0 rfl rfl 5 (by decide) (hts _ q28) (fun _ h9 => h9) rfl dX1_insert_5 ?_
  refine rr_icmp_ne (tgt := 14) hx hb dX1_insert_8 (by decide) (by omega) (by omega) (fun c0 => ?_) (fun c0 => ?_)
  · refine lv_aload_n hx hb dX1_insert_14 rfl (lv_at hl 0 rfl) ?_
    refine va_get (D := G) (ci := 0) (v := .ref (ad 4)) (C := RX1) (T := TX1) (N := 10) hx hb hts in_X1 hown hK hP 0 rfl rfl 3 (by decide) (hts _ q26) (fun _ h9 => h9) rfl dX1_insert_15 ?_
    refine lv_iconst (v := (nI 0)) hx hb dX1_insert_18 (by decide +kernel) ?_
    refine lv_iload_n hx hb dX1_insert_19 rfl (lv_at hl 1 rfl) ?_
    refine rr_iast (f := Tm) (k := 0) hx hb hK hP hD hS 4 3 rfl rfl (by omega) (by decide) dX1_insert_20 (fun H locs hP hD hS => ?_)
    have hP : va_P G clR (WX ad ca cp Ar De Ln (va_up Tm 0 v) Td lv tt pb mv) H := hP
    have hD : va_D A (WX ad ca cp Ar De Ln (va_up Tm 0 v) Td lv tt pb mv) := hD
    refine lv_aload_n hx hb dX1_insert_21 rfl (lv_at hl 0 rfl) ?_
    refine va_get (D := G) (ci := 0) (v := .ref (ad 5)) (C := RX1) (T := TX1) (N := 10) hx hb hts in_X1 hown hK hP 0 rfl rfl 4 (by decide) (hts _ q27) (fun _ h9 => h9) rfl dX1_insert_22 ?_
    refine lv_iconst (v := (nI 0)) hx hb dX1_insert_25 (by decide +kernel) ?_
    refine lv_iconst (v := (bI false)) hx hb dX1_insert_26 (by decide +kernel) ?_
    refine rr_zast (B := Td) (k := 0) hx hb hK hP hD hS 5 4 rfl rfl (by omega) (by decide) dX1_insert_27 (fun H locs hP hD hS => ?_)
    have hP : va_P G clR (WX ad ca cp Ar De Ln (va_up Tm 0 v) (va_up Td 0 false) lv tt pb mv) H := hP
    have hD : va_D A (WX ad ca cp Ar De Ln (va_up Tm 0 v) (va_up Td 0 false) lv tt pb mv) := hD
    refine lv_aload_n hx hb dX1_insert_28 rfl (lv_at hl 0 rfl) ?_
    refine lv_dup hx hb dX1_insert_29 rfl ?_
    refine va_get (D := G) (ci := 0) (v := .int (nI mv)) (C := RX1) (T := TX1) (N := 10) hx hb hts in_X1 hown hK hP 0 rfl rfl 9 (by decide) (hts _ q32) (fun _ h9 => h9) rfl dX1_insert_30 ?_
    refine lv_iconst (v := (nI 1)) hx hb dX1_insert_33 (by decide +kernel) ?_
    refine rr_nadd hx hb dX1_insert_34 ?_
    refine va_put (D := G) (ci := 0) (v := .int (nI (mv + 1))) (ty := .int) (C := RX1) (T := TX1) (N := 10) hx hb hts in_X1 tyX1 tyX1_ok nmX1 hown hK hP hD hS 0 rfl rfl 9 (by decide) (hts _ q32) (fun _ h9 => h9) rfl (by decide +kernel) rfl rfl (Nat.le_of_ble_eq_true rfl) dX1_insert_35 (fun H locs hP hD hS => ?_)
    have hP : va_P G clR (WX ad ca cp Ar De Ln (va_up Tm 0 v) (va_up Td 0 false) lv tt pb (mv + 1)) H := hP
    have hD : va_D A (WX ad ca cp Ar De Ln (va_up Tm 0 v) (va_up Td 0 false) lv tt pb (mv + 1)) := hD
    refine lv_iconst (v := (nI 0)) hx hb dX1_insert_38 (by decide +kernel) ?_
    refine lv_istore_n (lv' := [(2, .int (nI 0)), (0, .ref (ad 0)), (1, .int v)]) hx hb dX1_insert_39 rfl hl (by decide) rfl (fun ls hl => ?_)
    refine lv_iconst (v := (nI 1)) hx hb dX1_insert_40 (by decide +kernel) ?_
    refine lv_istore_n (lv' := [(3, .int (nI 1)), (2, .int (nI 0)), (0, .ref (ad 0)), (1, .int v)]) hx hb dX1_insert_41 rfl hl (by decide) rfl (fun ls hl => ?_)
    refine loop (j0 + 1) 0 _ _ _ _ (by omega) (Nat.zero_le _) (fun i => (if_neg (Nat.not_lt_zero i)).symm) (fun k hk => ?_) rfl _ _ hP hD hS _ (lv_sub hl [0, 1, 2, 3] rfl)
    rw [Nat.pow_zero] at hk
    have ek : k = 0 := by omega
    rw [ek, up_s, up_s]
    exact ⟨rfl, rfl⟩
  · exact absurd c0 hf
end
section
/-! contracts of RankRuns: what is made anew -/
set_option maxRecDepth 100000
set_option maxHeartbeats 4000000 in
set_option maxRecDepth 100000 in
theorem metX1_gather (l : Launch) (G : va_G) (ad : Nat → Nat) (ca : Nat → ClassId) (cp : Nat) (Ar : Nat → Int32) (De : Nat → Bool) (Ln : Nat → Nat) (Tm : Nat → Int32) (Td : Nat → Bool) (lv tt pb mv : Nat)  (hL : ∀ j, j < 10 → Ln j ≤ 2 ^ j) : CV (S := (Nat → Nat) × (Nat → Int32) × (Nat → Bool)) l yX1_gather (ws_ yX1_gather cX1_gather 5 none) rq1 G clR (tyX ca) (WX ad ca cp Ar De Ln Tm Td lv tt pb mv) [.ref (ad 0)] (fun u => (∀ i, i < 10 → u.1 i = 0) ∧ srt u.2.1 (nr (fun p => !De p) Ln 10) ∧ (∀ v : Int32, fb_ct (fun q => decide (u.2.1 q ≤ v)) (nr (fun p => !De p) Ln 10) = nr (leq Ar (fun p => !De p) v) Ln 10) ∧ ∀ k, k < nr (fun p => !De p) Ln 10 → u.2.2 k = false) (fun u => WX ad ca cp Ar De (u.1) (u.2.1) (u.2.2) lv tt pb mv) := by
  refine cv_start (by decide) (Nat.le_of_ble_eq_true rfl) ?_
  intro p e s m args below meth c R Q A ls hx hb hml hown hts hR hA hK hP hD hret hl
  have hown : s.vm.findClass RX1 = some m.cls := hown
  have hS : va_S A s.heap s.heap [] := va_S.rf
  have hl : lv_has ls 5 [(0, .ref (ad 0))] := hl
  have hN : nr (fun p => !De p) Ln 10 ≤ 1023 := nr_le _ _ 10 hL
  have clear : ∀ (n k : Nat) (L1 : Nat → Nat) (T : Nat → Int32) (U1 : Nat → Bool), nr (fun p => !De p) Ln 10 - k < n → k ≤ nr (fun p => !De p) Ln 10 → (∀ i, i < 10 → L1 i = 0) → srt T (nr (fun p => !De p) Ln 10) → (∀ v : Int32, fb_ct (fun q => decide (T q ≤ v)) (nr (fun p => !De p) Ln 10) = nr (leq Ar (fun p => !De p) v) Ln 10) → (∀ q, q < k → U1 q = false) → ∀ (H : Heap) (locs : List Loc), va_P G clR (WX ad ca cp Ar De L1 T U1 lv tt pb mv) H → va_D A (WX ad ca cp Ar De L1 T U1 lv tt pb mv) → va_S A s.heap H locs → ∀ ls : Array Slot, lv_has ls 5 [(2, .int (nI k)), (1, .int (nI (nr (fun p => !De p) Ln 10))), (0, .ref (ad 0))] → W p l e R s m args below meth c H locs 0 0 Q (F0 m 127 ls []) := by
    intro n
    induction n with
    | zero =>
      intro k L1 T U1 h1
      exact absurd h1 (by omega)
    | succ n ih =>
      intro k L1 T U1 h1 h2 hz hs hc hu H locs hP hD hS ls hl
      refine lv_iload_n hx hb dX1_gather_127 rfl (lv_at hl 0 rfl) ?_
      refine lv_iload_n hx hb dX1_gather_128 rfl (lv_at hl 1 rfl) ?_
      refine rr_icmp_ge (tgt := 145) hx hb dX1_gather_129 (by decide) (by omega) (by omega) (fun c1 => ?_) (fun c1 => ?_)
      · exact hret 145 _ _ _ (L1, T, U1) dX1_gather_145 ⟨hz, hs, hc, fun q hq => hu q (by omega)⟩ hP hD hS
      · refine lv_aload_n hx hb dX1_gather_132 rfl (lv_at hl 2 rfl) ?_
        refine va_get (D := G) (ci := 0) (v := .ref (ad 5)) (C := RX1) (T := TX1) (N := 10) hx hb hts in_X1 hown hK hP 0 rfl rfl 4 (by decide) (hts _ q27) (fun _ h9 => h9) rfl dX1_gather_133 ?_
        refine lv_iload_n hx hb dX1_gather_136 rfl (lv_at hl 0 rfl) ?_
        refine lv_iconst (v := (bI false)) hx hb dX1_gather_137 (by decide +kernel) ?_
        refine rr_zast (B := U1) (k := k) hx hb hK hP hD hS 5 4 rfl rfl (by omega) (by decide) dX1_gather_138 (fun H locs hP hD hS => ?_)
        have hP : va_P G clR (WX ad ca cp Ar De L1 T (va_up U1 k false) lv tt pb mv) H := hP
        have hD : va_D A (WX ad ca cp Ar De L1 T (va_up U1 k false) lv tt pb mv) := hD
        refine lv_iinc (v := (nI (k + 1))) (lv' := [(2, .int (nI (k + 1))), (1, .int (nI (nr (fun p => !De p) Ln 10))), (0, .ref (ad 0))]) hx hb dX1_gather_139 hl (k := 0) rfl (rr_inc k) (by decide) rfl (fun ls hl => ?_)
        refine lv_goto (tgt := 127) hx hb dX1_gather_142 (by decide) ?_
        refine ih (k + 1) _ _ _ (by omega) (by omega) hz hs hc (fun q hq => ?_) _ _ hP hD hS _ (lv_sub hl [0, 1, 2] rfl)
        by_cases e : q = k
        · rw [e, up_s]
        · rw [up_n e]; exact hu q (by omega)
  have outer : ∀ (n i N : Nat) (L1 : Nat → Nat) (T : Nat → Int32), 10 - i < n → i ≤ 10 → (∀ q, L1 q = if q < i then 0 else Ln q) → gaI Ar (fun p => !De p) Ln i 0 N T → ∀ (H : Heap) (locs : List Loc), va_P G clR (WX ad ca cp Ar De L1 T Td lv tt pb mv) H → va_D A (WX ad ca cp Ar De L1 T Td lv tt pb mv) → va_S A s.heap H locs → ∀ ls : Array Slot, lv_has ls 5 [(2, .int (nI i)), (1, .int (nI N)), (0, .ref (ad 0))] → W p l e R s m args below meth c H locs 0 0 Q (F0 m 4 ls []) := by
    intro n
    induction n with
    | zero =>
      intro i N L1 T h1
      exact absurd h1 (by omega)
    | succ n ih =>
      intro i N L1 T h1 h2 hL1 hG H locs hP hD hS ls hl
      refine lv_iload_n hx hb dX1_gather_4 rfl (lv_at hl 0 rfl) ?_
      refine lv_bipush (v := (nI 10)) hx hb dX1_gather_5 (by decide +kernel) ?_
      refine rr_icmp_ge (tgt := 125) hx hb dX1_gather_7 (by decide) (by omega) (by omega) (fun c1 => ?_) (fun c1 => ?_)
      · have ei : i = 10 := by omega
        subst ei
        have eN : N = nr (fun p => !De p) Ln 10 := hG.1
        subst eN
        refine lv_iconst (v := (nI 0)) hx hb dX1_gather_125 (by decide +kernel) ?_
        refine lv_istore_n (lv' := [(2, .int (nI 0)), (1, .int (nI (nr (fun p => !De p) Ln 10))), (0, .ref (ad 0))]) hx hb dX1_gather_126 rfl hl (by decide) rfl (fun ls hl => ?_)
        exact clear _ 0 _ _ _ (Nat.lt_succ_self _) (Nat.zero_le _) (fun i hi => by rw [hL1 i, if_pos hi]) hG.2.1 hG.2.2 (fun q hq => absurd hq (Nat.not_lt_zero q)) _ _ hP hD hS _ (lv_sub hl [0, 1, 2] rfl)
      · have hp := rr_pow c1
        have hLi := hL i c1
        have eL : L1 i = Ln i := by rw [hL1 i, if_neg (Nat.lt_irrefl i)]
        have mid : ∀ (n2 k N : Nat) (T : Nat → Int32), Ln i - k < n2 → k ≤ Ln i → gaI Ar (fun p => !De p) Ln i k N T → ∀ (H : Heap) (locs : List Loc), va_P G clR (WX ad ca cp Ar De L1 T Td lv tt pb mv) H → va_D A (WX ad ca cp Ar De L1 T Td lv tt pb mv) → va_S A s.heap H locs → ∀ ls : Array Slot, lv_has ls 5 [(3, .int (nI (2 ^ i - 1 + k))), (2, .int (nI i)), (1, .int (nI N)), (0, .ref (ad 0))] → W p l e R s m args below meth c H locs 0 0 Q (F0 m 15 ls []) := by
          intro n2
          induction n2 with
          | zero =>
            intro k N T h1
            exact absurd h1 (by omega)
          | succ n2 ih2 =>
            intro k N T g1 g2 hG H locs hP hD hS ls hl
            have hNk := gaI_le hG (fun j hj => hL j (by omega))
            refine lv_iload_n hx hb dX1_gather_15 rfl (lv_at hl 0 rfl) ?_
            refine lv_iload_n hx hb dX1_gather_16 rfl (lv_at hl 1 rfl) ?_
            refine so_X (i := i) hx hb hml hown hts (by omega) (by rw [hR]; exact ⟨by decide, by decide⟩) hl.1 (Nat.le_of_ble_eq_true rfl) dX1_gather_17 ?_
            refine lv_aload_n hx hb dX1_gather_20 rfl (lv_at hl 3 rfl) ?_
            refine va_get (D := G) (ci := 0) (v := .ref (ad 3)) (C := RX1) (T := TX1) (N := 10) hx hb hts in_X1 hown hK hP 0 rfl rfl 2 (by decide) (hts _ q25) (fun _ h9 => h9) rfl dX1_gather_21 ?_
            refine lv_iload_n hx hb dX1_gather_24 rfl (lv_at hl 1 rfl) ?_
            refine rr_nald (L := L1) (k := i) hx hb hK hP 3 2 rfl rfl (by omega) (by decide) dX1_gather_25 ?_
            refine rr_nadd hx hb dX1_gather_26 ?_
            refine rr_icmp_ge (tgt := 112) hx hb dX1_gather_27 (by decide) (by omega) (by omega) (fun c2 => ?_) (fun c2 => ?_)
            · have ek : k = Ln i := by omega
              refine lv_aload_n hx hb dX1_gather_112 rfl (lv_at hl 3 rfl) ?_
              refine va_get (D := G) (ci := 0) (v := .ref (ad 3)) (C := RX1) (T := TX1) (N := 10) hx hb hts in_X1 hown hK hP 0 rfl rfl 2 (by decide) (hts _ q25) (fun _ h9 => h9) rfl dX1_gather_113 ?_
              refine lv_iload_n hx hb dX1_gather_116 rfl (lv_at hl 1 rfl) ?_
              refine lv_iconst (v := (nI 0)) hx hb dX1_gather_117 (by decide +kernel) ?_
              refine rr_nast (L := L1) (k := i) hx hb hK hP hD hS 3 2 rfl rfl (by omega) (by decide) dX1_gather_118 (fun H locs hP hD hS => ?_)
              have hP : va_P G clR (WX ad ca cp Ar De (va_up L1 i 0) T Td lv tt pb mv) H := hP
              have hD : va_D A (WX ad ca cp Ar De (va_up L1 i 0) T Td lv tt pb mv) := hD
              refine lv_iinc (v := (nI (i + 1))) (lv' := [(2, .int (nI (i + 1))), (3, .int (nI (2 ^ i - 1 + k))), (1, .int (nI N)), (0, .ref (ad 0))]) hx hb dX1_gather_119 hl (k := 1) rfl (rr_inc i) (by decide) rfl (fun ls hl => ?_)
              refine lv_goto (tgt := 4) hx hb dX1_gather_122 (by decide) ?_
              subst ek
              refine ih (i + 1) N _ T (by omega) (by omega) (fun q => ?_) (gaI_next hG) _ _ hP hD hS _ (lv_sub hl [0, 2, 3] rfl)
              by_cases e : q = i
              · rw [e, up_s, if_pos (by omega)]
              · rw [up_n e, hL1 q]
                by_cases e2 : q < i
                · rw [if_pos e2, if_pos (by omega)]
                · rw [if_neg e2, if_neg (by omega)]
            · refine lv_aload_n hx hb dX1_gather_30 rfl (lv_at hl 3 rfl) ?_
              refine va_get (D := G) (ci := 0) (v := .ref (ad 2)) (C := RX1) (T := TX1) (N := 10) hx hb hts in_X1 hown hK hP 0 rfl rfl 1 (by decide) (hts _ q24) (fun _ h9 => h9) rfl dX1_gather_31 ?_
              refine lv_iload_n hx hb dX1_gather_34 rfl (lv_at hl 0 rfl) ?_
              refine rr_zald (B := De) (k := 2 ^ i - 1 + k) hx hb hK hP 2 1 rfl rfl (by omega) (by decide) dX1_gather_35 ?_
              refine rr_ifeq_b (tgt := 42) hx hb dX1_gather_36 (by decide) (fun c3 => ?_) (fun c3 => ?_)
              · have hG2 := gaI_live hG (by rw [c3]; rfl)
                refine lv_iload_n hx hb dX1_gather_42 rfl (lv_at hl 2 rfl) ?_
                refine lv_iinc (v := (nI (N + 1))) (lv' := [(1, .int (nI (N + 1))), (3, .int (nI (2 ^ i - 1 + k))), (2, .int (nI i)), (0, .ref (ad 0))]) hx hb dX1_gather_43 hl (k := 2) rfl (rr_inc N) (by decide) rfl (fun ls hl => ?_)
                refine lv_istore (lv' := [(4, .int (nI N)), (1, .int (nI (N + 1))), (3, .int (nI (2 ^ i - 1 + k))), (2, .int (nI i)), (0, .ref (ad 0))]) hx hb dX1_gather_46 hl (by decide) rfl (fun ls hl => ?_)
                have ins : ∀ (a : Nat) (T1 : Nat → Int32), a ≤ N → insF (Ar (2 ^ i - 1 + k)) a T1 = insF (Ar (2 ^ i - 1 + k)) N T → ∀ (H : Heap) (locs : List Loc), va_P G clR (WX ad ca cp Ar De L1 T1 Td lv tt pb mv) H → va_D A (WX ad ca cp Ar De L1 T1 Td lv tt pb mv) → va_S A s.heap H locs → ∀ ls : Array Slot, lv_has ls 5 [(4, .int (nI a)), (1, .int (nI (N + 1))), (3, .int (nI (2 ^ i - 1 + k))), (2, .int (nI i)), (0, .ref (ad 0))] → W p l e R s m args below meth c H locs 0 0 Q (F0 m 48 ls []) := by
                  intro a
                  induction a with
                  | zero =>
                    intro T1 g3 e1 H locs hP hD hS ls hl
                    refine lv_iload hx hb dX1_gather_48 (lv_at hl 0 rfl) ?_
                    refine rr_if_le (tgt := 93) hx hb dX1_gather_50 (by decide) (by omega) (fun c4 => ?_) (fun c4 => ?_)
                    · refine lv_aload_n hx hb dX1_gather_93 rfl (lv_at hl 4 rfl) ?_
                      refine va_get (D := G) (ci := 0) (v := .ref (ad 4)) (C := RX1) (T := TX1) (N := 10) hx hb hts in_X1 hown hK hP 0 rfl rfl 3 (by decide) (hts _ q26) (fun _ h9 => h9) rfl dX1_gather_94 ?_
                      refine lv_iload hx hb dX1_gather_97 (lv_at hl 0 rfl) ?_
                      refine lv_aload_n hx hb dX1_gather_99 rfl (lv_at hl 4 rfl) ?_
                      refine va_get (D := G) (ci := 0) (v := .ref (ad 1)) (C := RX1) (T := TX1) (N := 10) hx hb hts in_X1 hown hK hP 0 rfl rfl 0 (by decide) (hts _ q23) (fun _ h9 => h9) rfl dX1_gather_100 ?_
                      refine lv_iload_n hx hb dX1_gather_103 rfl (lv_at hl 2 rfl) ?_
                      refine rr_iald (f := Ar) (k := 2 ^ i - 1 + k) hx hb hK hP 1 0 rfl rfl (by omega) (by decide) dX1_gather_104 ?_
                      refine rr_iast (f := T1) (k := 0) hx hb hK hP hD hS 4 3 rfl rfl (by omega) (by decide) dX1_gather_105 (fun H locs hP hD hS => ?_)
                      have hP : va_P G clR (WX ad ca cp Ar De L1 (va_up T1 0 (Ar (2 ^ i - 1 + k))) Td lv tt pb mv) H := hP
                      have hD : va_D A (WX ad ca cp Ar De L1 (va_up T1 0 (Ar (2 ^ i - 1 + k))) Td lv tt pb mv) := hD
                      refine lv_iinc (v := (nI (2 ^ i - 1 + k + 1))) (lv' := [(3, .int (nI (2 ^ i - 1 + k + 1))), (4, .int (nI 0)), (1, .int (nI (N + 1))), (2, .int (nI i)), (0, .ref (ad 0))]) hx hb dX1_gather_106 hl (k := 2) rfl (rr_inc (2 ^ i - 1 + k)) (by decide) rfl (fun ls hl => ?_)
                      refine lv_goto (tgt := 15) hx hb dX1_gather_109 (by decide) ?_
                      have e1 : va_up T1 0 (Ar (2 ^ i - 1 + k)) = insF (Ar (2 ^ i - 1 + k)) N T := e1
                      rw [e1] at hP hD
                      exact ih2 (k + 1) (N + 1) _ (by omega) (by omega) hG2 _ _ hP hD hS _ (lv_sub hl [0, 3, 2, 4] rfl)
                    · exact absurd c4 (Nat.lt_irrefl 0)
                  | succ a ih3 =>
                    intro T1 g3 e1 H locs hP hD hS ls hl
                    refine lv_iload hx hb dX1_gather_48 (lv_at hl 0 rfl) ?_
                    refine rr_if_le (tgt := 93) hx hb dX1_gather_50 (by decide) (by omega) (fun c4 => ?_) (fun c4 => ?_)
                    · exact absurd c4 (Nat.succ_ne_zero a)
                    · refine lv_aload_n hx hb dX1_gather_53 rfl (lv_at hl 4 rfl) ?_
                      refine va_get (D := G) (ci := 0) (v := .ref (ad 4)) (C := RX1) (T := TX1) (N := 10) hx hb hts in_X1 hown hK hP 0 rfl rfl 3 (by decide) (hts _ q26) (fun _ h9 => h9) rfl dX1_gather_54 ?_
                      refine lv_iload hx hb dX1_gather_57 (lv_at hl 0 rfl) ?_
                      refine lv_iconst (v := (nI 1)) hx hb dX1_gather_59 (by decide +kernel) ?_
                      refine rr_npred hx hb dX1_gather_60 ?_
                      refine rr_iald (f := T1) (k := a) hx hb hK hP 4 3 rfl rfl (by omega) (by decide) dX1_gather_61 ?_
                      refine lv_aload_n hx hb dX1_gather_62 rfl (lv_at hl 4 rfl) ?_
                      refine va_get (D := G) (ci := 0) (v := .ref (ad 1)) (C := RX1) (T := TX1) (N := 10) hx hb hts in_X1 hown hK hP 0 rfl rfl 0 (by decide) (hts _ q23) (fun _ h9 => h9) rfl dX1_gather_63 ?_
                      refine lv_iload_n hx hb dX1_gather_66 rfl (lv_at hl 2 rfl) ?_
                      refine rr_iald (f := Ar) (k := 2 ^ i - 1 + k) hx hb hK hP 1 0 rfl rfl (by omega) (by decide) dX1_gather_67 ?_
                      refine lv_icmp_le (tgt := 93) hx hb dX1_gather_68 (by decide) (fun c5 => ?_) (fun c5 => ?_)
                      · rw [insF, if_pos c5] at e1
                        refine lv_aload_n hx hb dX1_gather_93 rfl (lv_at hl 4 rfl) ?_
                        refine va_get (D := G) (ci := 0) (v := .ref (ad 4)) (C := RX1) (T := TX1) (N := 10) hx hb hts in_X1 hown hK hP 0 rfl rfl 3 (by decide) (hts _ q26) (fun _ h9 => h9) rfl dX1_gather_94 ?_
                        refine lv_iload hx hb dX1_gather_97 (lv_at hl 0 rfl) ?_
                        refine lv_aload_n hx hb dX1_gather_99 rfl (lv_at hl 4 rfl) ?_
                        refine va_get (D := G) (ci := 0) (v := .ref (ad 1)) (C := RX1) (T := TX1) (N := 10) hx hb hts in_X1 hown hK hP 0 rfl rfl 0 (by decide) (hts _ q23) (fun _ h9 => h9) rfl dX1_gather_100 ?_
                        refine lv_iload_n hx hb dX1_gather_103 rfl (lv_at hl 2 rfl) ?_
                        refine rr_iald (f := Ar) (k := 2 ^ i - 1 + k) hx hb hK hP 1 0 rfl rfl (by omega) (by decide) dX1_gather_104 ?_
                        refine rr_iast (f := T1) (k := a + 1) hx hb hK hP hD hS 4 3 rfl rfl (by omega) (by decide) dX1_gather_105 (fun H locs hP hD hS => ?_)
                        have hP : va_P G clR (WX ad ca cp Ar De L1 (va_up T1 (a + 1) (Ar (2 ^ i - 1 + k))) Td lv tt pb mv) H := hP
                        have hD : va_D A (WX ad ca cp Ar De L1 (va_up T1 (a + 1) (Ar (2 ^ i - 1 + k))) Td lv tt pb mv) := hD
                        refine lv_iinc (v := (nI (2 ^ i - 1 + k + 1))) (lv' := [(3, .int (nI (2 ^ i - 1 + k + 1))), (4, .int (nI (a + 1))), (1, .int (nI (N + 1))), (2, .int (nI i)), (0, .ref (ad 0))]) hx hb dX1_gather_106 hl (k := 2) rfl (rr_inc (2 ^ i - 1 + k)) (by decide) rfl (fun ls hl => ?_)
                        refine lv_goto (tgt := 15) hx hb dX1_gather_109 (by decide) ?_
                        rw [e1] at hP hD
                        exact ih2 (k + 1) (N + 1) _ (by omega) (by omega) hG2 _ _ hP hD hS _ (lv_sub hl [0, 3, 2, 4] rfl)
                      · rw [insF, if_neg c5] at e1
                        refine lv_aload_n hx hb dX1_gather_71 rfl (lv_at hl 4 rfl) ?_
                        refine va_get (D := G) (ci := 0) (v := .ref (ad 4)) (C := RX1) (T := TX1) (N := 10) hx hb hts in_X1 hown hK hP 0 rfl rfl 3 (by decide) (hts _ q26) (fun _ h9 => h9) rfl dX1_gather_72 ?_
                        refine lv_iload hx hb dX1_gather_75 (lv_at hl 0 rfl) ?_
                        refine lv_aload_n hx hb dX1_gather_77 rfl (lv_at hl 4 rfl) ?_
                        refine va_get (D := G) (ci := 0) (v := .ref (ad 4)) (C := RX1) (T := TX1) (N := 10) hx hb hts in_X1 hown hK hP 0 rfl rfl 3 (by decide) (hts _ q26) (fun _ h9 => h9) rfl dX1_gather_78 ?_
                        refine lv_iload hx hb dX1_gather_81 (lv_at hl 0 rfl) ?_
                        refine lv_iconst (v := (nI 1)) hx hb dX1_gather_83 (by decide +kernel) ?_
                        refine rr_npred hx hb dX1_gather_84 ?_
                        refine rr_iald (f := T1) (k := a) hx hb hK hP 4 3 rfl rfl (by omega) (by decide) dX1_gather_85 ?_
                        refine rr_iast (f := T1) (k := a + 1) hx hb hK hP hD hS 4 3 rfl rfl (by omega) (by decide) dX1_gather_86 (fun H locs hP hD hS => ?_)
                        have hP : va_P G clR (WX ad ca cp Ar De L1 (va_up T1 (a + 1) (T1 a)) Td lv tt pb mv) H := hP
                        have hD : va_D A (WX ad ca cp Ar De L1 (va_up T1 (a + 1) (T1 a)) Td lv tt pb mv) := hD
                        refine lv_iinc (v := (nI a)) (lv' := [(4, .int (nI a)), (1, .int (nI (N + 1))), (3, .int (nI (2 ^ i - 1 + k))), (2, .int (nI i)), (0, .ref (ad 0))]) hx hb dX1_gather_87 hl (k := 0) rfl ((rr_dec _).trans (mI_succ _)) (by decide) rfl (fun ls hl => ?_)
                        refine lv_goto (tgt := 48) hx hb dX1_gather_90 (by decide) ?_
                        exact ih3 _ (by omega) e1 _ _ hP hD hS _ (lv_sub hl [0, 1, 2, 3, 4] rfl)
                exact ins N T (Nat.le_refl _) rfl _ _ hP hD hS _ (lv_sub hl [0, 1, 2, 3, 4] rfl)
              · have hG2 := gaI_dead hG (by rw [c3]; rfl)
                refine lv_goto (tgt := 106) hx hb dX1_gather_39 (by decide) ?_
                refine lv_iinc (v := (nI (2 ^ i - 1 + k + 1))) (lv' := [(3, .int (nI (2 ^ i - 1 + k + 1))), (2, .int (nI i)), (1, .int (nI N)), (0, .ref (ad 0))]) hx hb dX1_gather_106 hl (k := 0) rfl (rr_inc (2 ^ i - 1 + k)) (by decide) rfl (fun ls hl => ?_)
                refine lv_goto (tgt := 15) hx hb dX1_gather_109 (by decide) ?_
                exact ih2 (k + 1) N T (by omega) (by omega) hG2 _ _ hP hD hS _ (lv_sub hl [0, 1, 2, 3] rfl)
        refine lv_iload_n hx hb dX1_gather_10 rfl (lv_at hl 0 rfl) ?_
        refine so_X (i := i) hx hb hml hown hts (by omega) (by rw [hR]; exact ⟨by decide, by decide⟩) hl.1 (Nat.le_of_ble_eq_true rfl) dX1_gather_11 ?_
        refine lv_istore_n (lv' := [(3, .int (nI (2 ^ i - 1))), (2, .int (nI i)), (1, .int (nI N)), (0, .ref (ad 0))]) hx hb dX1_gather_14 rfl hl (by decide) rfl (fun ls hl => ?_)
        have hl : lv_has ls 5 [(3, .int (nI (2 ^ i - 1 + 0))), (2, .int (nI i)), (1, .int (nI N)), (0, .ref (ad 0))] := lv_sub hl [0, 1, 2, 3] rfl
        exact mid (Ln i + 1) 0 N T (by omega) (Nat.zero_le _) hG _ _ hP hD hS _ hl
  refine lv_iconst (v := (nI 0)) hx hb dX1_gather_0 (by decide +kernel) ?_
  refine lv_istore_n (lv' := [(1, .int (nI 0)), (0, .ref (ad 0))]) hx hb dX1_gather_1 rfl hl (by decide) rfl (fun ls hl => ?_)
  refine lv_iconst (v := (nI 0)) hx hb dX1_gather_2 (by decide +kernel) ?_
  refine lv_istore_n (lv' := [(2, .int (nI 0)), (1, .int (nI 0)), (0, .ref (ad 0))]) hx hb dX1_gather_3 rfl hl (by decide) rfl (fun ls hl => ?_)
  exact outer 11 0 0 Ln Tm (by omega) (by omega) (fun q => (if_neg (Nat.not_lt_zero q)).symm) gaI_0 _ _ hP hD hS _ (lv_sub hl [0, 1, 2] rfl)
set_option maxHeartbeats 4000000 in
set_option maxRecDepth 100000 in
theorem metX1_rebuild (l : Launch) (G : va_G) (ad : Nat → Nat) (ca : Nat → ClassId) (cp : Nat) (Ar : Nat → Int32) (De : Nat → Bool) (Ln : Nat → Nat) (Tm : Nat → Int32) (Td : Nat → Bool) (lv tt pb mv : Nat)  (hL : ∀ j, j < 10 → Ln j ≤ 2 ^ j) (hlv : lv = nr (fun p => !De p) Ln 10) (ht : lv ≤ tt) : CI (S := (Nat → Int32) × (Nat → Bool) × (Nat → Nat) × (Nat → Int32) × (Nat → Bool)) l yX1_rebuild (ws_ yX1_rebuild cX1_rebuild 4 (some .int)) rq2 G clR (tyX ca) (WX ad ca cp Ar De Ln Tm Td lv tt pb mv) [.ref (ad 0)] (fun r u => r = nI (tt - lv) ∧ ∃ g : Nat → Int32, srt g lv ∧ (∀ v : Int32, fb_ct (fun q => decide (g q ≤ v)) lv = nr (leq Ar (fun p => !De p) v) Ln 10) ∧ rbX g lv 0 u.1 u.2.1 u.2.2.1) (fun u => WX ad ca cp (u.1) (u.2.1) (u.2.2.1) (u.2.2.2.1) (u.2.2.2.2) lv lv pb (mv + lv)) := by
  refine ci_start (by decide) (Nat.le_of_ble_eq_true rfl) ?_
  intro p e s m args below meth c R Q A ls hx hb hml hown hts hR hA hK hP hD hret hl
  have hown : s.vm.findClass RX1 = some m.cls := hown
  have hS : va_S A s.heap s.heap [] := va_S.rf
  have hl : lv_has ls 4 [(0, .ref (ad 0))] := hl
  have hN : lv ≤ 1023 := by rw [hlv]; exact nr_le _ _ 10 hL
  refine lv_aload_n hx hb dX1_rebuild_0 rfl (lv_at hl 0 rfl) ?_
  refine va_get (D := G) (ci := 0) (v := .int (nI tt)) (C := RX1) (T := TX1) (N := 10) hx hb hts in_X1 hown hK hP 0 rfl rfl 7 (by decide) (hts _ q30) (fun _ h9 => h9) rfl dX1_rebuild_1 ?_
  refine lv_aload_n hx hb dX1_rebuild_4 rfl (lv_at hl 0 rfl) ?_
  refine va_get (D := G) (ci := 0) (v := .int (nI lv)) (C := RX1) (T := TX1) (N := 10) hx hb hts in_X1 hown hK hP 0 rfl rfl 6 (by decide) (hts _ q29) (fun _ h9 => h9) rfl dX1_rebuild_5 ?_
  refine rr_nsub hx hb dX1_rebuild_8 (by omega) ?_
  refine lv_istore_n (lv' := [(1, .int (nI (tt - lv))), (0, .ref (ad 0))]) hx hb dX1_rebuild_9 rfl hl (by decide) rfl (fun ls hl => ?_)
  refine lv_aload_n hx hb dX1_rebuild_10 rfl (lv_at hl 1 rfl) ?_
  refine sf_callv (C := RX1) (As := []) (rest := []) ⟨hx, hb, hml, hown, hts⟩ (metX1_gather l G ad ca cp Ar De Ln Tm Td lv tt pb mv hL) (cwV 0 hts (lw_V q83 q85 qs3 q13 q86) rfl rfl rfl (by decide +kernel) (by rw [hR]; exact ⟨by decide, by decide⟩)) hK hP hD hS hA rfl rfl rfl hl.1 rfl (Nat.le_of_ble_eq_true rfl) dX1_rebuild_11 ⟨Nat.zero_le _, Nat.zero_le _⟩ (fun u H locs hpo hP hD hS => ?_)
  obtain ⟨L0, T0, U0⟩ := u
  obtain ⟨hz, hs, hc, hu⟩ := hpo
  rw [← hlv] at hs hu
  have hz : ∀ i, i < 10 → L0 i = 0 := hz
  have hs : srt T0 lv := hs
  have hu : ∀ k, k < lv → U0 k = false := hu
  have hc : ∀ v : Int32, fb_ct (fun q => decide (T0 q ≤ v)) lv = nr (leq Ar (fun p => !De p) v) Ln 10 := fun v => by rw [hlv]; exact hc v
  have hP : va_P G clR (WX ad ca cp Ar De L0 T0 U0 lv tt pb mv) H := hP
  have hD : va_D A (WX ad ca cp Ar De L0 T0 U0 lv tt pb mv) := hD
  refine lv_iconst (v := (nI 0)) hx hb dX1_rebuild_14 (by decide +kernel) ?_
  refine lv_istore_n (lv' := [(2, .int (nI 0)), (1, .int (nI (tt - lv))), (0, .ref (ad 0))]) hx hb dX1_rebuild_15 rfl hl (by decide) rfl (fun ls hl => ?_)
  refine lv_bipush (v := (nI 9)) hx hb dX1_rebuild_16 (by decide +kernel) ?_
  refine lv_istore_n (lv' := [(3, .int (nI 9)), (2, .int (nI 0)), (1, .int (nI (tt - lv))), (0, .ref (ad 0))]) hx hb dX1_rebuild_18 rfl hl (by decide) rfl (fun ls hl => ?_)
  have loop : ∀ (j : Nat) (A1 : Nat → Int32) (D1 : Nat → Bool) (L1 : Nat → Nat), j ≤ 10 → rbX T0 lv j A1 D1 L1 → ∀ (H : Heap) (locs : List Loc), va_P G clR (WX ad ca cp A1 D1 L1 T0 U0 lv tt pb mv) H → va_D A (WX ad ca cp A1 D1 L1 T0 U0 lv tt pb mv) → va_S A s.heap H locs → ∀ ls : Array Slot, lv_has ls 4 [(3, .int (mI j)), (2, .int (nI (lv / 2 ^ j * 2 ^ j))), (1, .int (nI (tt - lv))), (0, .ref (ad 0))] → W p l e R s m args below meth c H locs 0 0 Q (F0 m 19 ls []) := by
    intro j
    induction j with
    | zero =>
      intro A1 D1 L1 h1 hB H locs hP hD hS ls hl
      refine lv_iload_n hx hb dX1_rebuild_19 rfl (lv_at hl 0 rfl) ?_
      refine rr_if_lt_m (tgt := 58) hx hb dX1_rebuild_20 (by decide) ?_
      refine lv_aload_n hx hb dX1_rebuild_58 rfl (lv_at hl 3 rfl) ?_
      refine lv_dup hx hb dX1_rebuild_59 rfl ?_
      refine va_get (D := G) (ci := 0) (v := .int (nI mv)) (C := RX1) (T := TX1) (N := 10) hx hb hts in_X1 hown hK hP 0 rfl rfl 9 (by decide) (hts _ q32) (fun _ h9 => h9) rfl dX1_rebuild_60 ?_
      refine lv_aload_n hx hb dX1_rebuild_63 rfl (lv_at hl 3 rfl) ?_
      refine va_get (D := G) (ci := 0) (v := .int (nI lv)) (C := RX1) (T := TX1) (N := 10) hx hb hts in_X1 hown hK hP 0 rfl rfl 6 (by decide) (hts _ q29) (fun _ h9 => h9) rfl dX1_rebuild_64 ?_
      refine rr_nadd hx hb dX1_rebuild_67 ?_
      refine va_put (D := G) (ci := 0) (v := .int (nI (mv + lv))) (ty := .int) (C := RX1) (T := TX1) (N := 10) hx hb hts in_X1 tyX1 tyX1_ok nmX1 hown hK hP hD hS 0 rfl rfl 9 (by decide) (hts _ q32) (fun _ h9 => h9) rfl (by decide +kernel) rfl rfl (Nat.le_of_ble_eq_true rfl) dX1_rebuild_68 (fun H locs hP hD hS => ?_)
      have hP : va_P G clR (WX ad ca cp A1 D1 L1 T0 U0 lv tt pb (mv + lv)) H := hP
      have hD : va_D A (WX ad ca cp A1 D1 L1 T0 U0 lv tt pb (mv + lv)) := hD
      refine lv_aload_n hx hb dX1_rebuild_71 rfl (lv_at hl 3 rfl) ?_
      refine lv_aload_n hx hb dX1_rebuild_72 rfl (lv_at hl 3 rfl) ?_
      refine va_get (D := G) (ci := 0) (v := .int (nI lv)) (C := RX1) (T := TX1) (N := 10) hx hb hts in_X1 hown hK hP 0 rfl rfl 6 (by decide) (hts _ q29) (fun _ h9 => h9) rfl dX1_rebuild_73 ?_
      refine va_put (D := G) (ci := 0) (v := .int (nI lv)) (ty := .int) (C := RX1) (T := TX1) (N := 10) hx hb hts in_X1 tyX1 tyX1_ok nmX1 hown hK hP hD hS 0 rfl rfl 7 (by decide) (hts _ q30) (fun _ h9 => h9) rfl (by decide +kernel) rfl rfl (Nat.le_of_ble_eq_true rfl) dX1_rebuild_76 (fun H locs hP hD hS => ?_)
      have hP : va_P G clR (WX ad ca cp A1 D1 L1 T0 U0 lv lv pb (mv + lv)) H := hP
      have hD : va_D A (WX ad ca cp A1 D1 L1 T0 U0 lv lv pb (mv + lv)) := hD
      refine lv_iload_n hx hb dX1_rebuild_79 rfl (lv_at hl 2 rfl) ?_
      exact hret 80 _ _ _ _ (A1, D1, L1, T0, U0) dX1_rebuild_80 ⟨rfl, T0, hs, hc, hB⟩ hP hD hS
    | succ j ih =>
      intro A1 D1 L1 h1 hB H locs hP hD hS ls hl
      rw [mI_succ j] at hl
      have hp := rr_pow (i := j) (by omega)
      have hst := off_step lv j
      have hdv := Nat.div_le_self lv (2 ^ j)
      refine lv_iload_n hx hb dX1_rebuild_19 rfl (lv_at hl 0 rfl) ?_
      refine rr_if_lt_n (tgt := 58) hx hb dX1_rebuild_20 (by decide) (by omega) ?_
      refine lv_aload_n hx hb dX1_rebuild_23 rfl (lv_at hl 3 rfl) ?_
      refine va_get (D := G) (ci := 0) (v := .int (nI lv)) (C := RX1) (T := TX1) (N := 10) hx hb hts in_X1 hown hK hP 0 rfl rfl 6 (by decide) (hts _ q29) (fun _ h9 => h9) rfl dX1_rebuild_24 ?_
      refine lv_iload_n hx hb dX1_rebuild_27 rfl (lv_at hl 0 rfl) ?_
      refine rr_nshr hx hb dX1_rebuild_28 (by omega) (by omega) ?_
      refine lv_iconst (v := (nI 1)) hx hb dX1_rebuild_29 (by decide +kernel) ?_
      refine rr_nand1 hx hb dX1_rebuild_30 (by omega) ?_
      refine rr_if_ne (tgt := 37) hx hb dX1_rebuild_31 (by decide) (by omega) (fun c1 => ?_) (fun c1 => ?_)
      · have hb1 : lv / 2 ^ j % 2 = 1 := by omega
        have hbt : bt lv j = true := decide_eq_true hb1
        have ho := off_bit hbt
        rw [hb1, Nat.one_mul] at hst
        refine lv_aload_n hx hb dX1_rebuild_37 rfl (lv_at hl 3 rfl) ?_
        refine lv_iload_n hx hb dX1_rebuild_38 rfl (lv_at hl 0 rfl) ?_
        refine lv_iload_n hx hb dX1_rebuild_39 rfl (lv_at hl 1 rfl) ?_
        refine lv_iconst (v := (nI 1)) hx hb dX1_rebuild_40 (by decide +kernel) ?_
        refine lv_iload_n hx hb dX1_rebuild_41 rfl (lv_at hl 0 rfl) ?_
        refine rr_shl1 hx hb dX1_rebuild_42 (by omega) ?_
        refine sf_callv (C := RX1) (As := [.int (nI j), .int (nI (lv / 2 ^ (j + 1) * 2 ^ (j + 1))), .int (nI (2 ^ j))]) (rest := []) ⟨hx, hb, hml, hown, hts⟩ (metX1_keep l G ad ca cp A1 D1 L1 T0 U0 lv tt pb mv j (lv / 2 ^ (j + 1) * 2 ^ (j + 1)) (2 ^ j) (by omega) (Nat.le_refl _) (by unfold off at ho; omega)) (cwV 3 hts (lw_V q67 q69 qs1 q13 q70) rfl rfl rfl (by decide +kernel) (by rw [hR]; exact ⟨by decide, by decide⟩)) hK hP hD hS hA rfl rfl rfl hl.1 rfl (Nat.le_of_ble_eq_true rfl) dX1_rebuild_43 ⟨Nat.zero_le _, Nat.zero_le _⟩ (fun u H locs hpo hP hD hS => ?_)
        have hP : va_P G clR (WX ad ca cp (fb_put A1 (fun k => T0 (off lv j + k)) (2 ^ j - 1) (2 ^ j)) (fb_put D1 (fun k => U0 (off lv j + k)) (2 ^ j - 1) (2 ^ j)) (va_up L1 j (2 ^ j)) T0 U0 lv tt pb mv) H := hP
        have hD : va_D A (WX ad ca cp (fb_put A1 (fun k => T0 (off lv j + k)) (2 ^ j - 1) (2 ^ j)) (fb_put D1 (fun k => U0 (off lv j + k)) (2 ^ j - 1) (2 ^ j)) (va_up L1 j (2 ^ j)) T0 U0 lv tt pb mv) := hD
        refine lv_iload_n hx hb dX1_rebuild_46 rfl (lv_at hl 1 rfl) ?_
        refine lv_iconst (v := (nI 1)) hx hb dX1_rebuild_47 (by decide +kernel) ?_
        refine lv_iload_n hx hb dX1_rebuild_48 rfl (lv_at hl 0 rfl) ?_
        refine rr_shl1 hx hb dX1_rebuild_49 (by omega) ?_
        refine rr_nadd hx hb dX1_rebuild_50 ?_
        refine lv_istore_n (lv' := [(2, .int (nI ((lv / 2 ^ (j + 1) * 2 ^ (j + 1)) + (2 ^ j)))), (3, .int (nI j)), (1, .int (nI (tt - lv))), (0, .ref (ad 0))]) hx hb dX1_rebuild_51 rfl hl (by decide) rfl (fun ls hl => ?_)
        refine lv_iinc (v := (mI j)) (lv' := [(3, .int (mI j)), (2, .int (nI ((lv / 2 ^ (j + 1) * 2 ^ (j + 1)) + (2 ^ j)))), (1, .int (nI (tt - lv))), (0, .ref (ad 0))]) hx hb dX1_rebuild_52 hl (k := 1) rfl (rr_dec j) (by decide) rfl (fun ls hl => ?_)
        refine lv_goto (tgt := 19) hx hb dX1_rebuild_55 (by decide) ?_
        have hst : lv / 2 ^ (j + 1) * 2 ^ (j + 1) + 2 ^ j = lv / 2 ^ j * 2 ^ j := hst.symm
        rw [hst] at hl
        exact ih _ _ _ (by omega) (rbX_yes hB (by omega) hbt (fun _ _ => rfl) hu) _ _ hP hD hS _ (lv_sub hl [0, 1, 2, 3] rfl)
      · have hbt : ¬ bt lv j = true := fun h => by rw [of_decide_eq_true h] at c1; cases c1
        rw [c1, Nat.zero_mul, Nat.add_zero] at hst
        refine lv_goto (tgt := 52) hx hb dX1_rebuild_34 (by decide) ?_
        refine lv_iinc (v := (mI j)) (lv' := [(3, .int (mI j)), (2, .int (nI (lv / 2 ^ (j + 1) * 2 ^ (j + 1)))), (1, .int (nI (tt - lv))), (0, .ref (ad 0))]) hx hb dX1_rebuild_52 hl (k := 0) rfl (rr_dec j) (by decide) rfl (fun ls hl => ?_)
        refine lv_goto (tgt := 19) hx hb dX1_rebuild_55 (by decide) ?_
        have hst : lv / 2 ^ (j + 1) * 2 ^ (j + 1) = lv / 2 ^ j * 2 ^ j := hst.symm
        rw [hst] at hl
        exact ih _ _ _ (by omega) (rbX_no hB (by omega) hbt) _ _ hP hD hS _ (lv_sub hl [0, 1, 2, 3] rfl)
  have h0 : lv / 2 ^ 10 * 2 ^ 10 = 0 := by rw [Nat.div_eq_of_lt (by omega), Nat.zero_mul]
  have hl : lv_has ls 4 [(3, .int (mI 10)), (2, .int (nI (lv / 2 ^ 10 * 2 ^ 10))), (1, .int (nI (tt - lv))), (0, .ref (ad 0))] := by
    rw [h0, show mI 10 = nI 9 from mI_succ 9]
    exact lv_sub hl [0, 1, 2, 3] rfl
  exact loop 10 Ar De L0 (Nat.le_refl _) (rbX_0 hz) _ _ hP hD hS _ hl
end
section
/-! contracts of RankRuns: what is taken out -/
set_option maxRecDepth 100000
def oI (x : Option Nat) : Int32 := match x with
  | some p => nI p
  | none => -1
theorem not_up (De : Nat → Bool) (p : Nat) : (fun q => !(va_up De p true) q) = va_up (fun q => !De q) p false := by
  funext q
  by_cases e : q = p
  · rw [e, up_s, up_s]; rfl
  · rw [up_n e, up_n e]
set_option maxHeartbeats 4000000 in
set_option maxRecDepth 100000 in
theorem metX1_livingIn (l : Launch) (G : va_G) (ad : Nat → Nat) (ca : Nat → ClassId) (cp : Nat) (Ar : Nat → Int32) (De : Nat → Bool) (Ln : Nat → Nat) (Tm : Nat → Int32) (Td : Nat → Bool) (lv tt pb mv : Nat) (i : Nat) (v : Int32) (hi : i < 10) (hL : Ln i ≤ 2 ^ i) : CI (S := Unit) l yX1_livingIn (ws_ yX1_livingIn cX1_livingIn 4 (some .int)) rq1 G clR (tyX ca) (WX ad ca cp Ar De Ln Tm Td lv tt pb mv) [.ref (ad 0), .int (nI i), .int v] (fun r _ => r = oI (liv Ar (fun p => !De p) v (Ln i) (2 ^ i - 1))) (fun _ => WX ad ca cp Ar De Ln Tm Td lv tt pb mv) := by
  refine ci_start (by decide) (Nat.le_of_ble_eq_true rfl) ?_
  intro p e s m args below meth c R Q A ls hx hb hml hown hts hR hA hK hP hD hret hl
  have hown : s.vm.findClass RX1 = some m.cls := hown
  have hS : va_S A s.heap s.heap [] := va_S.rf
  have hl : lv_has ls 4 [(0, .ref (ad 0)), (1, .int (nI i)), (2, .int v)] := hl
  have hp := rr_pow hi
  have loop : ∀ (n j : Nat), Ln i - j < n → j ≤ Ln i → liv Ar (fun p => !De p) v (Ln i - j) (2 ^ i - 1 + j) = (liv Ar (fun p => !De p) v (Ln i) (2 ^ i - 1)) → ∀ (H : Heap) (locs : List Loc), va_P G clR (WX ad ca cp Ar De Ln Tm Td lv tt pb mv) H → va_D A (WX ad ca cp Ar De Ln Tm Td lv tt pb mv) → va_S A s.heap H locs → ∀ ls : Array Slot, lv_has ls 4 [(3, .int (nI (2 ^ i - 1 + j))), (0, .ref (ad 0)), (1, .int (nI i)), (2, .int v)] → W p l e R s m args below meth c H locs 0 0 Q (F0 m 5 ls []) := by
    intro n
    induction n with
    | zero =>
      intro j h1
      exact absurd h1 (by omega)
    | succ n ih =>
      intro j h1 h2 e1 H locs hP hD hS ls hl
      refine lv_iload_n hx hb dX1_livingIn_5 rfl (lv_at hl 0 rfl) ?_
      refine lv_iload_n hx hb dX1_livingIn_6 rfl (lv_at hl 2 rfl) ?_
      refine so_X (i := i) hx hb hml hown hts (by omega) (by rw [hR]; exact ⟨by decide, by decide⟩) hl.1 (Nat.le_of_ble_eq_true rfl) dX1_livingIn_7 ?_
      refine lv_aload_n hx hb dX1_livingIn_10 rfl (lv_at hl 1 rfl) ?_
      refine va_get (D := G) (ci := 0) (v := .ref (ad 3)) (C := RX1) (T := TX1) (N := 10) hx hb hts in_X1 hown hK hP 0 rfl rfl 2 (by decide) (hts _ q25) (fun _ h9 => h9) rfl dX1_livingIn_11 ?_
      refine lv_iload_n hx hb dX1_livingIn_14 rfl (lv_at hl 2 rfl) ?_
      refine rr_nald (L := Ln) (k := i) hx hb hK hP 3 2 rfl rfl (by omega) (by decide) dX1_livingIn_15 ?_
      refine rr_nadd hx hb dX1_livingIn_16 ?_
      refine rr_icmp_ge (tgt := 47) hx hb dX1_livingIn_17 (by decide) (by omega) (by omega) (fun c1 => ?_) (fun c1 => ?_)
      · rw [show Ln i - j = 0 by omega] at e1
        refine lv_iconst (v := (-1)) hx hb dX1_livingIn_47 (by decide +kernel) ?_
        exact hret 48 _ _ _ _ () dX1_livingIn_48 (by rw [← e1]; rfl) hP hD hS
      · rw [show Ln i - j = (Ln i - (j + 1)) + 1 by omega] at e1
        refine lv_aload_n hx hb dX1_livingIn_20 rfl (lv_at hl 1 rfl) ?_
        refine va_get (D := G) (ci := 0) (v := .ref (ad 1)) (C := RX1) (T := TX1) (N := 10) hx hb hts in_X1 hown hK hP 0 rfl rfl 0 (by decide) (hts _ q23) (fun _ h9 => h9) rfl dX1_livingIn_21 ?_
        refine lv_iload_n hx hb dX1_livingIn_24 rfl (lv_at hl 0 rfl) ?_
        refine rr_iald (f := Ar) (k := 2 ^ i - 1 + j) hx hb hK hP 1 0 rfl rfl (by omega) (by decide) dX1_livingIn_25 ?_
        refine lv_iload_n hx hb dX1_livingIn_26 rfl (lv_at hl 3 rfl) ?_
        refine lv_icmp_ne (tgt := 41) hx hb dX1_livingIn_27 (by decide) (fun c2 => ?_) (fun c2 => ?_)
        · rw [liv_no (fun h => c2 h.1)] at e1
          refine lv_iinc (v := (nI (2 ^ i - 1 + j + 1))) (lv' := [(3, .int (nI (2 ^ i - 1 + j + 1))), (0, .ref (ad 0)), (1, .int (nI i)), (2, .int v)]) hx hb dX1_livingIn_41 hl (k := 0) rfl (rr_inc (2 ^ i - 1 + j)) (by decide) rfl (fun ls hl => ?_)
          refine lv_goto (tgt := 5) hx hb dX1_livingIn_44 (by decide) ?_
          exact ih (j + 1) (by omega) (by omega) e1 _ _ hP hD hS _ (lv_sub hl [0, 1, 2, 3] rfl)
        · refine lv_aload_n hx hb dX1_livingIn_30 rfl (lv_at hl 1 rfl) ?_
          refine va_get (D := G) (ci := 0) (v := .ref (ad 2)) (C := RX1) (T := TX1) (N := 10) hx hb hts in_X1 hown hK hP 0 rfl rfl 1 (by decide) (hts _ q24) (fun _ h9 => h9) rfl dX1_livingIn_31 ?_
          refine lv_iload_n hx hb dX1_livingIn_34 rfl (lv_at hl 0 rfl) ?_
          refine rr_zald (B := De) (k := 2 ^ i - 1 + j) hx hb hK hP 2 1 rfl rfl (by omega) (by decide) dX1_livingIn_35 ?_
          refine rr_ifne_b (tgt := 41) hx hb dX1_livingIn_36 (by decide) (fun c3 => ?_) (fun c3 => ?_)
          · rw [liv_no (fun h => by have h2 := h.2; rw [c3] at h2; cases h2)] at e1
            refine lv_iinc (v := (nI (2 ^ i - 1 + j + 1))) (lv' := [(3, .int (nI (2 ^ i - 1 + j + 1))), (0, .ref (ad 0)), (1, .int (nI i)), (2, .int v)]) hx hb dX1_livingIn_41 hl (k := 0) rfl (rr_inc (2 ^ i - 1 + j)) (by decide) rfl (fun ls hl => ?_)
            refine lv_goto (tgt := 5) hx hb dX1_livingIn_44 (by decide) ?_
            exact ih (j + 1) (by omega) (by omega) e1 _ _ hP hD hS _ (lv_sub hl [0, 1, 2, 3] rfl)
          · rw [liv_yes c2 (by rw [c3]; rfl)] at e1
            refine lv_iload_n hx hb dX1_livingIn_39 rfl (lv_at hl 0 rfl) ?_
            exact hret 40 _ _ _ _ () dX1_livingIn_40 (by rw [← e1]; rfl) hP hD hS
  refine lv_iload_n hx hb dX1_livingIn_0 rfl (lv_at hl 1 rfl) ?_
  refine so_X (i := i) hx hb hml hown hts (by omega) (by rw [hR]; exact ⟨by decide, by decide⟩) hl.1 (Nat.le_of_ble_eq_true rfl) dX1_livingIn_1 ?_
  refine lv_istore_n (lv' := [(3, .int (nI (2 ^ i - 1))), (0, .ref (ad 0)), (1, .int (nI i)), (2, .int v)]) hx hb dX1_livingIn_4 rfl hl (by decide) rfl (fun ls hl => ?_)
  have hl : lv_has ls 4 [(3, .int (nI (2 ^ i - 1 + 0))), (0, .ref (ad 0)), (1, .int (nI i)), (2, .int v)] := lv_sub hl [0, 1, 2, 3] rfl
  exact loop (Ln i + 1) 0 (by omega) (Nat.zero_le _) rfl _ _ hP hD hS _ hl
set_option maxHeartbeats 4000000 in
set_option maxRecDepth 100000 in
theorem metX1_remove_none (l : Launch) (G : va_G) (ad : Nat → Nat) (ca : Nat → ClassId) (cp : Nat) (Ar : Nat → Int32) (De : Nat → Bool) (Ln : Nat → Nat) (Tm : Nat → Int32) (Td : Nat → Bool) (lv tt pb mv : Nat) (v : Int32) (hL : ∀ j, j < 10 → Ln j ≤ 2 ^ j) (hlv : lv = nr (fun p => !De p) Ln 10) (ht : lv ≤ tt) (htt : tt < 2147483648) (hf : fnd Ar (fun p => !De p) Ln v 10 0 = none) : CI (S := Unit) l yX1_remove (ws_ yX1_remove cX1_remove 4 (some .boolean)) rq3 G clR (tyX ca) (WX ad ca cp Ar De Ln Tm Td lv tt pb mv) [.ref (ad 0), .int v] (fun r _ => r = bI false) (fun _ => WX ad ca cp Ar De Ln Tm Td lv tt pb mv) := by
  refine cz_start (by decide) (Nat.le_of_ble_eq_true rfl) ?_
  intro p e s m args below meth c R Q A ls hx hb hml hown hts hR hA hK hP hD hret hl
  have hown : s.vm.findClass RX1 = some m.cls := hown
  have hS : va_S A s.heap s.heap [] := va_S.rf
  have hl : lv_has ls 4 [(0, .ref (ad 0)), (1, .int v)] := hl
  have loop : ∀ (n i : Nat), 10 - i < n → i ≤ 10 → fnd Ar (fun p => !De p) Ln v (10 - i) i = none → ∀ (H : Heap) (locs : List Loc), va_P G clR (WX ad ca cp Ar De Ln Tm Td lv tt pb mv) H → va_D A (WX ad ca cp Ar De Ln Tm Td lv tt pb mv) → va_S A s.heap H locs → ∀ ls : Array Slot, lv_has ls 4 [(2, .int (nI i)), (0, .ref (ad 0)), (1, .int v)] → W p l e R s m args below meth c H locs 0 0 Q (F0 m 2 ls []) := by
    intro n
    induction n with
    | zero =>
      intro i h1
      exact absurd h1 (by omega)
    | succ n ih =>
      intro i h1 h2 e1 H locs hP hD hS ls hl
      refine lv_iload_n hx hb dX1_remove_2 rfl (lv_at hl 0 rfl) ?_
      refine lv_bipush (v := (nI 10)) hx hb dX1_remove_3 (by decide +kernel) ?_
      refine rr_icmp_ge (tgt := 68) hx hb dX1_remove_5 (by decide) (by omega) (by omega) (fun c1 => ?_) (fun c1 => ?_)
      · rw [show 10 - i = 0 by omega] at e1
        refine lv_iconst (v := (bI false)) hx hb dX1_remove_68 (by decide +kernel) ?_
        exact hret 69 _ _ _ _ () dX1_remove_69 rfl hP hD hS
      · rw [show 10 - i = (10 - (i + 1)) + 1 by omega] at e1
        refine lv_aload_n hx hb dX1_remove_8 rfl (lv_at hl 1 rfl) ?_
        refine lv_iload_n hx hb dX1_remove_9 rfl (lv_at hl 0 rfl) ?_
        refine lv_iload_n hx hb dX1_remove_10 rfl (lv_at hl 2 rfl) ?_
        refine sf_calli (C := RX1) (As := [.int (nI i), .int v]) (rest := []) ⟨hx, hb, hml, hown, hts⟩ (metX1_livingIn l G ad ca cp Ar De Ln Tm Td lv tt pb mv i v c1 (hL i c1)) (cwV 2 hts (lw_V q75 q77 qs2 q13 q78) rfl rfl rfl (by decide +kernel) (by rw [hR]; exact ⟨by decide, by decide⟩)) hK hP hD hS hA rfl rfl rfl hl.1 rfl (Nat.le_of_ble_eq_true rfl) dX1_remove_11 ⟨Nat.zero_le _, Nat.zero_le _⟩ (fun r u H locs hpo hP hD hS => ?_)
        subst hpo
        have hP : va_P G clR (WX ad ca cp Ar De Ln Tm Td lv tt pb mv) H := hP
        have hD : va_D A (WX ad ca cp Ar De Ln Tm Td lv tt pb mv) := hD
        cases hl0 : (liv Ar (fun p => !De p) v (Ln i) (2 ^ i - 1)) with
        | none =>
          rw [fnd_no hl0] at e1
          refine lv_istore_n (lv' := [(3, .int (oI none)), (2, .int (nI i)), (0, .ref (ad 0)), (1, .int v)]) hx hb dX1_remove_14 rfl hl (by decide) rfl (fun ls hl => ?_)
          refine lv_iload_n hx hb dX1_remove_15 rfl (lv_at hl 0 rfl) ?_
          refine lv_if_ge (tgt := 22) hx hb dX1_remove_16 (by decide) (fun c2 => ?_) (fun c2 => ?_)
          · exact absurd c2 (by decide +kernel)
          · refine lv_goto (tgt := 62) hx hb dX1_remove_19 (by decide) ?_
            refine lv_iinc (v := (nI (i + 1))) (lv' := [(2, .int (nI (i + 1))), (3, .int (oI none)), (0, .ref (ad 0)), (1, .int v)]) hx hb dX1_remove_62 hl (k := 1) rfl (rr_inc i) (by decide) rfl (fun ls hl => ?_)
            refine lv_goto (tgt := 2) hx hb dX1_remove_65 (by decide) ?_
            exact ih (i + 1) (by omega) (by omega) e1 _ _ hP hD hS _ (lv_sub hl [0, 2, 3] rfl)
        | some p1 =>
          rw [fnd_yes hl0] at e1
          cases e1
  refine lv_iconst (v := (nI 0)) hx hb dX1_remove_0 (by decide +kernel) ?_
  refine lv_istore_n (lv' := [(2, .int (nI 0)), (0, .ref (ad 0)), (1, .int v)]) hx hb dX1_remove_1 rfl hl (by decide) rfl (fun ls hl => ?_)
  exact loop 11 0 (by omega) (by omega) hf _ _ hP hD hS _ (lv_sub hl [0, 1, 2] rfl)
set_option maxHeartbeats 4000000 in
set_option maxRecDepth 100000 in
theorem metX1_remove_some (l : Launch) (G : va_G) (ad : Nat → Nat) (ca : Nat → ClassId) (cp : Nat) (Ar : Nat → Int32) (De : Nat → Bool) (Ln : Nat → Nat) (Tm : Nat → Int32) (Td : Nat → Bool) (lv tt pb mv : Nat) (v : Int32) (p0 : Nat) (hL : ∀ j, j < 10 → Ln j ≤ 2 ^ j) (hlv : lv = nr (fun p => !De p) Ln 10) (ht : lv ≤ tt) (htt : tt < 2147483648) (hf : fnd Ar (fun p => !De p) Ln v 10 0 = some p0) (hc : tt - (lv - 1) ≤ lv - 1) : CI (S := Unit) l yX1_remove (ws_ yX1_remove cX1_remove 4 (some .boolean)) rq3 G clR (tyX ca) (WX ad ca cp Ar De Ln Tm Td lv tt pb mv) [.ref (ad 0), .int v] (fun r _ => r = bI true) (fun _ => WX ad ca cp Ar (va_up De p0 true) Ln Tm Td (lv - 1) tt pb mv) := by
  refine cz_start (by decide) (Nat.le_of_ble_eq_true rfl) ?_
  intro p e s m args below meth c R Q A ls hx hb hml hown hts hR hA hK hP hD hret hl
  have hown : s.vm.findClass RX1 = some m.cls := hown
  have hS : va_S A s.heap s.heap [] := va_S.rf
  have hl : lv_has ls 4 [(0, .ref (ad 0)), (1, .int v)] := hl
  have loop : ∀ (n i : Nat), 10 - i < n → i ≤ 10 → fnd Ar (fun p => !De p) Ln v (10 - i) i = (some p0) → ∀ (H : Heap) (locs : List Loc), va_P G clR (WX ad ca cp Ar De Ln Tm Td lv tt pb mv) H → va_D A (WX ad ca cp Ar De Ln Tm Td lv tt pb mv) → va_S A s.heap H locs → ∀ ls : Array Slot, lv_has ls 4 [(2, .int (nI i)), (0, .ref (ad 0)), (1, .int v)] → W p l e R s m args below meth c H locs 0 0 Q (F0 m 2 ls []) := by
    intro n
    induction n with
    | zero =>
      intro i h1
      exact absurd h1 (by omega)
    | succ n ih =>
      intro i h1 h2 e1 H locs hP hD hS ls hl
      refine lv_iload_n hx hb dX1_remove_2 rfl (lv_at hl 0 rfl) ?_
      refine lv_bipush (v := (nI 10)) hx hb dX1_remove_3 (by decide +kernel) ?_
      refine rr_icmp_ge (tgt := 68) hx hb dX1_remove_5 (by decide) (by omega) (by omega) (fun c1 => ?_) (fun c1 => ?_)
      · rw [show 10 - i = 0 by omega] at e1
        cases e1
      · rw [show 10 - i = (10 - (i + 1)) + 1 by omega] at e1
        refine lv_aload_n hx hb dX1_remove_8 rfl (lv_at hl 1 rfl) ?_
        refine lv_iload_n hx hb dX1_remove_9 rfl (lv_at hl 0 rfl) ?_
        refine lv_iload_n hx hb dX1_remove_10 rfl (lv_at hl 2 rfl) ?_
        refine sf_calli (C := RX1) (As := [.int (nI i), .int v]) (rest := []) ⟨hx, hb, hml, hown, hts⟩ (metX1_livingIn l G ad ca cp Ar De Ln Tm Td lv tt pb mv i v c1 (hL i c1)) (cwV 2 hts (lw_V q75 q77 qs2 q13 q78) rfl rfl rfl (by decide +kernel) (by rw [hR]; exact ⟨by decide, by decide⟩)) hK hP hD hS hA rfl rfl rfl hl.1 rfl (Nat.le_of_ble_eq_true rfl) dX1_remove_11 ⟨Nat.zero_le _, Nat.zero_le _⟩ (fun r u H locs hpo hP hD hS => ?_)
        subst hpo
        have hP : va_P G clR (WX ad ca cp Ar De Ln Tm Td lv tt pb mv) H := hP
        have hD : va_D A (WX ad ca cp Ar De Ln Tm Td lv tt pb mv) := hD
        cases hl0 : (liv Ar (fun p => !De p) v (Ln i) (2 ^ i - 1)) with
        | none =>
          rw [fnd_no hl0] at e1
          refine lv_istore_n (lv' := [(3, .int (oI none)), (2, .int (nI i)), (0, .ref (ad 0)), (1, .int v)]) hx hb dX1_remove_14 rfl hl (by decide) rfl (fun ls hl => ?_)
          refine lv_iload_n hx hb dX1_remove_15 rfl (lv_at hl 0 rfl) ?_
          refine lv_if_ge (tgt := 22) hx hb dX1_remove_16 (by decide) (fun c2 => ?_) (fun c2 => ?_)
          · exact absurd c2 (by decide +kernel)
          · refine lv_goto (tgt := 62) hx hb dX1_remove_19 (by decide) ?_
            refine lv_iinc (v := (nI (i + 1))) (lv' := [(2, .int (nI (i + 1))), (3, .int (oI none)), (0, .ref (ad 0)), (1, .int v)]) hx hb dX1_remove_62 hl (k := 1) rfl (rr_inc i) (by decide) rfl (fun ls hl => ?_)
            refine lv_goto (tgt := 2) hx hb dX1_remove_65 (by decide) ?_
            exact ih (i + 1) (by omega) (by omega) e1 _ _ hP hD hS _ (lv_sub hl [0, 2, 3] rfl)
        | some p1 =>
          rw [fnd_yes hl0] at e1
          have e1 : p1 = p0 := Option.some.inj e1
          subst e1
          obtain ⟨l1, l2, l3, l4⟩ := liv_at hl0
          have hp := rr_pow c1
          have hLi := hL i c1
          have hk := nr_kill (P := fun p => !De p) hL c1 (k := p1 - (2 ^ i - 1)) (by omega) (by rw [show 2 ^ i - 1 + (p1 - (2 ^ i - 1)) = p1 by omega]; exact l4)
          rw [show 2 ^ i - 1 + (p1 - (2 ^ i - 1)) = p1 by omega, ← not_up] at hk
          have hl1 : 1 ≤ lv := by rw [hlv]; omega
          have hlv2 : lv - 1 = nr (fun q => !(va_up De p1 true) q) Ln 10 := by omega
          refine rr_eqi (y := nI p1) rfl ?_
          refine lv_istore_n (lv' := [(3, .int (nI p1)), (2, .int (nI i)), (0, .ref (ad 0)), (1, .int v)]) hx hb dX1_remove_14 rfl hl (by decide) rfl (fun ls hl => ?_)
          refine lv_iload_n hx hb dX1_remove_15 rfl (lv_at hl 0 rfl) ?_
          refine lv_if_ge (tgt := 22) hx hb dX1_remove_16 (by decide) (fun c2 => ?_) (fun c2 => ?_)
          · refine lv_aload_n hx hb dX1_remove_22 rfl (lv_at hl 2 rfl) ?_
            refine va_get (D := G) (ci := 0) (v := .ref (ad 2)) (C := RX1) (T := TX1) (N := 10) hx hb hts in_X1 hown hK hP 0 rfl rfl 1 (by decide) (hts _ q24) (fun _ h9 => h9) rfl dX1_remove_23 ?_
            refine lv_iload_n hx hb dX1_remove_26 rfl (lv_at hl 0 rfl) ?_
            refine lv_iconst (v := (bI true)) hx hb dX1_remove_27 (by decide +kernel) ?_
            refine rr_zast (B := De) (k := p1) hx hb hK hP hD hS 2 1 rfl rfl (by omega) (by decide) dX1_remove_28 (fun H locs hP hD hS => ?_)
            have hP : va_P G clR (WX ad ca cp Ar (va_up De p1 true) Ln Tm Td lv tt pb mv) H := hP
            have hD : va_D A (WX ad ca cp Ar (va_up De p1 true) Ln Tm Td lv tt pb mv) := hD
            refine lv_aload_n hx hb dX1_remove_29 rfl (lv_at hl 2 rfl) ?_
            refine lv_dup hx hb dX1_remove_30 rfl ?_
            refine va_get (D := G) (ci := 0) (v := .int (nI lv)) (C := RX1) (T := TX1) (N := 10) hx hb hts in_X1 hown hK hP 0 rfl rfl 6 (by decide) (hts _ q29) (fun _ h9 => h9) rfl dX1_remove_31 ?_
            refine lv_iconst (v := (nI 1)) hx hb dX1_remove_34 (by decide +kernel) ?_
            refine rr_nsub hx hb dX1_remove_35 hl1 ?_
            refine va_put (D := G) (ci := 0) (v := .int (nI (lv - 1))) (ty := .int) (C := RX1) (T := TX1) (N := 10) hx hb hts in_X1 tyX1 tyX1_ok nmX1 hown hK hP hD hS 0 rfl rfl 6 (by decide) (hts _ q29) (fun _ h9 => h9) rfl (by decide +kernel) rfl rfl (Nat.le_of_ble_eq_true rfl) dX1_remove_36 (fun H locs hP hD hS => ?_)
            have hP : va_P G clR (WX ad ca cp Ar (va_up De p1 true) Ln Tm Td (lv - 1) tt pb mv) H := hP
            have hD : va_D A (WX ad ca cp Ar (va_up De p1 true) Ln Tm Td (lv - 1) tt pb mv) := hD
            refine lv_aload_n hx hb dX1_remove_39 rfl (lv_at hl 2 rfl) ?_
            refine va_get (D := G) (ci := 0) (v := .int (nI tt)) (C := RX1) (T := TX1) (N := 10) hx hb hts in_X1 hown hK hP 0 rfl rfl 7 (by decide) (hts _ q30) (fun _ h9 => h9) rfl dX1_remove_40 ?_
            refine lv_aload_n hx hb dX1_remove_43 rfl (lv_at hl 2 rfl) ?_
            refine va_get (D := G) (ci := 0) (v := .int (nI (lv - 1))) (C := RX1) (T := TX1) (N := 10) hx hb hts in_X1 hown hK hP 0 rfl rfl 6 (by decide) (hts _ q29) (fun _ h9 => h9) rfl dX1_remove_44 ?_
            refine rr_nsub hx hb dX1_remove_47 (by omega) ?_
            refine lv_aload_n hx hb dX1_remove_48 rfl (lv_at hl 2 rfl) ?_
            refine va_get (D := G) (ci := 0) (v := .int (nI (lv - 1))) (C := RX1) (T := TX1) (N := 10) hx hb hts in_X1 hown hK hP 0 rfl rfl 6 (by decide) (hts _ q29) (fun _ h9 => h9) rfl dX1_remove_49 ?_
            refine rr_icmp_le (tgt := 60) hx hb dX1_remove_52 (by decide) (by omega) (by omega) (fun c3 => ?_) (fun c3 => ?_)
            · refine lv_iconst (v := (bI true)) hx hb dX1_remove_60 (by decide +kernel) ?_
              exact hret 61 _ _ _ _ () dX1_remove_61 rfl hP hD hS
            · exact absurd hc (Nat.not_le.mpr c3)
          · exact absurd (nI_pos' (by omega)) c2
  refine lv_iconst (v := (nI 0)) hx hb dX1_remove_0 (by decide +kernel) ?_
  refine lv_istore_n (lv' := [(2, .int (nI 0)), (0, .ref (ad 0)), (1, .int v)]) hx hb dX1_remove_1 rfl hl (by decide) rfl (fun ls hl => ?_)
  exact loop 11 0 (by omega) (by omega) hf _ _ hP hD hS _ (lv_sub hl [0, 1, 2] rfl)
set_option maxHeartbeats 4000000 in
set_option maxRecDepth 100000 in
theorem metX1_remove_reb (l : Launch) (G : va_G) (ad : Nat → Nat) (ca : Nat → ClassId) (cp : Nat) (Ar : Nat → Int32) (De : Nat → Bool) (Ln : Nat → Nat) (Tm : Nat → Int32) (Td : Nat → Bool) (lv tt pb mv : Nat) (v : Int32) (p0 : Nat) (hL : ∀ j, j < 10 → Ln j ≤ 2 ^ j) (hlv : lv = nr (fun p => !De p) Ln 10) (ht : lv ≤ tt) (htt : tt < 2147483648) (hf : fnd Ar (fun p => !De p) Ln v 10 0 = some p0) (hc : ¬ tt - (lv - 1) ≤ lv - 1) : CI (S := (Nat → Int32) × (Nat → Bool) × (Nat → Nat) × (Nat → Int32) × (Nat → Bool)) l yX1_remove (ws_ yX1_remove cX1_remove 4 (some .boolean)) rq3 G clR (tyX ca) (WX ad ca cp Ar De Ln Tm Td lv tt pb mv) [.ref (ad 0), .int v] (fun r u => r = bI true ∧ ∃ g : Nat → Int32, srt g (lv - 1) ∧ (∀ v : Int32, fb_ct (fun q => decide (g q ≤ v)) (lv - 1) = nr (leq Ar (fun p => !(va_up De p0 true) p) v) Ln 10) ∧ rbX g (lv - 1) 0 u.1 u.2.1 u.2.2.1) (fun u => WX ad ca cp (u.1) (u.2.1) (u.2.2.1) (u.2.2.2.1) (u.2.2.2.2) (lv - 1) (lv - 1) pb (mv + (lv - 1))) := by
  refine cz_start (by decide) (Nat.le_of_ble_eq_true rfl) ?_
  intro p e s m args below meth c R Q A ls hx hb hml hown hts hR hA hK hP hD hret hl
  have hown : s.vm.findClass RX1 = some m.cls := hown
  have hS : va_S A s.heap s.heap [] := va_S.rf
  have hl : lv_has ls 4 [(0, .ref (ad 0)), (1, .int v)] := hl
  have loop : ∀ (n i : Nat), 10 - i < n → i ≤ 10 → fnd Ar (fun p => !De p) Ln v (10 - i) i = (some p0) → ∀ (H : Heap) (locs : List Loc), va_P G clR (WX ad ca cp Ar De Ln Tm Td lv tt pb mv) H → va_D A (WX ad ca cp Ar De Ln Tm Td lv tt pb mv) → va_S A s.heap H locs → ∀ ls : Array Slot, lv_has ls 4 [(2, .int (nI i)), (0, .ref (ad 0)), (1, .int v)] → W p l e R s m args below meth c H locs 0 0 Q (F0 m 2 ls []) := by
    intro n
    induction n with
    | zero =>
      intro i h1
      exact absurd h1 (by omega)
    | succ n ih =>
      intro i h1 h2 e1 H locs hP hD hS ls hl
      refine lv_iload_n hx hb dX1_remove_2 rfl (lv_at hl 0 rfl) ?_
      refine lv_bipush (v := (nI 10)) hx hb dX1_remove_3 (by decide +kernel) ?_
      refine rr_icmp_ge (tgt := 68) hx hb dX1_remove_5 (by decide) (by omega) (by omega) (fun c1 => ?_) (fun c1 => ?_)
      · rw [show 10 - i = 0 by omega] at e1
        cases e1
      · rw [show 10 - i = (10 - (i + 1)) + 1 by omega] at e1
        refine lv_aload_n hx hb dX1_remove_8 rfl (lv_at hl 1 rfl) ?_
        refine lv_iload_n hx hb dX1_remove_9 rfl (lv_at hl 0 rfl) ?_
        refine lv_iload_n hx hb dX1_remove_10 rfl (lv_at hl 2 rfl) ?_
        refine sf_calli (C := RX1) (As := [.int (nI i), .int v]) (rest := []) ⟨hx, hb, hml, hown, hts⟩ (metX1_livingIn l G ad ca cp Ar De Ln Tm Td lv tt pb mv i v c1 (hL i c1)) (cwV 2 hts (lw_V q75 q77 qs2 q13 q78) rfl rfl rfl (by decide +kernel) (by rw [hR]; exact ⟨by decide, by decide⟩)) hK hP hD hS hA rfl rfl rfl hl.1 rfl (Nat.le_of_ble_eq_true rfl) dX1_remove_11 ⟨Nat.zero_le _, Nat.zero_le _⟩ (fun r u H locs hpo hP hD hS => ?_)
        subst hpo
        have hP : va_P G clR (WX ad ca cp Ar De Ln Tm Td lv tt pb mv) H := hP
        have hD : va_D A (WX ad ca cp Ar De Ln Tm Td lv tt pb mv) := hD
        cases hl0 : (liv Ar (fun p => !De p) v (Ln i) (2 ^ i - 1)) with
        | none =>
          rw [fnd_no hl0] at e1
          refine lv_istore_n (lv' := [(3, .int (oI none)), (2, .int (nI i)), (0, .ref (ad 0)), (1, .int v)]) hx hb dX1_remove_14 rfl hl (by decide) rfl (fun ls hl => ?_)
          refine lv_iload_n hx hb dX1_remove_15 rfl (lv_at hl 0 rfl) ?_
          refine lv_if_ge (tgt := 22) hx hb dX1_remove_16 (by decide) (fun c2 => ?_) (fun c2 => ?_)
          · exact absurd c2 (by decide +kernel)
          · refine lv_goto (tgt := 62) hx hb dX1_remove_19 (by decide) ?_
            refine lv_iinc (v := (nI (i + 1))) (lv' := [(2, .int (nI (i + 1))), (3, .int (oI none)), (0, .ref (ad 0)), (1, .int v)]) hx hb dX1_remove_62 hl (k := 1) rfl (rr_inc i) (by decide) rfl (fun ls hl => ?_)
            refine lv_goto (tgt := 2) hx hb dX1_remove_65 (by decide) ?_
            exact ih (i + 1) (by omega) (by omega) e1 _ _ hP hD hS _ (lv_sub hl [0, 2, 3] rfl)
        | some p1 =>
          rw [fnd_yes hl0] at e1
          have e1 : p1 = p0 := Option.some.inj e1
          subst e1
          obtain ⟨l1, l2, l3, l4⟩ := liv_at hl0
          have hp := rr_pow c1
          have hLi := hL i c1
          have hk := nr_kill (P := fun p => !De p) hL c1 (k := p1 - (2 ^ i - 1)) (by omega) (by rw [show 2 ^ i - 1 + (p1 - (2 ^ i - 1)) = p1 by omega]; exact l4)
          rw [show 2 ^ i - 1 + (p1 - (2 ^ i - 1)) = p1 by omega, ← not_up] at hk
          have hl1 : 1 ≤ lv := by rw [hlv]; omega
          have hlv2 : lv - 1 = nr (fun q => !(va_up De p1 true) q) Ln 10 := by omega
          refine rr_eqi (y := nI p1) rfl ?_
          refine lv_istore_n (lv' := [(3, .int (nI p1)), (2, .int (nI i)), (0, .ref (ad 0)), (1, .int v)]) hx hb dX1_remove_14 rfl hl (by decide) rfl (fun ls hl => ?_)
          refine lv_iload_n hx hb dX1_remove_15 rfl (lv_at hl 0 rfl) ?_
          refine lv_if_ge (tgt := 22) hx hb dX1_remove_16 (by decide) (fun c2 => ?_) (fun c2 => ?_)
          · refine lv_aload_n hx hb dX1_remove_22 rfl (lv_at hl 2 rfl) ?_
            refine va_get (D := G) (ci := 0) (v := .ref (ad 2)) (C := RX1) (T := TX1) (N := 10) hx hb hts in_X1 hown hK hP 0 rfl rfl 1 (by decide) (hts _ q24) (fun _ h9 => h9) rfl dX1_remove_23 ?_
            refine lv_iload_n hx hb dX1_remove_26 rfl (lv_at hl 0 rfl) ?_
            refine lv_iconst (v := (bI true)) hx hb dX1_remove_27 (by decide +kernel) ?_
            refine rr_zast (B := De) (k := p1) hx hb hK hP hD hS 2 1 rfl rfl (by omega) (by decide) dX1_remove_28 (fun H locs hP hD hS => ?_)
            have hP : va_P G clR (WX ad ca cp Ar (va_up De p1 true) Ln Tm Td lv tt pb mv) H := hP
            have hD : va_D A (WX ad ca cp Ar (va_up De p1 true) Ln Tm Td lv tt pb mv) := hD
            refine lv_aload_n hx hb dX1_remove_29 rfl (lv_at hl 2 rfl) ?_
            refine lv_dup hx hb dX1_remove_30 rfl ?_
            refine va_get (D := G) (ci := 0) (v := .int (nI lv)) (C := RX1) (T := TX1) (N := 10) hx hb hts in_X1 hown hK hP 0 rfl rfl 6 (by decide) (hts _ q29) (fun _ h9 => h9) rfl dX1_remove_31 ?_
            refine lv_iconst (v := (nI 1)) hx hb dX1_remove_34 (by decide +kernel) ?_
            refine rr_nsub hx hb dX1_remove_35 hl1 ?_
            refine va_put (D := G) (ci := 0) (v := .int (nI (lv - 1))) (ty := .int) (C := RX1) (T := TX1) (N := 10) hx hb hts in_X1 tyX1 tyX1_ok nmX1 hown hK hP hD hS 0 rfl rfl 6 (by decide) (hts _ q29) (fun _ h9 => h9) rfl (by decide +kernel) rfl rfl (Nat.le_of_ble_eq_true rfl) dX1_remove_36 (fun H locs hP hD hS => ?_)
            have hP : va_P G clR (WX ad ca cp Ar (va_up De p1 true) Ln Tm Td (lv - 1) tt pb mv) H := hP
            have hD : va_D A (WX ad ca cp Ar (va_up De p1 true) Ln Tm Td (lv - 1) tt pb mv) := hD
            refine lv_aload_n hx hb dX1_remove_39 rfl (lv_at hl 2 rfl) ?_
            refine va_get (D := G) (ci := 0) (v := .int (nI tt)) (C := RX1) (T := TX1) (N := 10) hx hb hts in_X1 hown hK hP 0 rfl rfl 7 (by decide) (hts _ q30) (fun _ h9 => h9) rfl dX1_remove_40 ?_
            refine lv_aload_n hx hb dX1_remove_43 rfl (lv_at hl 2 rfl) ?_
            refine va_get (D := G) (ci := 0) (v := .int (nI (lv - 1))) (C := RX1) (T := TX1) (N := 10) hx hb hts in_X1 hown hK hP 0 rfl rfl 6 (by decide) (hts _ q29) (fun _ h9 => h9) rfl dX1_remove_44 ?_
            refine rr_nsub hx hb dX1_remove_47 (by omega) ?_
            refine lv_aload_n hx hb dX1_remove_48 rfl (lv_at hl 2 rfl) ?_
            refine va_get (D := G) (ci := 0) (v := .int (nI (lv - 1))) (C := RX1) (T := TX1) (N := 10) hx hb hts in_X1 hown hK hP 0 rfl rfl 6 (by decide) (hts _ q29) (fun _ h9 => h9) rfl dX1_remove_49 ?_
            refine rr_icmp_le (tgt := 60) hx hb dX1_remove_52 (by decide) (by omega) (by omega) (fun c3 => ?_) (fun c3 => ?_)
            · exact absurd c3 hc
            · refine lv_aload_n hx hb dX1_remove_55 rfl (lv_at hl 2 rfl) ?_
              refine sf_calli (C := RX1) (As := []) (rest := []) ⟨hx, hb, hml, hown, hts⟩ (metX1_rebuild l G ad ca cp Ar (va_up De p1 true) Ln Tm Td (lv - 1) tt pb mv hL hlv2 (by omega)) (cwV 0 hts (lw_V q79 q80 q81 q13 q82) rfl rfl rfl (by decide +kernel) (by rw [hR]; exact ⟨by decide, by decide⟩)) hK hP hD hS hA rfl rfl rfl hl.1 rfl (Nat.le_of_ble_eq_true rfl) dX1_remove_56 ⟨Nat.zero_le _, Nat.zero_le _⟩ (fun r u H locs hpo hP hD hS => ?_)
              have hP : va_P G clR (WX ad ca cp (u.1) (u.2.1) (u.2.2.1) (u.2.2.2.1) (u.2.2.2.2) (lv - 1) (lv - 1) pb (mv + (lv - 1))) H := hP
              have hD : va_D A (WX ad ca cp (u.1) (u.2.1) (u.2.2.1) (u.2.2.2.1) (u.2.2.2.2) (lv - 1) (lv - 1) pb (mv + (lv - 1))) := hD
              refine lv_pop hx hb dX1_remove_59 rfl ?_
              refine lv_iconst (v := (bI true)) hx hb dX1_remove_60 (by decide +kernel) ?_
              exact hret 61 _ _ _ _ u dX1_remove_61 ⟨rfl, hpo.2⟩ hP hD hS
          · exact absurd (nI_pos' (by omega)) c2
  refine lv_iconst (v := (nI 0)) hx hb dX1_remove_0 (by decide +kernel) ?_
  refine lv_istore_n (lv' := [(2, .int (nI 0)), (0, .ref (ad 0)), (1, .int v)]) hx hb dX1_remove_1 rfl hl (by decide) rfl (fun ls hl => ?_)
  exact loop 11 0 (by omega) (by omega) hf _ _ hP hD hS _ (lv_sub hl [0, 1, 2] rfl)
end
section
/-! contracts of RankRunsModel: the searches -/
set_option maxRecDepth 100000
def bM (Va : Nat → Int32) (Li Th : Nat → Bool) : Int64 → Nat × Nat := fun bd => bel Va Li (fun i => if Th i then 2 ^ i else 0) bd 10
set_option maxHeartbeats 4000000 in
set_option maxRecDepth 100000 in
theorem metX2_before (l : Launch) (G : va_G) (ad : Nat → Nat) (ca : Nat → ClassId) (cp : Nat) (Va : Nat → Int32) (Li Th : Nat → Bool) (Ca : Nat → Int32) (Cl : Nat → Bool) (Sp : Nat → Int32) (Sl : Nat → Bool) (sz dd mv pb : Nat) (bd : Int64)  : CI (S := Unit) l yX2_before (ws_ yX2_before cX2_before 8 (some .int)) rq2 G clR (tyM ca) (WM ad ca cp Va Li Th Ca Cl Sp Sl sz dd mv pb) [.ref (ad 0), .long bd] (fun r _ => r = nI (bM Va Li Th bd).1) (fun _ => WM ad ca cp Va Li Th Ca Cl Sp Sl sz dd mv (pb + (bM Va Li Th bd).2)) := by
  refine ci_start (by decide) (Nat.le_of_ble_eq_true rfl) ?_
  intro p e s m args below meth c R Q A ls hx hb hml hown hts hR hA hK hP hD hret hl
  have hown : s.vm.findClass RX2 = some m.cls := hown
  have hS : va_S A s.heap s.heap [] := va_S.rf
  have hl : lv_has ls 8 [(0, .ref (ad 0)), (1, .long bd)] := hl
  have loop : ∀ (n i : Nat), 10 - i < n → i ≤ 10 → ∀ (H : Heap) (locs : List Loc), va_P G clR (WM ad ca cp Va Li Th Ca Cl Sp Sl sz dd mv (pb + (bel Va Li (fun i => if Th i then 2 ^ i else 0) bd i).2)) H → va_D A (WM ad ca cp Va Li Th Ca Cl Sp Sl sz dd mv (pb + (bel Va Li (fun i => if Th i then 2 ^ i else 0) bd i).2)) → va_S A s.heap H locs → ∀ ls : Array Slot, lv_has ls 8 [(4, .int (nI i)), (3, .int (nI ((bel Va Li (fun i => if Th i then 2 ^ i else 0) bd i).1))), (0, .ref (ad 0)), (1, .long bd)] → W p l e R s m args below meth c H locs 0 0 Q (F0 m 5 ls []) := by
    intro n
    induction n with
    | zero =>
      intro i h1
      exact absurd h1 (by omega)
    | succ n ih =>
      intro i h1 h2 H locs hP hD hS ls hl
      refine lv_iload hx hb dX2_before_5 (lv_at hl 0 rfl) ?_
      refine lv_bipush (v := (nI 10)) hx hb dX2_before_7 (by decide +kernel) ?_
      refine rr_icmp_ge (tgt := 142) hx hb dX2_before_9 (by decide) (by omega) (by omega) (fun c1 => ?_) (fun c1 => ?_)
      · have ei : i = 10 := by omega
        subst ei
        refine lv_iload_n hx hb dX2_before_142 rfl (lv_at hl 1 rfl) ?_
        exact hret 143 _ _ _ _ () dX2_before_143 rfl hP hD hS
      · have hp := rr_pow c1
        have hLi : (if Th i then 2 ^ i else 0) ≤ 2 ^ i := by split <;> omega
        have hbl := bsr_le Va (2 ^ i - 1) bd (if Th i then 2 ^ i else 0)
        have cnt : ∀ (n2 k : Nat), (bsr Va (2 ^ i - 1) bd (if Th i then 2 ^ i else 0)).1 - k < n2 → k ≤ (bsr Va (2 ^ i - 1) bd (if Th i then 2 ^ i else 0)).1 → ∀ (H : Heap) (locs : List Loc), va_P G clR (WM ad ca cp Va Li Th Ca Cl Sp Sl sz dd mv (pb + (bel Va Li (fun i => if Th i then 2 ^ i else 0) bd i).2 + (bsr Va (2 ^ i - 1) bd (if Th i then 2 ^ i else 0)).2)) H → va_D A (WM ad ca cp Va Li Th Ca Cl Sp Sl sz dd mv (pb + (bel Va Li (fun i => if Th i then 2 ^ i else 0) bd i).2 + (bsr Va (2 ^ i - 1) bd (if Th i then 2 ^ i else 0)).2)) → va_S A s.heap H locs → ∀ ls : Array Slot, lv_has ls 8 [(7, .int (nI k)), (5, .int (nI ((bsr Va (2 ^ i - 1) bd (if Th i then 2 ^ i else 0)).1))), (4, .int (nI i)), (3, .int (nI ((bel Va Li (fun i => if Th i then 2 ^ i else 0) bd i).1 + fb_ct (fun q => Li (2 ^ i - 1 + q)) k))), (0, .ref (ad 0)), (1, .long bd)] → W p l e R s m args below meth c H locs 0 0 Q (F0 m 99 ls []) := by
          intro n2
          induction n2 with
          | zero =>
            intro k h1
            exact absurd h1 (by omega)
          | succ n2 ih2 =>
            intro k g1 g2 H locs hP hD hS ls hl
            refine lv_iload hx hb dX2_before_99 (lv_at hl 0 rfl) ?_
            refine lv_iload hx hb dX2_before_101 (lv_at hl 1 rfl) ?_
            refine rr_icmp_ge (tgt := 136) hx hb dX2_before_103 (by decide) (by omega) (by omega) (fun c2 => ?_) (fun c2 => ?_)
            · have ek : k = (bsr Va (2 ^ i - 1) bd (if Th i then 2 ^ i else 0)).1 := by omega
              refine lv_iinc (v := (nI (i + 1))) (lv' := [(4, .int (nI (i + 1))), (7, .int (nI k)), (5, .int (nI ((bsr Va (2 ^ i - 1) bd (if Th i then 2 ^ i else 0)).1))), (3, .int (nI ((bel Va Li (fun i => if Th i then 2 ^ i else 0) bd i).1 + fb_ct (fun q => Li (2 ^ i - 1 + q)) k))), (0, .ref (ad 0)), (1, .long bd)]) hx hb dX2_before_136 hl (k := 2) rfl (rr_inc i) (by decide) rfl (fun ls hl => ?_)
              refine lv_goto (tgt := 5) hx hb dX2_before_139 (by decide) ?_
              rw [ek] at hl
              rw [Nat.add_assoc] at hP hD
              exact ih (i + 1) (by omega) (by omega) _ _ hP hD hS _ (lv_sub hl [0, 3, 4, 5] rfl)
            · refine lv_aload_n hx hb dX2_before_106 rfl (lv_at hl 4 rfl) ?_
              refine va_get (D := G) (ci := 1) (v := .ref (ad 2)) (C := RX2) (T := TX2) (N := 12) hx hb hts in_X2 hown hK hP 0 rfl rfl 2 (by decide) (hts _ q161) (fun _ h9 => h9) rfl dX2_before_107 ?_
              refine lv_iload hx hb dX2_before_110 (lv_at hl 2 rfl) ?_
              refine so_M (i := i) hx hb hml hown hts (by omega) (by rw [hR]; exact ⟨by decide, by decide⟩) hl.1 (Nat.le_of_ble_eq_true rfl) dX2_before_112 ?_
              refine lv_iload hx hb dX2_before_115 (lv_at hl 0 rfl) ?_
              refine rr_nadd hx hb dX2_before_117 ?_
              refine rr_zald (B := Li) (k := (2 ^ i - 1) + k) hx hb hK hP 2 1 rfl rfl (by omega) (by decide) dX2_before_118 ?_
              refine rr_ifeq_b (tgt := 128) hx hb dX2_before_119 (by decide) (fun c3 => ?_) (fun c3 => ?_)
              · have e := ct_f (P := fun q => Li (2 ^ i - 1 + q)) (n := k) c3
                refine lv_iload_n hx hb dX2_before_128 rfl (lv_at hl 3 rfl) ?_
                refine lv_istore_n (lv' := [(3, .int (nI ((bel Va Li (fun i => if Th i then 2 ^ i else 0) bd i).1 + fb_ct (fun q => Li (2 ^ i - 1 + q)) k))), (7, .int (nI k)), (5, .int (nI ((bsr Va (2 ^ i - 1) bd (if Th i then 2 ^ i else 0)).1))), (4, .int (nI i)), (0, .ref (ad 0)), (1, .long bd)]) hx hb dX2_before_129 rfl hl (by decide) rfl (fun ls hl => ?_)
                refine lv_iinc (v := (nI (k + 1))) (lv' := [(7, .int (nI (k + 1))), (3, .int (nI ((bel Va Li (fun i => if Th i then 2 ^ i else 0) bd i).1 + fb_ct (fun q => Li (2 ^ i - 1 + q)) k))), (5, .int (nI ((bsr Va (2 ^ i - 1) bd (if Th i then 2 ^ i else 0)).1))), (4, .int (nI i)), (0, .ref (ad 0)), (1, .long bd)]) hx hb dX2_before_130 hl (k := 1) rfl (rr_inc k) (by decide) rfl (fun ls hl => ?_)
                refine lv_goto (tgt := 99) hx hb dX2_before_133 (by decide) ?_
                rw [← e] at hl
                exact ih2 (k + 1) (by omega) (by omega) _ _ hP hD hS _ (lv_sub hl [0, 2, 3, 1, 4, 5] rfl)
              · have e := ct_t (P := fun q => Li (2 ^ i - 1 + q)) (n := k) c3
                refine lv_iload_n hx hb dX2_before_122 rfl (lv_at hl 3 rfl) ?_
                refine lv_iconst (v := (nI 1)) hx hb dX2_before_123 (by decide +kernel) ?_
                refine rr_nadd hx hb dX2_before_124 ?_
                refine lv_goto (tgt := 129) hx hb dX2_before_125 (by decide) ?_
                refine lv_istore_n (lv' := [(3, .int (nI (((bel Va Li (fun i => if Th i then 2 ^ i else 0) bd i).1 + fb_ct (fun q => Li (2 ^ i - 1 + q)) k) + 1))), (7, .int (nI k)), (5, .int (nI ((bsr Va (2 ^ i - 1) bd (if Th i then 2 ^ i else 0)).1))), (4, .int (nI i)), (0, .ref (ad 0)), (1, .long bd)]) hx hb dX2_before_129 rfl hl (by decide) rfl (fun ls hl => ?_)
                refine lv_iinc (v := (nI (k + 1))) (lv' := [(7, .int (nI (k + 1))), (3, .int (nI (((bel Va Li (fun i => if Th i then 2 ^ i else 0) bd i).1 + fb_ct (fun q => Li (2 ^ i - 1 + q)) k) + 1))), (5, .int (nI ((bsr Va (2 ^ i - 1) bd (if Th i then 2 ^ i else 0)).1))), (4, .int (nI i)), (0, .ref (ad 0)), (1, .long bd)]) hx hb dX2_before_130 hl (k := 1) rfl (rr_inc k) (by decide) rfl (fun ls hl => ?_)
                refine lv_goto (tgt := 99) hx hb dX2_before_133 (by decide) ?_
                rw [Nat.add_assoc, ← e] at hl
                exact ih2 (k + 1) (by omega) (by omega) _ _ hP hD hS _ (lv_sub hl [0, 2, 3, 1, 4, 5] rfl)
        have srch : ∀ (n2 lo hh q : Nat), hh - lo < n2 → lo ≤ hh → hh ≤ 2 ^ i → (bs Va (2 ^ i - 1) bd n2 lo hh).1 = (bsr Va (2 ^ i - 1) bd (if Th i then 2 ^ i else 0)).1 → q + (bs Va (2 ^ i - 1) bd n2 lo hh).2 = pb + (bel Va Li (fun i => if Th i then 2 ^ i else 0) bd i).2 + (bsr Va (2 ^ i - 1) bd (if Th i then 2 ^ i else 0)).2 → ∀ (H : Heap) (locs : List Loc), va_P G clR (WM ad ca cp Va Li Th Ca Cl Sp Sl sz dd mv q) H → va_D A (WM ad ca cp Va Li Th Ca Cl Sp Sl sz dd mv q) → va_S A s.heap H locs → ∀ ls : Array Slot, lv_has ls 8 [(6, .int (nI hh)), (5, .int (nI lo)), (4, .int (nI i)), (3, .int (nI ((bel Va Li (fun i => if Th i then 2 ^ i else 0) bd i).1))), (0, .ref (ad 0)), (1, .long bd)] → W p l e R s m args below meth c H locs 0 0 Q (F0 m 35 ls []) := by
          intro n2
          induction n2 with
          | zero =>
            intro lo hh q h1
            exact absurd h1 (by omega)
          | succ n2 ih2 =>
            intro lo hh q g1 g0 g2 e1 e2 H locs hP hD hS ls hl
            refine lv_iload hx hb dX2_before_35 (lv_at hl 1 rfl) ?_
            refine lv_iload hx hb dX2_before_37 (lv_at hl 0 rfl) ?_
            refine rr_icmp_ge (tgt := 96) hx hb dX2_before_39 (by decide) (by omega) (by omega) (fun c2 => ?_) (fun c2 => ?_)
            · rw [bs_out c2] at e1 e2
              have e2 : q = pb + (bel Va Li (fun i => if Th i then 2 ^ i else 0) bd i).2 + (bsr Va (2 ^ i - 1) bd (if Th i then 2 ^ i else 0)).2 := e2
              have e1 : lo = (bsr Va (2 ^ i - 1) bd (if Th i then 2 ^ i else 0)).1 := e1
              refine lv_iconst (v := (nI 0)) hx hb dX2_before_96 (by decide +kernel) ?_
              refine lv_istore (lv' := [(7, .int (nI 0)), (6, .int (nI hh)), (5, .int (nI lo)), (4, .int (nI i)), (3, .int (nI ((bel Va Li (fun i => if Th i then 2 ^ i else 0) bd i).1))), (0, .ref (ad 0)), (1, .long bd)]) hx hb dX2_before_97 hl (by decide) rfl (fun ls hl => ?_)
              rw [e1] at hl
              rw [e2] at hP hD
              exact cnt _ 0 (Nat.lt_succ_self _) (Nat.zero_le _) _ _ hP hD hS _ (lv_sub hl [0, 2, 3, 4, 5, 6] rfl)
            · refine lv_iload hx hb dX2_before_42 (lv_at hl 1 rfl) ?_
              refine lv_iload hx hb dX2_before_44 (lv_at hl 0 rfl) ?_
              refine rr_nadd hx hb dX2_before_46 ?_
              refine lv_iconst (v := (nI 2)) hx hb dX2_before_47 (by decide +kernel) ?_
              refine rr_ndiv2 hx hb dX2_before_48 (by omega) ?_
              refine lv_istore (lv' := [(7, .int (nI ((lo + hh) / 2))), (6, .int (nI hh)), (5, .int (nI lo)), (4, .int (nI i)), (3, .int (nI ((bel Va Li (fun i => if Th i then 2 ^ i else 0) bd i).1))), (0, .ref (ad 0)), (1, .long bd)]) hx hb dX2_before_49 hl (by decide) rfl (fun ls hl => ?_)
              refine lv_aload_n hx hb dX2_before_51 rfl (lv_at hl 5 rfl) ?_
              refine lv_dup hx hb dX2_before_52 rfl ?_
              refine va_get (D := G) (ci := 1) (v := .int (nI q)) (C := RX2) (T := TX2) (N := 12) hx hb hts in_X2 hown hK hP 0 rfl rfl 11 (by decide) (hts _ q170) (fun _ h9 => h9) rfl dX2_before_53 ?_
              refine lv_iconst (v := (nI 1)) hx hb dX2_before_56 (by decide +kernel) ?_
              refine rr_nadd hx hb dX2_before_57 ?_
              refine va_put (D := G) (ci := 1) (v := .int (nI (q + 1))) (ty := .int) (C := RX2) (T := TX2) (N := 12) hx hb hts in_X2 tyX2 tyX2_ok nmX2 hown hK hP hD hS 0 rfl rfl 11 (by decide) (hts _ q170) (fun _ h9 => h9) rfl (by decide +kernel) rfl rfl (Nat.le_of_ble_eq_true rfl) dX2_before_58 (fun H locs hP hD hS => ?_)
              have hP : va_P G clR (WM ad ca cp Va Li Th Ca Cl Sp Sl sz dd mv (q + 1)) H := hP
              have hD : va_D A (WM ad ca cp Va Li Th Ca Cl Sp Sl sz dd mv (q + 1)) := hD
              refine lv_aload_n hx hb dX2_before_61 rfl (lv_at hl 5 rfl) ?_
              refine va_get (D := G) (ci := 1) (v := .ref (ad 1)) (C := RX2) (T := TX2) (N := 12) hx hb hts in_X2 hown hK hP 0 rfl rfl 1 (by decide) (hts _ q160) (fun _ h9 => h9) rfl dX2_before_62 ?_
              refine lv_iload hx hb dX2_before_65 (lv_at hl 3 rfl) ?_
              refine so_M (i := i) hx hb hml hown hts (by omega) (by rw [hR]; exact ⟨by decide, by decide⟩) hl.1 (Nat.le_of_ble_eq_true rfl) dX2_before_67 ?_
              refine lv_iload hx hb dX2_before_70 (lv_at hl 0 rfl) ?_
              refine rr_nadd hx hb dX2_before_72 ?_
              refine rr_iald (f := Va) (k := (2 ^ i - 1) + ((lo + hh) / 2)) hx hb hK hP 1 0 rfl rfl (by omega) (by decide) dX2_before_73 ?_
              refine lv_i2l (v := (Va ((2 ^ i - 1) + ((lo + hh) / 2))).toInt64) hx hb dX2_before_74 rfl ?_
              refine lv_lload_n hx hb dX2_before_75 rfl (lv_at hl 6 rfl) ?_
              refine rr_lcmp_ge (tgt := 89) hx hb dX2_before_76 dX2_before_77 (by decide) (fun c3 => ?_) (fun c3 => ?_)
              · rw [bs_hi c2 c3] at e1 e2
                refine lv_iload hx hb dX2_before_89 (lv_at hl 0 rfl) ?_
                refine lv_istore (lv' := [(6, .int (nI ((lo + hh) / 2))), (7, .int (nI ((lo + hh) / 2))), (5, .int (nI lo)), (4, .int (nI i)), (3, .int (nI ((bel Va Li (fun i => if Th i then 2 ^ i else 0) bd i).1))), (0, .ref (ad 0)), (1, .long bd)]) hx hb dX2_before_91 hl (by decide) rfl (fun ls hl => ?_)
                refine lv_goto (tgt := 35) hx hb dX2_before_93 (by decide) ?_
                exact ih2 lo ((lo + hh) / 2) (q + 1) (by omega) (by omega) (by omega) e1 (by omega) _ _ hP hD hS _ (lv_sub hl [0, 2, 3, 4, 5, 6] rfl)
              · rw [bs_lo c2 c3] at e1 e2
                refine lv_iload hx hb dX2_before_80 (lv_at hl 0 rfl) ?_
                refine lv_iconst (v := (nI 1)) hx hb dX2_before_82 (by decide +kernel) ?_
                refine rr_nadd hx hb dX2_before_83 ?_
                refine lv_istore (lv' := [(5, .int (nI (((lo + hh) / 2) + 1))), (7, .int (nI ((lo + hh) / 2))), (6, .int (nI hh)), (4, .int (nI i)), (3, .int (nI ((bel Va Li (fun i => if Th i then 2 ^ i else 0) bd i).1))), (0, .ref (ad 0)), (1, .long bd)]) hx hb dX2_before_84 hl (by decide) rfl (fun ls hl => ?_)
                refine lv_goto (tgt := 93) hx hb dX2_before_86 (by decide) ?_
                refine lv_goto (tgt := 35) hx hb dX2_before_93 (by decide) ?_
                exact ih2 ((lo + hh) / 2 + 1) hh (q + 1) (by omega) (by omega) g2 e1 (by omega) _ _ hP hD hS _ (lv_sub hl [2, 0, 3, 4, 5, 6] rfl)
        refine lv_iconst (v := (nI 0)) hx hb dX2_before_12 (by decide +kernel) ?_
        refine lv_istore (lv' := [(5, .int (nI 0)), (4, .int (nI i)), (3, .int (nI ((bel Va Li (fun i => if Th i then 2 ^ i else 0) bd i).1))), (0, .ref (ad 0)), (1, .long bd)]) hx hb dX2_before_13 hl (by decide) rfl (fun ls hl => ?_)
        refine lv_aload_n hx hb dX2_before_15 rfl (lv_at hl 3 rfl) ?_
        refine va_get (D := G) (ci := 1) (v := .ref (ad 3)) (C := RX2) (T := TX2) (N := 12) hx hb hts in_X2 hown hK hP 0 rfl rfl 3 (by decide) (hts _ q162) (fun _ h9 => h9) rfl dX2_before_16 ?_
        refine lv_iload hx hb dX2_before_19 (lv_at hl 1 rfl) ?_
        refine rr_zald (B := Th) (k := i) hx hb hK hP 3 2 rfl rfl (by omega) (by decide) dX2_before_21 ?_
        refine rr_ifeq_b (tgt := 32) hx hb dX2_before_22 (by decide) (fun c2 => ?_) (fun c2 => ?_)
        · have eh : (if Th i then 2 ^ i else 0) = 0 := by rw [c2]; rfl
          refine lv_iconst (v := (nI 0)) hx hb dX2_before_32 (by decide +kernel) ?_
          refine lv_istore (lv' := [(6, .int (nI 0)), (5, .int (nI 0)), (4, .int (nI i)), (3, .int (nI ((bel Va Li (fun i => if Th i then 2 ^ i else 0) bd i).1))), (0, .ref (ad 0)), (1, .long bd)]) hx hb dX2_before_33 hl (by decide) rfl (fun ls hl => ?_)
          exact srch 1024 0 0 _ (by omega) (by omega) (by omega) (by unfold bsr; rw [eh]) (by unfold bsr; rw [eh]) _ _ hP hD hS _ (lv_sub hl [0, 1, 2, 3, 4, 5] rfl)
        · have eh : (if Th i then 2 ^ i else 0) = 2 ^ i := by rw [c2]; rfl
          refine lv_iconst (v := (nI 1)) hx hb dX2_before_25 (by decide +kernel) ?_
          refine lv_iload hx hb dX2_before_26 (lv_at hl 1 rfl) ?_
          refine rr_shl1 hx hb dX2_before_28 (by omega) ?_
          refine lv_goto (tgt := 33) hx hb dX2_before_29 (by decide) ?_
          refine lv_istore (lv' := [(6, .int (nI (2 ^ i))), (5, .int (nI 0)), (4, .int (nI i)), (3, .int (nI ((bel Va Li (fun i => if Th i then 2 ^ i else 0) bd i).1))), (0, .ref (ad 0)), (1, .long bd)]) hx hb dX2_before_33 hl (by decide) rfl (fun ls hl => ?_)
          exact srch 1024 0 (2 ^ i) _ (by omega) (by omega) (by omega) (by unfold bsr; rw [eh]) (by unfold bsr; rw [eh]) _ _ hP hD hS _ (lv_sub hl [0, 1, 2, 3, 4, 5] rfl)
  refine lv_iconst (v := (nI 0)) hx hb dX2_before_0 (by decide +kernel) ?_
  refine lv_istore_n (lv' := [(3, .int (nI 0)), (0, .ref (ad 0)), (1, .long bd)]) hx hb dX2_before_1 rfl hl (by decide) rfl (fun ls hl => ?_)
  refine lv_iconst (v := (nI 0)) hx hb dX2_before_2 (by decide +kernel) ?_
  refine lv_istore (lv' := [(4, .int (nI 0)), (3, .int (nI 0)), (0, .ref (ad 0)), (1, .long bd)]) hx hb dX2_before_3 hl (by decide) rfl (fun ls hl => ?_)
  exact loop 11 0 (by omega) (by omega) _ _ hP hD hS _ (lv_sub hl [0, 1, 2, 3] rfl)
end
section
/-! contracts of RankRunsModel: what is asked -/
set_option maxRecDepth 100000
set_option maxHeartbeats 4000000 in
set_option maxRecDepth 100000 in
theorem metX2_count (l : Launch) (G : va_G) (ad : Nat → Nat) (ca : Nat → ClassId) (cp : Nat) (Va : Nat → Int32) (Li Th : Nat → Bool) (Ca : Nat → Int32) (Cl : Nat → Bool) (Sp : Nat → Int32) (Sl : Nat → Bool) (sz dd mv pb : Nat) (v : Int32)  : CI (S := Unit) l yX2_count (ws_ yX2_count cX2_count 3 (some .int)) rq3 G clR (tyM ca) (WM ad ca cp Va Li Th Ca Cl Sp Sl sz dd mv pb) [.ref (ad 0), .int v] (fun r _ => r = nI (bM Va Li Th (v.toInt64 + 1)).1 - nI (bM Va Li Th v.toInt64).1) (fun _ => WM ad ca cp Va Li Th Ca Cl Sp Sl sz dd mv (0 + (bM Va Li Th v.toInt64).2 + (bM Va Li Th (v.toInt64 + 1)).2)) := by
  refine ci_start (by decide) (Nat.le_of_ble_eq_true rfl) ?_
  intro p e s m args below meth c R Q A ls hx hb hml hown hts hR hA hK hP hD hret hl
  have hown : s.vm.findClass RX2 = some m.cls := hown
  have hS : va_S A s.heap s.heap [] := va_S.rf
  have hl : lv_has ls 3 [(0, .ref (ad 0)), (1, .int v)] := hl
  refine lv_aload_n hx hb dX2_count_0 rfl (lv_at hl 0 rfl) ?_
  refine lv_iconst (v := (nI 0)) hx hb dX2_count_1 (by decide +kernel) ?_
  refine va_put (D := G) (ci := 1) (v := .int (nI 0)) (ty := .int) (C := RX2) (T := TX2) (N := 12) hx hb hts in_X2 tyX2 tyX2_ok nmX2 hown hK hP hD hS 0 rfl rfl 11 (by decide) (hts _ q170) (fun _ h9 => h9) rfl (by decide +kernel) rfl rfl (Nat.le_of_ble_eq_true rfl) dX2_count_2 (fun H locs hP hD hS => ?_)
  have hP : va_P G clR (WM ad ca cp Va Li Th Ca Cl Sp Sl sz dd mv 0) H := hP
  have hD : va_D A (WM ad ca cp Va Li Th Ca Cl Sp Sl sz dd mv 0) := hD
  refine lv_aload_n hx hb dX2_count_5 rfl (lv_at hl 0 rfl) ?_
  refine lv_iload_n hx hb dX2_count_6 rfl (lv_at hl 1 rfl) ?_
  refine lv_i2l (v := v.toInt64) hx hb dX2_count_7 rfl ?_
  refine sf_calli (C := RX2) (As := [.long (v.toInt64)]) (rest := []) ⟨hx, hb, hml, hown, hts⟩ (metX2_before l G ad ca cp Va Li Th Ca Cl Sp Sl sz dd mv 0 (v.toInt64)) (cwV 1 hts (lw_V q225 q227 qs10 q14 q228) rfl rfl rfl (by decide +kernel) (by rw [hR]; exact ⟨by decide, by decide⟩)) hK hP hD hS hA rfl rfl rfl hl.1 rfl (Nat.le_of_ble_eq_true rfl) dX2_count_8 ⟨Nat.zero_le _, Nat.zero_le _⟩ (fun r u H locs hpo hP hD hS => ?_)
  subst hpo
  have hP : va_P G clR (WM ad ca cp Va Li Th Ca Cl Sp Sl sz dd mv (0 + (bM Va Li Th (v.toInt64)).2)) H := hP
  have hD : va_D A (WM ad ca cp Va Li Th Ca Cl Sp Sl sz dd mv (0 + (bM Va Li Th (v.toInt64)).2)) := hD
  refine lv_istore_n (lv' := [(2, .int (nI ((bM Va Li Th (v.toInt64)).1))), (0, .ref (ad 0)), (1, .int v)]) hx hb dX2_count_11 rfl hl (by decide) rfl (fun ls hl => ?_)
  refine lv_aload_n hx hb dX2_count_12 rfl (lv_at hl 1 rfl) ?_
  refine lv_iload_n hx hb dX2_count_13 rfl (lv_at hl 2 rfl) ?_
  refine lv_i2l (v := v.toInt64) hx hb dX2_count_14 rfl ?_
  refine lv_lconst (v := 1) hx hb dX2_count_15 (by decide +kernel) ?_
  refine lv_ladd hx hb dX2_count_16 ?_
  refine sf_calli (C := RX2) (As := [.long ((v.toInt64) + 1)]) (rest := []) ⟨hx, hb, hml, hown, hts⟩ (metX2_before l G ad ca cp Va Li Th Ca Cl Sp Sl sz dd mv (0 + (bM Va Li Th v.toInt64).2) (v.toInt64 + 1)) (cwV 1 hts (lw_V q225 q227 qs10 q14 q228) rfl rfl rfl (by decide +kernel) (by rw [hR]; exact ⟨by decide, by decide⟩)) hK hP hD hS hA rfl rfl rfl hl.1 rfl (Nat.le_of_ble_eq_true rfl) dX2_count_17 ⟨Nat.zero_le _, Nat.zero_le _⟩ (fun r u H locs hpo hP hD hS => ?_)
  subst hpo
  have hP : va_P G clR (WM ad ca cp Va Li Th Ca Cl Sp Sl sz dd mv (0 + (bM Va Li Th v.toInt64).2 + (bM Va Li Th (v.toInt64 + 1)).2)) H := hP
  have hD : va_D A (WM ad ca cp Va Li Th Ca Cl Sp Sl sz dd mv (0 + (bM Va Li Th v.toInt64).2 + (bM Va Li Th (v.toInt64 + 1)).2)) := hD
  refine lv_iload_n hx hb dX2_count_20 rfl (lv_at hl 0 rfl) ?_
  refine lv_isub hx hb dX2_count_21 ?_
  exact hret 22 _ _ _ _ () dX2_count_22 rfl hP hD hS
set_option maxHeartbeats 4000000 in
set_option maxRecDepth 100000 in
theorem metX2_rank (l : Launch) (G : va_G) (ad : Nat → Nat) (ca : Nat → ClassId) (cp : Nat) (Va : Nat → Int32) (Li Th : Nat → Bool) (Ca : Nat → Int32) (Cl : Nat → Bool) (Sp : Nat → Int32) (Sl : Nat → Bool) (sz dd mv pb : Nat) (v : Int32)  : CI (S := Unit) l yX2_rank (ws_ yX2_rank cX2_rank 2 (some .int)) rq3 G clR (tyM ca) (WM ad ca cp Va Li Th Ca Cl Sp Sl sz dd mv pb) [.ref (ad 0), .int v] (fun r _ => r = nI (bM Va Li Th v.toInt64).1) (fun _ => WM ad ca cp Va Li Th Ca Cl Sp Sl sz dd mv (0 + (bM Va Li Th v.toInt64).2)) := by
  refine ci_start (by decide) (Nat.le_of_ble_eq_true rfl) ?_
  intro p e s m args below meth c R Q A ls hx hb hml hown hts hR hA hK hP hD hret hl
  have hown : s.vm.findClass RX2 = some m.cls := hown
  have hS : va_S A s.heap s.heap [] := va_S.rf
  have hl : lv_has ls 2 [(0, .ref (ad 0)), (1, .int v)] := hl
  refine lv_aload_n hx hb dX2_rank_0 rfl (lv_at hl 0 rfl) ?_
  refine lv_iconst (v := (nI 0)) hx hb dX2_rank_1 (by decide +kernel) ?_
  refine va_put (D := G) (ci := 1) (v := .int (nI 0)) (ty := .int) (C := RX2) (T := TX2) (N := 12) hx hb hts in_X2 tyX2 tyX2_ok nmX2 hown hK hP hD hS 0 rfl rfl 11 (by decide) (hts _ q170) (fun _ h9 => h9) rfl (by decide +kernel) rfl rfl (Nat.le_of_ble_eq_true rfl) dX2_rank_2 (fun H locs hP hD hS => ?_)
  have hP : va_P G clR (WM ad ca cp Va Li Th Ca Cl Sp Sl sz dd mv 0) H := hP
  have hD : va_D A (WM ad ca cp Va Li Th Ca Cl Sp Sl sz dd mv 0) := hD
  refine lv_aload_n hx hb dX2_rank_5 rfl (lv_at hl 0 rfl) ?_
  refine lv_iload_n hx hb dX2_rank_6 rfl (lv_at hl 1 rfl) ?_
  refine lv_i2l (v := v.toInt64) hx hb dX2_rank_7 rfl ?_
  refine sf_calli (C := RX2) (As := [.long (v.toInt64)]) (rest := []) ⟨hx, hb, hml, hown, hts⟩ (metX2_before l G ad ca cp Va Li Th Ca Cl Sp Sl sz dd mv 0 (v.toInt64)) (cwV 1 hts (lw_V q225 q227 qs10 q14 q228) rfl rfl rfl (by decide +kernel) (by rw [hR]; exact ⟨by decide, by decide⟩)) hK hP hD hS hA rfl rfl rfl hl.1 rfl (Nat.le_of_ble_eq_true rfl) dX2_rank_8 ⟨Nat.zero_le _, Nat.zero_le _⟩ (fun r u H locs hpo hP hD hS => ?_)
  subst hpo
  have hP : va_P G clR (WM ad ca cp Va Li Th Ca Cl Sp Sl sz dd mv (0 + (bM Va Li Th (v.toInt64)).2)) H := hP
  have hD : va_D A (WM ad ca cp Va Li Th Ca Cl Sp Sl sz dd mv (0 + (bM Va Li Th (v.toInt64)).2)) := hD
  exact hret 11 _ _ _ _ () dX2_rank_11 rfl hP hD hS
set_option maxHeartbeats 4000000 in
set_option maxRecDepth 100000 in
theorem metX2_pred (l : Launch) (G : va_G) (ad : Nat → Nat) (ca : Nat → ClassId) (cp : Nat) (Va : Nat → Int32) (Li Th : Nat → Bool) (Ca : Nat → Int32) (Cl : Nat → Bool) (Sp : Nat → Int32) (Sl : Nat → Bool) (sz dd mv pb : Nat) (v : Int32)  : CI (S := Unit) l yX2_pred (ws_ yX2_pred cX2_pred 2 (some .int)) rq3 G clR (tyM ca) (WM ad ca cp Va Li Th Ca Cl Sp Sl sz dd mv pb) [.ref (ad 0), .int v] (fun r _ => r = mI (bM Va Li Th v.toInt64).1) (fun _ => WM ad ca cp Va Li Th Ca Cl Sp Sl sz dd mv (0 + (bM Va Li Th v.toInt64).2)) := by
  refine ci_start (by decide) (Nat.le_of_ble_eq_true rfl) ?_
  intro p e s m args below meth c R Q A ls hx hb hml hown hts hR hA hK hP hD hret hl
  have hown : s.vm.findClass RX2 = some m.cls := hown
  have hS : va_S A s.heap s.heap [] := va_S.rf
  have hl : lv_has ls 2 [(0, .ref (ad 0)), (1, .int v)] := hl
  refine lv_aload_n hx hb dX2_pred_0 rfl (lv_at hl 0 rfl) ?_
  refine lv_iconst (v := (nI 0)) hx hb dX2_pred_1 (by decide +kernel) ?_
  refine va_put (D := G) (ci := 1) (v := .int (nI 0)) (ty := .int) (C := RX2) (T := TX2) (N := 12) hx hb hts in_X2 tyX2 tyX2_ok nmX2 hown hK hP hD hS 0 rfl rfl 11 (by decide) (hts _ q170) (fun _ h9 => h9) rfl (by decide +kernel) rfl rfl (Nat.le_of_ble_eq_true rfl) dX2_pred_2 (fun H locs hP hD hS => ?_)
  have hP : va_P G clR (WM ad ca cp Va Li Th Ca Cl Sp Sl sz dd mv 0) H := hP
  have hD : va_D A (WM ad ca cp Va Li Th Ca Cl Sp Sl sz dd mv 0) := hD
  refine lv_aload_n hx hb dX2_pred_5 rfl (lv_at hl 0 rfl) ?_
  refine lv_iload_n hx hb dX2_pred_6 rfl (lv_at hl 1 rfl) ?_
  refine lv_i2l (v := v.toInt64) hx hb dX2_pred_7 rfl ?_
  refine sf_calli (C := RX2) (As := [.long (v.toInt64)]) (rest := []) ⟨hx, hb, hml, hown, hts⟩ (metX2_before l G ad ca cp Va Li Th Ca Cl Sp Sl sz dd mv 0 (v.toInt64)) (cwV 1 hts (lw_V q225 q227 qs10 q14 q228) rfl rfl rfl (by decide +kernel) (by rw [hR]; exact ⟨by decide, by decide⟩)) hK hP hD hS hA rfl rfl rfl hl.1 rfl (Nat.le_of_ble_eq_true rfl) dX2_pred_8 ⟨Nat.zero_le _, Nat.zero_le _⟩ (fun r u H locs hpo hP hD hS => ?_)
  subst hpo
  have hP : va_P G clR (WM ad ca cp Va Li Th Ca Cl Sp Sl sz dd mv (0 + (bM Va Li Th (v.toInt64)).2)) H := hP
  have hD : va_D A (WM ad ca cp Va Li Th Ca Cl Sp Sl sz dd mv (0 + (bM Va Li Th (v.toInt64)).2)) := hD
  refine lv_iconst (v := (nI 1)) hx hb dX2_pred_11 (by decide +kernel) ?_
  refine rr_nsub1 hx hb dX2_pred_12 ?_
  exact hret 13 _ _ _ _ () dX2_pred_13 rfl hP hD hS
set_option maxHeartbeats 4000000 in
set_option maxRecDepth 100000 in
theorem metX2_succ (l : Launch) (G : va_G) (ad : Nat → Nat) (ca : Nat → ClassId) (cp : Nat) (Va : Nat → Int32) (Li Th : Nat → Bool) (Ca : Nat → Int32) (Cl : Nat → Bool) (Sp : Nat → Int32) (Sl : Nat → Bool) (sz dd mv pb : Nat) (v : Int32)  (hn : sz < 2147483648) (hf : (bM Va Li Th (v.toInt64 + 1)).1 < 2147483648) : CI (S := Unit) l yX2_succ (ws_ yX2_succ cX2_succ 3 (some .int)) rq3 G clR (tyM ca) (WM ad ca cp Va Li Th Ca Cl Sp Sl sz dd mv pb) [.ref (ad 0), .int v] (fun r _ => r = if (bM Va Li Th (v.toInt64 + 1)).1 < sz then nI (bM Va Li Th (v.toInt64 + 1)).1 else -1) (fun _ => WM ad ca cp Va Li Th Ca Cl Sp Sl sz dd mv (0 + (bM Va Li Th (v.toInt64 + 1)).2)) := by
  refine ci_start (by decide) (Nat.le_of_ble_eq_true rfl) ?_
  intro p e s m args below meth c R Q A ls hx hb hml hown hts hR hA hK hP hD hret hl
  have hown : s.vm.findClass RX2 = some m.cls := hown
  have hS : va_S A s.heap s.heap [] := va_S.rf
  have hl : lv_has ls 3 [(0, .ref (ad 0)), (1, .int v)] := hl
  refine lv_aload_n hx hb dX2_succ_0 rfl (lv_at hl 0 rfl) ?_
  refine lv_iconst (v := (nI 0)) hx hb dX2_succ_1 (by decide +kernel) ?_
  refine va_put (D := G) (ci := 1) (v := .int (nI 0)) (ty := .int) (C := RX2) (T := TX2) (N := 12) hx hb hts in_X2 tyX2 tyX2_ok nmX2 hown hK hP hD hS 0 rfl rfl 11 (by decide) (hts _ q170) (fun _ h9 => h9) rfl (by decide +kernel) rfl rfl (Nat.le_of_ble_eq_true rfl) dX2_succ_2 (fun H locs hP hD hS => ?_)
  have hP : va_P G clR (WM ad ca cp Va Li Th Ca Cl Sp Sl sz dd mv 0) H := hP
  have hD : va_D A (WM ad ca cp Va Li Th Ca Cl Sp Sl sz dd mv 0) := hD
  refine lv_aload_n hx hb dX2_succ_5 rfl (lv_at hl 0 rfl) ?_
  refine lv_iload_n hx hb dX2_succ_6 rfl (lv_at hl 1 rfl) ?_
  refine lv_i2l (v := v.toInt64) hx hb dX2_succ_7 rfl ?_
  refine lv_lconst (v := 1) hx hb dX2_succ_8 (by decide +kernel) ?_
  refine lv_ladd hx hb dX2_succ_9 ?_
  refine sf_calli (C := RX2) (As := [.long ((v.toInt64) + 1)]) (rest := []) ⟨hx, hb, hml, hown, hts⟩ (metX2_before l G ad ca cp Va Li Th Ca Cl Sp Sl sz dd mv 0 (v.toInt64 + 1)) (cwV 1 hts (lw_V q225 q227 qs10 q14 q228) rfl rfl rfl (by decide +kernel) (by rw [hR]; exact ⟨by decide, by decide⟩)) hK hP hD hS hA rfl rfl rfl hl.1 rfl (Nat.le_of_ble_eq_true rfl) dX2_succ_10 ⟨Nat.zero_le _, Nat.zero_le _⟩ (fun r u H locs hpo hP hD hS => ?_)
  subst hpo
  have hP : va_P G clR (WM ad ca cp Va Li Th Ca Cl Sp Sl sz dd mv (0 + (bM Va Li Th (v.toInt64 + 1)).2)) H := hP
  have hD : va_D A (WM ad ca cp Va Li Th Ca Cl Sp Sl sz dd mv (0 + (bM Va Li Th (v.toInt64 + 1)).2)) := hD
  refine lv_istore_n (lv' := [(2, .int (nI ((bM Va Li Th (v.toInt64 + 1)).1))), (0, .ref (ad 0)), (1, .int v)]) hx hb dX2_succ_13 rfl hl (by decide) rfl (fun ls hl => ?_)
  refine lv_iload_n hx hb dX2_succ_14 rfl (lv_at hl 0 rfl) ?_
  refine lv_aload_n hx hb dX2_succ_15 rfl (lv_at hl 1 rfl) ?_
  refine va_get (D := G) (ci := 1) (v := .int (nI sz)) (C := RX2) (T := TX2) (N := 12) hx hb hts in_X2 hown hK hP 0 rfl rfl 8 (by decide) (hts _ q167) (fun _ h9 => h9) rfl dX2_succ_16 ?_
  refine rr_icmp_ge (tgt := 26) hx hb dX2_succ_19 (by decide) (by omega) (by omega) (fun c1 => ?_) (fun c1 => ?_)
  · refine lv_iconst (v := (-1)) hx hb dX2_succ_26 (by decide +kernel) ?_
    exact hret 27 _ _ _ _ () dX2_succ_27 (by rw [if_neg (Nat.not_lt.mpr c1)]) hP hD hS
  · refine lv_iload_n hx hb dX2_succ_22 rfl (lv_at hl 0 rfl) ?_
    refine lv_goto (tgt := 27) hx hb dX2_succ_23 (by decide) ?_
    exact hret 27 _ _ _ _ () dX2_succ_27 (by rw [if_pos c1]) hP hD hS
set_option maxHeartbeats 4000000 in
set_option maxRecDepth 100000 in
theorem metX2_rangeCount (l : Launch) (G : va_G) (ad : Nat → Nat) (ca : Nat → ClassId) (cp : Nat) (Va : Nat → Int32) (Li Th : Nat → Bool) (Ca : Nat → Int32) (Cl : Nat → Bool) (Sp : Nat → Int32) (Sl : Nat → Bool) (sz dd mv pb : Nat) (v v2 : Int32)  : CI (S := Nat) l yX2_rangeCount (ws_ yX2_rangeCount cX2_rangeCount 4 (some .int)) rq3 G clR (tyM ca) (WM ad ca cp Va Li Th Ca Cl Sp Sl sz dd mv pb) [.ref (ad 0), .int v, .int v2] (fun r u => (v ≤ v2 → r = nI (bM Va Li Th (v2.toInt64 + 1)).1 - nI (bM Va Li Th v.toInt64).1 ∧ u = 0 + (bM Va Li Th v.toInt64).2 + (bM Va Li Th (v2.toInt64 + 1)).2) ∧ (¬ v ≤ v2 → r = nI 0 ∧ u = 0)) (fun u => WM ad ca cp Va Li Th Ca Cl Sp Sl sz dd mv u) := by
  refine ci_start (by decide) (Nat.le_of_ble_eq_true rfl) ?_
  intro p e s m args below meth c R Q A ls hx hb hml hown hts hR hA hK hP hD hret hl
  have hown : s.vm.findClass RX2 = some m.cls := hown
  have hS : va_S A s.heap s.heap [] := va_S.rf
  have hl : lv_has ls 4 [(0, .ref (ad 0)), (1, .int v), (2, .int v2)] := hl
  refine lv_aload_n hx hb dX2_rangeCount_0 rfl (lv_at hl 0 rfl) ?_
  refine lv_iconst (v := (nI 0)) hx hb dX2_rangeCount_1 (by decide +kernel) ?_
  refine va_put (D := G) (ci := 1) (v := .int (nI 0)) (ty := .int) (C := RX2) (T := TX2) (N := 12) hx hb hts in_X2 tyX2 tyX2_ok nmX2 hown hK hP hD hS 0 rfl rfl 11 (by decide) (hts _ q170) (fun _ h9 => h9) rfl (by decide +kernel) rfl rfl (Nat.le_of_ble_eq_true rfl) dX2_rangeCount_2 (fun H locs hP hD hS => ?_)
  have hP : va_P G clR (WM ad ca cp Va Li Th Ca Cl Sp Sl sz dd mv 0) H := hP
  have hD : va_D A (WM ad ca cp Va Li Th Ca Cl Sp Sl sz dd mv 0) := hD
  refine lv_iload_n hx hb dX2_rangeCount_5 rfl (lv_at hl 1 rfl) ?_
  refine lv_iload_n hx hb dX2_rangeCount_6 rfl (lv_at hl 2 rfl) ?_
  refine lv_icmp_le (tgt := 12) hx hb dX2_rangeCount_7 (by decide) (fun c1 => ?_) (fun c1 => ?_)
  · refine lv_aload_n hx hb dX2_rangeCount_12 rfl (lv_at hl 0 rfl) ?_
    refine lv_iload_n hx hb dX2_rangeCount_13 rfl (lv_at hl 1 rfl) ?_
    refine lv_i2l (v := v.toInt64) hx hb dX2_rangeCount_14 rfl ?_
    refine sf_calli (C := RX2) (As := [.long (v.toInt64)]) (rest := []) ⟨hx, hb, hml, hown, hts⟩ (metX2_before l G ad ca cp Va Li Th Ca Cl Sp Sl sz dd mv 0 (v.toInt64)) (cwV 1 hts (lw_V q225 q227 qs10 q14 q228) rfl rfl rfl (by decide +kernel) (by rw [hR]; exact ⟨by decide, by decide⟩)) hK hP hD hS hA rfl rfl rfl hl.1 rfl (Nat.le_of_ble_eq_true rfl) dX2_rangeCount_15 ⟨Nat.zero_le _, Nat.zero_le _⟩ (fun r u H locs hpo hP hD hS => ?_)
    subst hpo
    have hP : va_P G clR (WM ad ca cp Va Li Th Ca Cl Sp Sl sz dd mv (0 + (bM Va Li Th (v.toInt64)).2)) H := hP
    have hD : va_D A (WM ad ca cp Va Li Th Ca Cl Sp Sl sz dd mv (0 + (bM Va Li Th (v.toInt64)).2)) := hD
    refine lv_istore_n (lv' := [(3, .int (nI ((bM Va Li Th (v.toInt64)).1))), (0, .ref (ad 0)), (1, .int v), (2, .int v2)]) hx hb dX2_rangeCount_18 rfl hl (by decide) rfl (fun ls hl => ?_)
    refine lv_aload_n hx hb dX2_rangeCount_19 rfl (lv_at hl 1 rfl) ?_
    refine lv_iload_n hx hb dX2_rangeCount_20 rfl (lv_at hl 3 rfl) ?_
    refine lv_i2l (v := v2.toInt64) hx hb dX2_rangeCount_21 rfl ?_
    refine lv_lconst (v := 1) hx hb dX2_rangeCount_22 (by decide +kernel) ?_
    refine lv_ladd hx hb dX2_rangeCount_23 ?_
    refine sf_calli (C := RX2) (As := [.long ((v2.toInt64) + 1)]) (rest := []) ⟨hx, hb, hml, hown, hts⟩ (metX2_before l G ad ca cp Va Li Th Ca Cl Sp Sl sz dd mv (0 + (bM Va Li Th v.toInt64).2) (v2.toInt64 + 1)) (cwV 1 hts (lw_V q225 q227 qs10 q14 q228) rfl rfl rfl (by decide +kernel) (by rw [hR]; exact ⟨by decide, by decide⟩)) hK hP hD hS hA rfl rfl rfl hl.1 rfl (Nat.le_of_ble_eq_true rfl) dX2_rangeCount_24 ⟨Nat.zero_le _, Nat.zero_le _⟩ (fun r u H locs hpo hP hD hS => ?_)
    subst hpo
    have hP : va_P G clR (WM ad ca cp Va Li Th Ca Cl Sp Sl sz dd mv (0 + (bM Va Li Th v.toInt64).2 + (bM Va Li Th (v2.toInt64 + 1)).2)) H := hP
    have hD : va_D A (WM ad ca cp Va Li Th Ca Cl Sp Sl sz dd mv (0 + (bM Va Li Th v.toInt64).2 + (bM Va Li Th (v2.toInt64 + 1)).2)) := hD
    refine lv_iload_n hx hb dX2_rangeCount_27 rfl (lv_at hl 0 rfl) ?_
    refine lv_isub hx hb dX2_rangeCount_28 ?_
    exact hret 29 _ _ _ _ _ dX2_rangeCount_29 ⟨fun _ => ⟨rfl, rfl⟩, fun h => absurd c1 h⟩ hP hD hS
  · refine lv_iconst (v := (nI 0)) hx hb dX2_rangeCount_10 (by decide +kernel) ?_
    exact hret 11 _ _ _ _ _ dX2_rangeCount_11 ⟨fun h => absurd h c1, fun _ => ⟨rfl, rfl⟩⟩ hP hD hS
set_option maxHeartbeats 4000000 in
set_option maxRecDepth 100000 in
theorem metX2_isPlace (l : Launch) (G : va_G) (ad : Nat → Nat) (ca : Nat → ClassId) (cp : Nat) (Va : Nat → Int32) (Li Th : Nat → Bool) (Ca : Nat → Int32) (Cl : Nat → Bool) (Sp : Nat → Int32) (Sl : Nat → Bool) (sz dd mv pb : Nat) (k : Int32)  : CI (S := Unit) l yX2_isPlace (ws_ yX2_isPlace cX2_isPlace 2 (some .boolean)) rq1 G clR (tyM ca) (WM ad ca cp Va Li Th Ca Cl Sp Sl sz dd mv pb) [.ref (ad 0), .int k] (fun r _ => r = bI (decide (¬ k < 0 ∧ ¬ nI sz ≤ k))) (fun _ => WM ad ca cp Va Li Th Ca Cl Sp Sl sz dd mv pb) := by
  refine cz_start (by decide) (Nat.le_of_ble_eq_true rfl) ?_
  intro p e s m args below meth c R Q A ls hx hb hml hown hts hR hA hK hP hD hret hl
  have hown : s.vm.findClass RX2 = some m.cls := hown
  have hS : va_S A s.heap s.heap [] := va_S.rf
  have hl : lv_has ls 2 [(0, .ref (ad 0)), (1, .int k)] := hl
  refine lv_iload_n hx hb dX2_isPlace_0 rfl (lv_at hl 1 rfl) ?_
  refine lv_if_lt (tgt := 16) hx hb dX2_isPlace_1 (by decide) (fun c1 => ?_) (fun c1 => ?_)
  · refine lv_iconst (v := (bI false)) hx hb dX2_isPlace_16 (by decide +kernel) ?_
    exact hret 17 _ _ _ _ () dX2_isPlace_17 (by rw [decide_eq_false (fun h => h.1 c1)]) hP hD hS
  · refine lv_iload_n hx hb dX2_isPlace_4 rfl (lv_at hl 1 rfl) ?_
    refine lv_aload_n hx hb dX2_isPlace_5 rfl (lv_at hl 0 rfl) ?_
    refine va_get (D := G) (ci := 1) (v := .int (nI sz)) (C := RX2) (T := TX2) (N := 12) hx hb hts in_X2 hown hK hP 0 rfl rfl 8 (by decide) (hts _ q167) (fun _ h9 => h9) rfl dX2_isPlace_6 ?_
    refine lv_icmp_ge (tgt := 16) hx hb dX2_isPlace_9 (by decide) (fun c2 => ?_) (fun c2 => ?_)
    · refine lv_iconst (v := (bI false)) hx hb dX2_isPlace_16 (by decide +kernel) ?_
      exact hret 17 _ _ _ _ () dX2_isPlace_17 (by rw [decide_eq_false (fun h => h.2 c2)]) hP hD hS
    · refine lv_iconst (v := (bI true)) hx hb dX2_isPlace_12 (by decide +kernel) ?_
      refine lv_goto (tgt := 17) hx hb dX2_isPlace_13 (by decide) ?_
      exact hret 17 _ _ _ _ () dX2_isPlace_17 (by rw [decide_eq_true ⟨c1, c2⟩]) hP hD hS
set_option maxHeartbeats 4000000 in
set_option maxRecDepth 100000 in
theorem metX2_has (l : Launch) (G : va_G) (ad : Nat → Nat) (ca : Nat → ClassId) (cp : Nat) (Va : Nat → Int32) (Li Th : Nat → Bool) (Ca : Nat → Int32) (Cl : Nat → Bool) (Sp : Nat → Int32) (Sl : Nat → Bool) (sz dd mv pb : Nat) (k : Int32)  : CI (S := Unit) l yX2_has (ws_ yX2_has cX2_has 2 (some .boolean)) rq3 G clR (tyM ca) (WM ad ca cp Va Li Th Ca Cl Sp Sl sz dd mv pb) [.ref (ad 0), .int k] (fun r _ => r = bI (decide (¬ k < 0 ∧ ¬ nI sz ≤ k))) (fun _ => WM ad ca cp Va Li Th Ca Cl Sp Sl sz dd mv 0) := by
  refine cz_start (by decide) (Nat.le_of_ble_eq_true rfl) ?_
  intro p e s m args below meth c R Q A ls hx hb hml hown hts hR hA hK hP hD hret hl
  have hown : s.vm.findClass RX2 = some m.cls := hown
  have hS : va_S A s.heap s.heap [] := va_S.rf
  have hl : lv_has ls 2 [(0, .ref (ad 0)), (1, .int k)] := hl
  refine lv_aload_n hx hb dX2_has_0 rfl (lv_at hl 0 rfl) ?_
  refine lv_iconst (v := (nI 0)) hx hb dX2_has_1 (by decide +kernel) ?_
  refine va_put (D := G) (ci := 1) (v := .int (nI 0)) (ty := .int) (C := RX2) (T := TX2) (N := 12) hx hb hts in_X2 tyX2 tyX2_ok nmX2 hown hK hP hD hS 0 rfl rfl 11 (by decide) (hts _ q170) (fun _ h9 => h9) rfl (by decide +kernel) rfl rfl (Nat.le_of_ble_eq_true rfl) dX2_has_2 (fun H locs hP hD hS => ?_)
  have hP : va_P G clR (WM ad ca cp Va Li Th Ca Cl Sp Sl sz dd mv 0) H := hP
  have hD : va_D A (WM ad ca cp Va Li Th Ca Cl Sp Sl sz dd mv 0) := hD
  refine lv_aload_n hx hb dX2_has_5 rfl (lv_at hl 0 rfl) ?_
  refine lv_iload_n hx hb dX2_has_6 rfl (lv_at hl 1 rfl) ?_
  refine sf_calli (C := RX2) (As := [.int k]) (rest := []) ⟨hx, hb, hml, hown, hts⟩ (metX2_isPlace l G ad ca cp Va Li Th Ca Cl Sp Sl sz dd mv 0 k) (cwV 1 hts (lw_V q237 q239 qs11 q14 q240) rfl rfl rfl (by decide +kernel) (by rw [hR]; exact ⟨by decide, by decide⟩)) hK hP hD hS hA rfl rfl rfl hl.1 rfl (Nat.le_of_ble_eq_true rfl) dX2_has_7 ⟨Nat.zero_le _, Nat.zero_le _⟩ (fun r u H locs hpo hP hD hS => ?_)
  subst hpo
  have hP : va_P G clR (WM ad ca cp Va Li Th Ca Cl Sp Sl sz dd mv 0) H := hP
  have hD : va_D A (WM ad ca cp Va Li Th Ca Cl Sp Sl sz dd mv 0) := hD
  exact hret 10 _ _ _ _ () dX2_has_10 rfl hP hD hS
set_option maxHeartbeats 4000000 in
set_option maxRecDepth 100000 in
theorem metX2_select (l : Launch) (G : va_G) (ad : Nat → Nat) (ca : Nat → ClassId) (cp : Nat) (Va : Nat → Int32) (Li Th : Nat → Bool) (Ca : Nat → Int32) (Cl : Nat → Bool) (Sp : Nat → Int32) (Sl : Nat → Bool) (sz dd mv pb : Nat) (k : Int32)  : CI (S := Nat) l yX2_select (ws_ yX2_select cX2_select 8 (some .int)) rq3 G clR (tyM ca) (WM ad ca cp Va Li Th Ca Cl Sp Sl sz dd mv pb) [.ref (ad 0), .int k] (fun r u => ((¬ k < 0 ∧ ¬ nI sz ≤ k) → r = (selr (bM Va Li Th) k).1.toInt32 ∧ u = (selr (bM Va Li Th) k).2) ∧ (¬ (¬ k < 0 ∧ ¬ nI sz ≤ k) → r = nI 0 ∧ u = 0)) (fun u => WM ad ca cp Va Li Th Ca Cl Sp Sl sz dd mv u) := by
  refine ci_start (by decide) (Nat.le_of_ble_eq_true rfl) ?_
  intro p e s m args below meth c R Q A ls hx hb hml hown hts hR hA hK hP hD hret hl
  have hown : s.vm.findClass RX2 = some m.cls := hown
  have hS : va_S A s.heap s.heap [] := va_S.rf
  have hl : lv_has ls 8 [(0, .ref (ad 0)), (1, .int k)] := hl
  have loop : ∀ (n q : Nat) (lo hh : Int64), (¬ k < 0 ∧ ¬ nI sz ≤ k) → selB lo hh n → (sel (bM Va Li Th) k n lo hh).1 = (selr (bM Va Li Th) k).1 → q + (sel (bM Va Li Th) k n lo hh).2 = (selr (bM Va Li Th) k).2 → ∀ (H : Heap) (locs : List Loc), va_P G clR (WM ad ca cp Va Li Th Ca Cl Sp Sl sz dd mv q) H → va_D A (WM ad ca cp Va Li Th Ca Cl Sp Sl sz dd mv q) → va_S A s.heap H locs → ∀ ls : Array Slot, lv_has ls 8 [(4, .long hh), (2, .long lo), (0, .ref (ad 0)), (1, .int k)] → W p l e R s m args below meth c H locs 0 0 Q (F0 m 24 ls []) := by
    intro n
    induction n with
    | zero =>
      intro q lo hh hk hB e1 e2 H locs hP hD hS ls hl
      have h0 := selB_0 hB
      rw [sel_out h0] at e1 e2
      have e2 : q = (selr (bM Va Li Th) k).2 := e2
      have e1 : lo = (selr (bM Va Li Th) k).1 := e1
      refine lv_lload_n hx hb dX2_select_24 rfl (lv_at hl 1 rfl) ?_
      refine lv_lload hx hb dX2_select_25 (lv_at hl 0 rfl) ?_
      refine rr_lcmp_ge (tgt := 66) hx hb dX2_select_27 dX2_select_28 (by decide) (fun c1 => ?_) (fun c1 => ?_)
      · refine lv_lload_n hx hb dX2_select_66 rfl (lv_at hl 1 rfl) ?_
        refine lv_l2i (v := lo.toInt32) hx hb dX2_select_67 rfl ?_
        exact hret 68 _ _ _ _ _ dX2_select_68 ⟨fun _ => ⟨by rw [e1], e2⟩, fun h => absurd hk h⟩ hP hD hS
      · exact absurd h0 c1
    | succ n ih =>
      intro q lo hh hk hB e1 e2 H locs hP hD hS ls hl
      refine lv_lload_n hx hb dX2_select_24 rfl (lv_at hl 1 rfl) ?_
      refine lv_lload hx hb dX2_select_25 (lv_at hl 0 rfl) ?_
      refine rr_lcmp_ge (tgt := 66) hx hb dX2_select_27 dX2_select_28 (by decide) (fun c1 => ?_) (fun c1 => ?_)
      · rw [sel_out c1] at e1 e2
        have e2 : q = (selr (bM Va Li Th) k).2 := e2
        have e1 : lo = (selr (bM Va Li Th) k).1 := e1
        refine lv_lload_n hx hb dX2_select_66 rfl (lv_at hl 1 rfl) ?_
        refine lv_l2i (v := lo.toInt32) hx hb dX2_select_67 rfl ?_
        exact hret 68 _ _ _ _ _ dX2_select_68 ⟨fun _ => ⟨by rw [e1], e2⟩, fun h => absurd hk h⟩ hP hD hS
      · have hB2 := selB_step hB c1
        refine lv_lload_n hx hb dX2_select_31 rfl (lv_at hl 1 rfl) ?_
        refine lv_lload hx hb dX2_select_32 (lv_at hl 0 rfl) ?_
        refine lv_ladd hx hb dX2_select_34 ?_
        refine lv_iconst (v := (nI 1)) hx hb dX2_select_35 (by decide +kernel) ?_
        refine lv_lshr (v := sh1 (lo + hh)) hx hb dX2_select_36 rfl ?_
        refine lv_lstore (lv' := [(6, .long (sh1 (lo + hh))), (4, .long hh), (2, .long lo), (0, .ref (ad 0)), (1, .int k)]) hx hb dX2_select_37 hl (by decide) rfl (fun ls hl => ?_)
        refine lv_aload_n hx hb dX2_select_39 rfl (lv_at hl 3 rfl) ?_
        refine lv_lload hx hb dX2_select_40 (lv_at hl 0 rfl) ?_
        refine lv_lconst (v := 1) hx hb dX2_select_42 (by decide +kernel) ?_
        refine lv_ladd hx hb dX2_select_43 ?_
        refine sf_calli (C := RX2) (As := [.long ((sh1 (lo + hh)) + 1)]) (rest := []) ⟨hx, hb, hml, hown, hts⟩ (metX2_before l G ad ca cp Va Li Th Ca Cl Sp Sl sz dd mv q (sh1 (lo + hh) + 1)) (cwV 1 hts (lw_V q225 q227 qs10 q14 q228) rfl rfl rfl (by decide +kernel) (by rw [hR]; exact ⟨by decide, by decide⟩)) hK hP hD hS hA rfl rfl rfl hl.1 rfl (Nat.le_of_ble_eq_true rfl) dX2_select_44 ⟨Nat.zero_le _, Nat.zero_le _⟩ (fun r u H locs hpo hP hD hS => ?_)
        subst hpo
        have hP : va_P G clR (WM ad ca cp Va Li Th Ca Cl Sp Sl sz dd mv (q + (bM Va Li Th (sh1 (lo + hh) + 1)).2)) H := hP
        have hD : va_D A (WM ad ca cp Va Li Th Ca Cl Sp Sl sz dd mv (q + (bM Va Li Th (sh1 (lo + hh) + 1)).2)) := hD
        refine lv_iload_n hx hb dX2_select_47 rfl (lv_at hl 4 rfl) ?_
        refine lv_icmp_le (tgt := 58) hx hb dX2_select_48 (by decide) (fun c2 => ?_) (fun c2 => ?_)
        · rw [sel_up c1 c2] at e1 e2
          refine lv_lload hx hb dX2_select_58 (lv_at hl 0 rfl) ?_
          refine lv_lconst (v := 1) hx hb dX2_select_60 (by decide +kernel) ?_
          refine lv_ladd hx hb dX2_select_61 ?_
          refine lv_lstore_n (lv' := [(2, .long ((sh1 (lo + hh)) + 1)), (6, .long (sh1 (lo + hh))), (4, .long hh), (0, .ref (ad 0)), (1, .int k)]) hx hb dX2_select_62 rfl hl (by decide) rfl (fun ls hl => ?_)
          refine lv_goto (tgt := 24) hx hb dX2_select_63 (by decide) ?_
          exact ih _ _ _ hk hB2.1 e1 (by rw [← e2, Nat.add_assoc]) _ _ hP hD hS _ (lv_sub hl [2, 0, 3, 4] rfl)
        · rw [sel_dn c1 c2] at e1 e2
          refine lv_lload hx hb dX2_select_51 (lv_at hl 0 rfl) ?_
          refine lv_lstore (lv' := [(4, .long (sh1 (lo + hh))), (6, .long (sh1 (lo + hh))), (2, .long lo), (0, .ref (ad 0)), (1, .int k)]) hx hb dX2_select_53 hl (by decide) rfl (fun ls hl => ?_)
          refine lv_goto (tgt := 63) hx hb dX2_select_55 (by decide) ?_
          refine lv_goto (tgt := 24) hx hb dX2_select_63 (by decide) ?_
          exact ih _ _ _ hk hB2.2 e1 (by rw [← e2, Nat.add_assoc]) _ _ hP hD hS _ (lv_sub hl [0, 2, 3, 4] rfl)
  refine lv_aload_n hx hb dX2_select_0 rfl (lv_at hl 0 rfl) ?_
  refine lv_iconst (v := (nI 0)) hx hb dX2_select_1 (by decide +kernel) ?_
  refine va_put (D := G) (ci := 1) (v := .int (nI 0)) (ty := .int) (C := RX2) (T := TX2) (N := 12) hx hb hts in_X2 tyX2 tyX2_ok nmX2 hown hK hP hD hS 0 rfl rfl 11 (by decide) (hts _ q170) (fun _ h9 => h9) rfl (by decide +kernel) rfl rfl (Nat.le_of_ble_eq_true rfl) dX2_select_2 (fun H locs hP hD hS => ?_)
  have hP : va_P G clR (WM ad ca cp Va Li Th Ca Cl Sp Sl sz dd mv 0) H := hP
  have hD : va_D A (WM ad ca cp Va Li Th Ca Cl Sp Sl sz dd mv 0) := hD
  refine lv_aload_n hx hb dX2_select_5 rfl (lv_at hl 0 rfl) ?_
  refine lv_iload_n hx hb dX2_select_6 rfl (lv_at hl 1 rfl) ?_
  refine sf_calli (C := RX2) (As := [.int k]) (rest := []) ⟨hx, hb, hml, hown, hts⟩ (metX2_isPlace l G ad ca cp Va Li Th Ca Cl Sp Sl sz dd mv 0 k) (cwV 1 hts (lw_V q237 q239 qs11 q14 q240) rfl rfl rfl (by decide +kernel) (by rw [hR]; exact ⟨by decide, by decide⟩)) hK hP hD hS hA rfl rfl rfl hl.1 rfl (Nat.le_of_ble_eq_true rfl) dX2_select_7 ⟨Nat.zero_le _, Nat.zero_le _⟩ (fun r u H locs hpo hP hD hS => ?_)
  subst hpo
  have hP : va_P G clR (WM ad ca cp Va Li Th Ca Cl Sp Sl sz dd mv 0) H := hP
  have hD : va_D A (WM ad ca cp Va Li Th Ca Cl Sp Sl sz dd mv 0) := hD
  refine rr_ifne_b (tgt := 15) hx hb dX2_select_10 (by decide) (fun c1 => ?_) (fun c1 => ?_)
  · have c3 := of_decide_eq_true c1
    refine lv_ldc2 hx hb hown (hts _ q241) dX2_select_15 ?_
    refine lv_lstore_n (lv' := [(2, .long (-2147483648)), (0, .ref (ad 0)), (1, .int k)]) hx hb dX2_select_18 rfl hl (by decide) rfl (fun ls hl => ?_)
    refine lv_ldc2 hx hb hown (hts _ q242) dX2_select_19 ?_
    refine lv_lstore (lv' := [(4, .long (2147483647)), (2, .long (-2147483648)), (0, .ref (ad 0)), (1, .int k)]) hx hb dX2_select_22 hl (by decide) rfl (fun ls hl => ?_)
    exact loop 4294967295 0 (-2147483648) 2147483647 c3 selB_start rfl (Nat.zero_add _) _ _ hP hD hS _ (lv_sub hl [0, 1, 2, 3] rfl)
  · have c3 := of_decide_eq_false c1
    refine lv_iconst (v := (nI 0)) hx hb dX2_select_13 (by decide +kernel) ?_
    exact hret 14 _ _ _ _ _ dX2_select_14 ⟨fun h => absurd h c3, fun _ => ⟨rfl, rfl⟩⟩ hP hD hS
set_option maxHeartbeats 4000000 in
set_option maxRecDepth 100000 in
theorem metX2_size (l : Launch) (G : va_G) (ad : Nat → Nat) (ca : Nat → ClassId) (cp : Nat) (Va : Nat → Int32) (Li Th : Nat → Bool) (Ca : Nat → Int32) (Cl : Nat → Bool) (Sp : Nat → Int32) (Sl : Nat → Bool) (sz dd mv pb : Nat)   : CI (S := Unit) l yX2_size (ws_ yX2_size cX2_size 1 (some .int)) rq3 G clR (tyM ca) (WM ad ca cp Va Li Th Ca Cl Sp Sl sz dd mv pb) [.ref (ad 0)] (fun r _ => r = nI sz) (fun _ => WM ad ca cp Va Li Th Ca Cl Sp Sl sz dd mv pb) := by
  refine ci_start (by decide) (Nat.le_of_ble_eq_true rfl) ?_
  intro p e s m args below meth c R Q A ls hx hb hml hown hts hR hA hK hP hD hret hl
  have hown : s.vm.findClass RX2 = some m.cls := hown
  have hS : va_S A s.heap s.heap [] := va_S.rf
  have hl : lv_has ls 1 [(0, .ref (ad 0))] := hl
  refine lv_aload_n hx hb dX2_size_0 rfl (lv_at hl 0 rfl) ?_
  refine va_get (D := G) (ci := 1) (v := .int (nI sz)) (C := RX2) (T := TX2) (N := 12) hx hb hts in_X2 hown hK hP 0 rfl rfl 8 (by decide) (hts _ q167) (fun _ h9 => h9) rfl dX2_size_1 ?_
  exact hret 4 _ _ _ _ () dX2_size_4 rfl hP hD hS
set_option maxHeartbeats 4000000 in
set_option maxRecDepth 100000 in
theorem metX2_movesMade (l : Launch) (G : va_G) (ad : Nat → Nat) (ca : Nat → ClassId) (cp : Nat) (Va : Nat → Int32) (Li Th : Nat → Bool) (Ca : Nat → Int32) (Cl : Nat → Bool) (Sp : Nat → Int32) (Sl : Nat → Bool) (sz dd mv pb : Nat)   : CI (S := Unit) l yX2_movesMade (ws_ yX2_movesMade cX2_movesMade 1 (some .int)) rq3 G clR (tyM ca) (WM ad ca cp Va Li Th Ca Cl Sp Sl sz dd mv pb) [.ref (ad 0)] (fun r _ => r = nI mv) (fun _ => WM ad ca cp Va Li Th Ca Cl Sp Sl sz dd mv pb) := by
  refine ci_start (by decide) (Nat.le_of_ble_eq_true rfl) ?_
  intro p e s m args below meth c R Q A ls hx hb hml hown hts hR hA hK hP hD hret hl
  have hown : s.vm.findClass RX2 = some m.cls := hown
  have hS : va_S A s.heap s.heap [] := va_S.rf
  have hl : lv_has ls 1 [(0, .ref (ad 0))] := hl
  refine lv_aload_n hx hb dX2_movesMade_0 rfl (lv_at hl 0 rfl) ?_
  refine va_get (D := G) (ci := 1) (v := .int (nI mv)) (C := RX2) (T := TX2) (N := 12) hx hb hts in_X2 hown hK hP 0 rfl rfl 10 (by decide) (hts _ q169) (fun _ h9 => h9) rfl dX2_movesMade_1 ?_
  exact hret 4 _ _ _ _ () dX2_movesMade_4 rfl hP hD hS
set_option maxHeartbeats 4000000 in
set_option maxRecDepth 100000 in
theorem metX2_probesLast (l : Launch) (G : va_G) (ad : Nat → Nat) (ca : Nat → ClassId) (cp : Nat) (Va : Nat → Int32) (Li Th : Nat → Bool) (Ca : Nat → Int32) (Cl : Nat → Bool) (Sp : Nat → Int32) (Sl : Nat → Bool) (sz dd mv pb : Nat)   : CI (S := Unit) l yX2_probesLast (ws_ yX2_probesLast cX2_probesLast 1 (some .int)) rq3 G clR (tyM ca) (WM ad ca cp Va Li Th Ca Cl Sp Sl sz dd mv pb) [.ref (ad 0)] (fun r _ => r = nI pb) (fun _ => WM ad ca cp Va Li Th Ca Cl Sp Sl sz dd mv pb) := by
  refine ci_start (by decide) (Nat.le_of_ble_eq_true rfl) ?_
  intro p e s m args below meth c R Q A ls hx hb hml hown hts hR hA hK hP hD hret hl
  have hown : s.vm.findClass RX2 = some m.cls := hown
  have hS : va_S A s.heap s.heap [] := va_S.rf
  have hl : lv_has ls 1 [(0, .ref (ad 0))] := hl
  refine lv_aload_n hx hb dX2_probesLast_0 rfl (lv_at hl 0 rfl) ?_
  refine va_get (D := G) (ci := 1) (v := .int (nI pb)) (C := RX2) (T := TX2) (N := 12) hx hb hts in_X2 hown hK hP 0 rfl rfl 11 (by decide) (hts _ q170) (fun _ h9 => h9) rfl dX2_probesLast_1 ?_
  exact hret 4 _ _ _ _ () dX2_probesLast_4 rfl hP hD hS
set_option maxHeartbeats 4000000 in
set_option maxRecDepth 100000 in
theorem metX2_cellsOf (l : Launch) (G : va_G) (ad : Nat → Nat) (ca : Nat → ClassId) (cp : Nat) (Va : Nat → Int32) (Li Th : Nat → Bool) (Ca : Nat → Int32) (Cl : Nat → Bool) (Sp : Nat → Int32) (Sl : Nat → Bool) (sz dd mv pb : Nat) (k : Int32)  : CI (S := Unit) l yX2_cellsOf (ws_ yX2_cellsOf cX2_cellsOf 2 (some .int)) rq3 G clR (tyM ca) (WM ad ca cp Va Li Th Ca Cl Sp Sl sz dd mv pb) [.ref (ad 0), .int k] (fun r _ => (k = -1 → r = nI dd) ∧ (k ≠ -1 → (k < 0 ∨ nI 10 ≤ k) → r = nI 0) ∧ (∀ j, j < 10 → k = nI j → r = nI (if Th j then 2 ^ j else 0))) (fun _ => WM ad ca cp Va Li Th Ca Cl Sp Sl sz dd mv pb) := by
  refine ci_start (by decide) (Nat.le_of_ble_eq_true rfl) ?_
  intro p e s m args below meth c R Q A ls hx hb hml hown hts hR hA hK hP hD hret hl
  have hown : s.vm.findClass RX2 = some m.cls := hown
  have hS : va_S A s.heap s.heap [] := va_S.rf
  have hl : lv_has ls 2 [(0, .ref (ad 0)), (1, .int k)] := hl
  have hm : ∀ j, j < 10 → ¬ nI j < 0 ∧ ¬ nI 10 ≤ nI j ∧ nI j ≠ -1 := by decide +kernel
  refine lv_iload_n hx hb dX2_cellsOf_0 rfl (lv_at hl 1 rfl) ?_
  refine lv_iconst (v := (-1)) hx hb dX2_cellsOf_1 (by decide +kernel) ?_
  refine lv_icmp_ne (tgt := 10) hx hb dX2_cellsOf_2 (by decide) (fun c1 => ?_) (fun c1 => ?_)
  · refine lv_iload_n hx hb dX2_cellsOf_10 rfl (lv_at hl 1 rfl) ?_
    refine lv_if_lt (tgt := 35) hx hb dX2_cellsOf_11 (by decide) (fun c2 => ?_) (fun c2 => ?_)
    · refine lv_iconst (v := (nI 0)) hx hb dX2_cellsOf_35 (by decide +kernel) ?_
      exact hret 36 _ _ _ _ () dX2_cellsOf_36 ⟨fun h => absurd h c1, fun _ _ => rfl, fun j hj e => absurd c2 (by rw [e]; exact (hm j hj).1)⟩ hP hD hS
    · refine lv_iload_n hx hb dX2_cellsOf_14 rfl (lv_at hl 1 rfl) ?_
      refine lv_bipush (v := (nI 10)) hx hb dX2_cellsOf_15 (by decide +kernel) ?_
      refine lv_icmp_ge (tgt := 35) hx hb dX2_cellsOf_17 (by decide) (fun c3 => ?_) (fun c3 => ?_)
      · refine lv_iconst (v := (nI 0)) hx hb dX2_cellsOf_35 (by decide +kernel) ?_
        exact hret 36 _ _ _ _ () dX2_cellsOf_36 ⟨fun h => absurd h c1, fun _ _ => rfl, fun j hj e => absurd c3 (by rw [e]; exact (hm j hj).2.1)⟩ hP hD hS
      · obtain ⟨j, hj, ek⟩ : ∃ j : Nat, j < 10 ∧ k = nI j := by
          rcases pk_ix k (n := 10) (by decide) with h | h | h
          · exact absurd h c2
          · exact absurd h c3
          · exact h
        subst ek
        refine lv_aload_n hx hb dX2_cellsOf_20 rfl (lv_at hl 0 rfl) ?_
        refine va_get (D := G) (ci := 1) (v := .ref (ad 3)) (C := RX2) (T := TX2) (N := 12) hx hb hts in_X2 hown hK hP 0 rfl rfl 3 (by decide) (hts _ q162) (fun _ h9 => h9) rfl dX2_cellsOf_21 ?_
        refine lv_iload_n hx hb dX2_cellsOf_24 rfl (lv_at hl 1 rfl) ?_
        refine rr_zald (B := Th) (k := j) hx hb hK hP 3 2 rfl rfl (by omega) (by decide) dX2_cellsOf_25 ?_
        refine rr_ifeq_b (tgt := 35) hx hb dX2_cellsOf_26 (by decide) (fun c4 => ?_) (fun c4 => ?_)
        · refine lv_iconst (v := (nI 0)) hx hb dX2_cellsOf_35 (by decide +kernel) ?_
          exact hret 36 _ _ _ _ () dX2_cellsOf_36 ⟨fun h => absurd h c1, fun _ h => h.elim (fun z => absurd z c2) (fun z => absurd z c3), fun j2 hj2 e => by rw [← (nI_eq (by omega) (by omega)).mp e, c4]; rfl⟩ hP hD hS
        · refine lv_iconst (v := (nI 1)) hx hb dX2_cellsOf_29 (by decide +kernel) ?_
          refine lv_iload_n hx hb dX2_cellsOf_30 rfl (lv_at hl 1 rfl) ?_
          refine rr_shl1 hx hb dX2_cellsOf_31 (by omega) ?_
          refine lv_goto (tgt := 36) hx hb dX2_cellsOf_32 (by decide) ?_
          exact hret 36 _ _ _ _ () dX2_cellsOf_36 ⟨fun h => absurd h c1, fun _ h => h.elim (fun z => absurd z c2) (fun z => absurd z c3), fun j2 hj2 e => by rw [← (nI_eq (by omega) (by omega)).mp e, c4]; rfl⟩ hP hD hS
  · refine lv_aload_n hx hb dX2_cellsOf_5 rfl (lv_at hl 0 rfl) ?_
    refine va_get (D := G) (ci := 1) (v := .int (nI dd)) (C := RX2) (T := TX2) (N := 12) hx hb hts in_X2 hown hK hP 0 rfl rfl 9 (by decide) (hts _ q168) (fun _ h9 => h9) rfl dX2_cellsOf_6 ?_
    exact hret 9 _ _ _ _ () dX2_cellsOf_9 ⟨fun _ => rfl, fun h => absurd c1 h, fun j hj e => absurd c1 (by rw [e]; exact (hm j hj).2.2)⟩ hP hD hS
set_option maxHeartbeats 4000000 in
set_option maxRecDepth 100000 in
theorem metX2_cell (l : Launch) (G : va_G) (ad : Nat → Nat) (ca : Nat → ClassId) (cp : Nat) (Va : Nat → Int32) (Li Th : Nat → Bool) (Ca : Nat → Int32) (Cl : Nat → Bool) (Sp : Nat → Int32) (Sl : Nat → Bool) (sz dd mv pb : Nat) (k k2 : Int32)  : CI (S := Unit) l yX2_cell (ws_ yX2_cell cX2_cell 4 (some .int)) rq3 G clR (tyM ca) (WM ad ca cp Va Li Th Ca Cl Sp Sl sz dd mv pb) [.ref (ad 0), .int k, .int k2] (fun r _ => ((k < 0 ∨ nI 10 ≤ k ∨ k2 < 0) → r = nI 0) ∧ (∀ j q, j < 10 → q < 2147483648 → k = nI j → k2 = nI q → r = if q < (if Th j then 2 ^ j else 0) then Va (2 ^ j - 1 + q) else nI 0)) (fun _ => WM ad ca cp Va Li Th Ca Cl Sp Sl sz dd mv pb) := by
  refine ci_start (by decide) (Nat.le_of_ble_eq_true rfl) ?_
  intro p e s m args below meth c R Q A ls hx hb hml hown hts hR hA hK hP hD hret hl
  have hown : s.vm.findClass RX2 = some m.cls := hown
  have hS : va_S A s.heap s.heap [] := va_S.rf
  have hl : lv_has ls 4 [(0, .ref (ad 0)), (1, .int k), (2, .int k2)] := hl
  have hm : ∀ j, j < 10 → ¬ nI j < 0 ∧ ¬ nI 10 ≤ nI j := by decide +kernel
  refine lv_iload_n hx hb dX2_cell_0 rfl (lv_at hl 1 rfl) ?_
  refine lv_if_lt (tgt := 18) hx hb dX2_cell_1 (by decide) (fun c1 => ?_) (fun c1 => ?_)
  · refine lv_iconst (v := (bI false)) hx hb dX2_cell_18 (by decide +kernel) ?_
    refine lv_istore_n (lv' := [(3, .int (bI false)), (0, .ref (ad 0)), (1, .int k), (2, .int k2)]) hx hb dX2_cell_19 rfl hl (by decide) rfl (fun ls hl => ?_)
    refine lv_iload_n hx hb dX2_cell_20 rfl (lv_at hl 0 rfl) ?_
    refine rr_ifeq_b (tgt := 54) hx hb dX2_cell_21 (by decide) (fun _ => ?_) (fun h9 => absurd h9 (by decide))
    refine lv_iconst (v := (nI 0)) hx hb dX2_cell_54 (by decide +kernel) ?_
    exact hret 55 _ _ _ _ () dX2_cell_55 ⟨fun _ => rfl, fun j q hj hq e e2 => absurd c1 (by rw [e]; exact (hm j hj).1)⟩ hP hD hS
  · refine lv_iload_n hx hb dX2_cell_4 rfl (lv_at hl 1 rfl) ?_
    refine lv_bipush (v := (nI 10)) hx hb dX2_cell_5 (by decide +kernel) ?_
    refine lv_icmp_ge (tgt := 18) hx hb dX2_cell_7 (by decide) (fun c2 => ?_) (fun c2 => ?_)
    · refine lv_iconst (v := (bI false)) hx hb dX2_cell_18 (by decide +kernel) ?_
      refine lv_istore_n (lv' := [(3, .int (bI false)), (0, .ref (ad 0)), (1, .int k), (2, .int k2)]) hx hb dX2_cell_19 rfl hl (by decide) rfl (fun ls hl => ?_)
      refine lv_iload_n hx hb dX2_cell_20 rfl (lv_at hl 0 rfl) ?_
      refine rr_ifeq_b (tgt := 54) hx hb dX2_cell_21 (by decide) (fun _ => ?_) (fun h9 => absurd h9 (by decide))
      refine lv_iconst (v := (nI 0)) hx hb dX2_cell_54 (by decide +kernel) ?_
      exact hret 55 _ _ _ _ () dX2_cell_55 ⟨fun _ => rfl, fun j q hj hq e e2 => absurd c2 (by rw [e]; exact (hm j hj).2)⟩ hP hD hS
    · refine lv_iload_n hx hb dX2_cell_10 rfl (lv_at hl 2 rfl) ?_
      refine lv_if_lt (tgt := 18) hx hb dX2_cell_11 (by decide) (fun c3 => ?_) (fun c3 => ?_)
      · refine lv_iconst (v := (bI false)) hx hb dX2_cell_18 (by decide +kernel) ?_
        refine lv_istore_n (lv' := [(3, .int (bI false)), (0, .ref (ad 0)), (1, .int k), (2, .int k2)]) hx hb dX2_cell_19 rfl hl (by decide) rfl (fun ls hl => ?_)
        refine lv_iload_n hx hb dX2_cell_20 rfl (lv_at hl 0 rfl) ?_
        refine rr_ifeq_b (tgt := 54) hx hb dX2_cell_21 (by decide) (fun _ => ?_) (fun h9 => absurd h9 (by decide))
        refine lv_iconst (v := (nI 0)) hx hb dX2_cell_54 (by decide +kernel) ?_
        exact hret 55 _ _ _ _ () dX2_cell_55 ⟨fun _ => rfl, fun j q hj hq e e2 => absurd c3 (by rw [e2]; exact nI_pos hq)⟩ hP hD hS
      · obtain ⟨j, hj, ek⟩ : ∃ j : Nat, j < 10 ∧ k = nI j := by
          rcases pk_ix k (n := 10) (by decide) with h | h | h
          · exact absurd h c1
          · exact absurd h c2
          · exact h
        obtain ⟨q, hq, ek2⟩ := nI_of c3
        subst ek
        subst ek2
        have hp := rr_pow hj
        refine lv_iconst (v := (bI true)) hx hb dX2_cell_14 (by decide +kernel) ?_
        refine lv_goto (tgt := 19) hx hb dX2_cell_15 (by decide) ?_
        refine lv_istore_n (lv' := [(3, .int (bI true)), (0, .ref (ad 0)), (1, .int (nI j)), (2, .int (nI q))]) hx hb dX2_cell_19 rfl hl (by decide) rfl (fun ls hl => ?_)
        refine lv_iload_n hx hb dX2_cell_20 rfl (lv_at hl 0 rfl) ?_
        refine rr_ifeq_b (tgt := 54) hx hb dX2_cell_21 (by decide) (fun h9 => absurd h9 (by decide)) (fun _ => ?_)
        refine lv_aload_n hx hb dX2_cell_24 rfl (lv_at hl 1 rfl) ?_
        refine va_get (D := G) (ci := 1) (v := .ref (ad 3)) (C := RX2) (T := TX2) (N := 12) hx hb hts in_X2 hown hK hP 0 rfl rfl 3 (by decide) (hts _ q162) (fun _ h9 => h9) rfl dX2_cell_25 ?_
        refine lv_iload_n hx hb dX2_cell_28 rfl (lv_at hl 2 rfl) ?_
        refine rr_zald (B := Th) (k := j) hx hb hK hP 3 2 rfl rfl (by omega) (by decide) dX2_cell_29 ?_
        refine rr_ifeq_b (tgt := 54) hx hb dX2_cell_30 (by decide) (fun c4 => ?_) (fun c4 => ?_)
        · refine lv_iconst (v := (nI 0)) hx hb dX2_cell_54 (by decide +kernel) ?_
          exact hret 55 _ _ _ _ () dX2_cell_55 ⟨fun h => h.elim (fun z => absurd z c1) (fun h => h.elim (fun z => absurd z c2) (fun z => absurd z c3)), fun j2 q2 hj2 hq2 e e2 => by rw [← (nI_eq (by omega) (by omega)).mp e, c4]; rfl⟩ hP hD hS
        · refine lv_iload_n hx hb dX2_cell_33 rfl (lv_at hl 3 rfl) ?_
          refine lv_iconst (v := (nI 1)) hx hb dX2_cell_34 (by decide +kernel) ?_
          refine lv_iload_n hx hb dX2_cell_35 rfl (lv_at hl 2 rfl) ?_
          refine rr_shl1 hx hb dX2_cell_36 (by omega) ?_
          refine rr_icmp_ge (tgt := 54) hx hb dX2_cell_37 (by decide) (by omega) (by omega) (fun c5 => ?_) (fun c5 => ?_)
          · refine lv_iconst (v := (nI 0)) hx hb dX2_cell_54 (by decide +kernel) ?_
            exact hret 55 _ _ _ _ () dX2_cell_55 ⟨fun h => h.elim (fun z => absurd z c1) (fun h => h.elim (fun z => absurd z c2) (fun z => absurd z c3)), fun j2 q2 hj2 hq2 e e2 => by rw [← (nI_eq (by omega) (by omega)).mp e, ← (nI_eq (by omega) (by omega)).mp e2, c4, if_pos rfl, if_neg (Nat.not_lt.mpr c5)]⟩ hP hD hS
          · refine lv_aload_n hx hb dX2_cell_40 rfl (lv_at hl 1 rfl) ?_
            refine va_get (D := G) (ci := 1) (v := .ref (ad 1)) (C := RX2) (T := TX2) (N := 12) hx hb hts in_X2 hown hK hP 0 rfl rfl 1 (by decide) (hts _ q160) (fun _ h9 => h9) rfl dX2_cell_41 ?_
            refine lv_iload_n hx hb dX2_cell_44 rfl (lv_at hl 2 rfl) ?_
            refine so_M (i := j) hx hb hml hown hts (by omega) (by rw [hR]; exact ⟨by decide, by decide⟩) hl.1 (Nat.le_of_ble_eq_true rfl) dX2_cell_45 ?_
            refine lv_iload_n hx hb dX2_cell_48 rfl (lv_at hl 3 rfl) ?_
            refine rr_nadd hx hb dX2_cell_49 ?_
            refine rr_iald (f := Va) (k := (2 ^ j - 1) + q) hx hb hK hP 1 0 rfl rfl (by omega) (by decide) dX2_cell_50 ?_
            refine lv_goto (tgt := 55) hx hb dX2_cell_51 (by decide) ?_
            exact hret 55 _ _ _ _ () dX2_cell_55 ⟨fun h => h.elim (fun z => absurd z c1) (fun h => h.elim (fun z => absurd z c2) (fun z => absurd z c3)), fun j2 q2 hj2 hq2 e e2 => by rw [← (nI_eq (by omega) (by omega)).mp e, ← (nI_eq (by omega) (by omega)).mp e2, c4, if_pos rfl, if_pos c5]⟩ hP hD hS
end
section
/-! contracts of RankRunsModel: what is put in -/
set_option maxRecDepth 100000
set_option maxHeartbeats 4000000 in
set_option maxRecDepth 100000 in
theorem metX2_leave (l : Launch) (G : va_G) (ad : Nat → Nat) (ca : Nat → ClassId) (cp : Nat) (Va : Nat → Int32) (Li Th : Nat → Bool) (Ca : Nat → Int32) (Cl : Nat → Bool) (Sp : Nat → Int32) (Sl : Nat → Bool) (sz dd mv pb : Nat) (i : Nat) (hi : i < 10) : CV (S := Unit) l yX2_leave (ws_ yX2_leave cX2_leave 3 none) rq1 G clR (tyM ca) (WM ad ca cp Va Li Th Ca Cl Sp Sl sz dd mv pb) [.ref (ad 0), .int (nI i)] (fun _ => True) (fun _ => WM ad ca cp Va (fb_put Li (fun _ => false) (2 ^ i - 1) (2 ^ i)) (va_up Th i false) Ca Cl Sp Sl sz dd mv pb) := by
  refine cv_start (by decide) (Nat.le_of_ble_eq_true rfl) ?_
  intro p e s m args below meth c R Q A ls hx hb hml hown hts hR hA hK hP hD hret hl
  have hown : s.vm.findClass RX2 = some m.cls := hown
  have hS : va_S A s.heap s.heap [] := va_S.rf
  have hl : lv_has ls 3 [(0, .ref (ad 0)), (1, .int (nI i))] := hl
  have hp := rr_pow hi
  refine lv_aload_n hx hb dX2_leave_0 rfl (lv_at hl 0 rfl) ?_
  refine va_get (D := G) (ci := 1) (v := .ref (ad 3)) (C := RX2) (T := TX2) (N := 12) hx hb hts in_X2 hown hK hP 0 rfl rfl 3 (by decide) (hts _ q162) (fun _ h9 => h9) rfl dX2_leave_1 ?_
  refine lv_iload_n hx hb dX2_leave_4 rfl (lv_at hl 1 rfl) ?_
  refine lv_iconst (v := (bI false)) hx hb dX2_leave_5 (by decide +kernel) ?_
  refine rr_zast (B := Th) (k := i) hx hb hK hP hD hS 3 2 rfl rfl (by omega) (by decide) dX2_leave_6 (fun H locs hP hD hS => ?_)
  have hP : va_P G clR (WM ad ca cp Va Li (va_up Th i false) Ca Cl Sp Sl sz dd mv pb) H := hP
  have hD : va_D A (WM ad ca cp Va Li (va_up Th i false) Ca Cl Sp Sl sz dd mv pb) := hD
  refine lv_iconst (v := (nI 0)) hx hb dX2_leave_7 (by decide +kernel) ?_
  refine lv_istore_n (lv' := [(2, .int (nI 0)), (0, .ref (ad 0)), (1, .int (nI i))]) hx hb dX2_leave_8 rfl hl (by decide) rfl (fun ls hl => ?_)
  have loop : ∀ (n k : Nat) (L1 : Nat → Bool), 2 ^ i - k < n → k ≤ 2 ^ i → L1 = (fb_put Li (fun _ => false) (2 ^ i - 1) k) → ∀ (H : Heap) (locs : List Loc), va_P G clR (WM ad ca cp Va L1 (va_up Th i false) Ca Cl Sp Sl sz dd mv pb) H → va_D A (WM ad ca cp Va L1 (va_up Th i false) Ca Cl Sp Sl sz dd mv pb) → va_S A s.heap H locs → ∀ ls : Array Slot, lv_has ls 3 [(2, .int (nI k)), (0, .ref (ad 0)), (1, .int (nI i))] → W p l e R s m args below meth c H locs 0 0 Q (F0 m 9 ls []) := by
    intro n
    induction n with
    | zero =>
      intro k L1 h1
      exact absurd h1 (by omega)
    | succ n ih =>
      intro k L1 h1 h2 eL H locs hP hD hS ls hl
      refine lv_iload_n hx hb dX2_leave_9 rfl (lv_at hl 0 rfl) ?_
      refine lv_iconst (v := (nI 1)) hx hb dX2_leave_10 (by decide +kernel) ?_
      refine lv_iload_n hx hb dX2_leave_11 rfl (lv_at hl 2 rfl) ?_
      refine rr_shl1 hx hb dX2_leave_12 (by omega) ?_
      refine rr_icmp_ge (tgt := 34) hx hb dX2_leave_13 (by decide) (by omega) (by omega) (fun c1 => ?_) (fun c1 => ?_)
      · have ek : k = 2 ^ i := by omega
        rw [ek] at eL
        subst eL
        exact hret 34 _ _ _ () dX2_leave_34 trivial hP hD hS
      · refine lv_aload_n hx hb dX2_leave_16 rfl (lv_at hl 1 rfl) ?_
        refine va_get (D := G) (ci := 1) (v := .ref (ad 2)) (C := RX2) (T := TX2) (N := 12) hx hb hts in_X2 hown hK hP 0 rfl rfl 2 (by decide) (hts _ q161) (fun _ h9 => h9) rfl dX2_leave_17 ?_
        refine lv_iload_n hx hb dX2_leave_20 rfl (lv_at hl 2 rfl) ?_
        refine so_M (i := i) hx hb hml hown hts (by omega) (by rw [hR]; exact ⟨by decide, by decide⟩) hl.1 (Nat.le_of_ble_eq_true rfl) dX2_leave_21 ?_
        refine lv_iload_n hx hb dX2_leave_24 rfl (lv_at hl 0 rfl) ?_
        refine rr_nadd hx hb dX2_leave_25 ?_
        refine lv_iconst (v := (bI false)) hx hb dX2_leave_26 (by decide +kernel) ?_
        refine rr_zast (B := L1) (k := (2 ^ i - 1) + k) hx hb hK hP hD hS 2 1 rfl rfl (by omega) (by decide) dX2_leave_27 (fun H locs hP hD hS => ?_)
        have hP : va_P G clR (WM ad ca cp Va (va_up L1 ((2 ^ i - 1) + k) false) (va_up Th i false) Ca Cl Sp Sl sz dd mv pb) H := hP
        have hD : va_D A (WM ad ca cp Va (va_up L1 ((2 ^ i - 1) + k) false) (va_up Th i false) Ca Cl Sp Sl sz dd mv pb) := hD
        refine lv_iinc (v := (nI (k + 1))) (lv' := [(2, .int (nI (k + 1))), (0, .ref (ad 0)), (1, .int (nI i))]) hx hb dX2_leave_28 hl (k := 0) rfl (rr_inc k) (by decide) rfl (fun ls hl => ?_)
        refine lv_goto (tgt := 9) hx hb dX2_leave_31 (by decide) ?_
        exact ih (k + 1) _ (by omega) (by omega) (by rw [eL]; exact put_succ Li (fun _ => false) (2 ^ i - 1) k) _ _ hP hD hS _ (lv_sub hl [0, 1, 2] rfl)
  exact loop (2 ^ i + 1) 0 Li (by omega) (Nat.zero_le _) (fb_put_0 _ _ _).symm _ _ hP hD hS _ (lv_sub hl [0, 1, 2] rfl)
set_option maxHeartbeats 4000000 in
set_option maxRecDepth 100000 in
theorem metX2_join (l : Launch) (G : va_G) (ad : Nat → Nat) (ca : Nat → ClassId) (cp : Nat) (Va : Nat → Int32) (Li Th : Nat → Bool) (Ca : Nat → Int32) (Cl : Nat → Bool) (Sp : Nat → Int32) (Sl : Nat → Bool) (sz dd mv pb : Nat) (i : Nat) (hi : i < 10) (hs1 : srt (fun k => Va (2 ^ i - 1 + k)) (2 ^ i)) (hs2 : srt Ca (2 ^ i)) : CV (S := (Nat → Int32) × (Nat → Bool) × (Nat → Int32) × (Nat → Bool)) l yX2_join (ws_ yX2_join cX2_join 7 none) rq1 G clR (tyM ca) (WM ad ca cp Va Li Th Ca Cl Sp Sl sz dd mv pb) [.ref (ad 0), .int (nI i)] (fun u => ∀ j, j < 2 ^ i + 2 ^ i → u.1 j = ((mbf (rn Va Li i) (fun k => (Ca k, Cl k)) (2 ^ i) (2 ^ i)) j).1 ∧ u.2.1 j = ((mbf (rn Va Li i) (fun k => (Ca k, Cl k)) (2 ^ i) (2 ^ i)) j).2) (fun u => WM ad ca cp Va Li Th (u.1) (u.2.1) (u.2.2.1) (u.2.2.2) sz dd (mv + 2 * 2 ^ i) pb) := by
  refine cv_start (by decide) (Nat.le_of_ble_eq_true rfl) ?_
  intro p e s m args below meth c R Q A ls hx hb hml hown hts hR hA hK hP hD hret hl
  have hown : s.vm.findClass RX2 = some m.cls := hown
  have hS : va_S A s.heap s.heap [] := va_S.rf
  have hl : lv_has ls 7 [(0, .ref (ad 0)), (1, .int (nI i))] := hl
  have hp := rr_pow hi
  have copy : ∀ (n k : Nat) (C1 : Nat → Int32) (L1 : Nat → Bool) (S1 : Nat → Int32) (S2 : Nat → Bool), 2 * 2 ^ i - k < n → k ≤ 2 * 2 ^ i → (∀ j, j < 2 ^ i + 2 ^ i → S1 j = ((mbf (rn Va Li i) (fun k => (Ca k, Cl k)) (2 ^ i) (2 ^ i)) j).1 ∧ S2 j = ((mbf (rn Va Li i) (fun k => (Ca k, Cl k)) (2 ^ i) (2 ^ i)) j).2) → (∀ j, j < k → C1 j = S1 j ∧ L1 j = S2 j) → ∀ (H : Heap) (locs : List Loc), va_P G clR (WM ad ca cp Va Li Th C1 L1 S1 S2 sz dd mv pb) H → va_D A (WM ad ca cp Va Li Th C1 L1 S1 S2 sz dd mv pb) → va_S A s.heap H locs → ∀ ls : Array Slot, lv_has ls 7 [(5, .int (nI k)), (2, .int (nI (2 ^ i))), (0, .ref (ad 0)), (1, .int (nI i))] → W p l e R s m args below meth c H locs 0 0 Q (F0 m 163 ls []) := by
    intro n
    induction n with
    | zero =>
      intro k C1 L1 S1 S2 h1
      exact absurd h1 (by omega)
    | succ n ih =>
      intro k C1 L1 S1 S2 h1 h2 hZ hC H locs hP hD hS ls hl
      refine lv_iload hx hb dX2_join_163 (lv_at hl 0 rfl) ?_
      refine lv_iconst (v := (nI 2)) hx hb dX2_join_165 (by decide +kernel) ?_
      refine lv_iload_n hx hb dX2_join_166 rfl (lv_at hl 1 rfl) ?_
      refine rr_nmul hx hb dX2_join_167 ?_
      refine rr_icmp_ge (tgt := 205) hx hb dX2_join_168 (by decide) (by omega) (by omega) (fun c1 => ?_) (fun c1 => ?_)
      · refine lv_aload_n hx hb dX2_join_205 rfl (lv_at hl 2 rfl) ?_
        refine lv_aload_n hx hb dX2_join_206 rfl (lv_at hl 2 rfl) ?_
        refine va_get (D := G) (ci := 1) (v := .int (nI mv)) (C := RX2) (T := TX2) (N := 12) hx hb hts in_X2 hown hK hP 0 rfl rfl 10 (by decide) (hts _ q169) (fun _ h9 => h9) rfl dX2_join_207 ?_
        refine lv_iconst (v := (nI 2)) hx hb dX2_join_210 (by decide +kernel) ?_
        refine lv_iload_n hx hb dX2_join_211 rfl (lv_at hl 1 rfl) ?_
        refine rr_nmul hx hb dX2_join_212 ?_
        refine rr_nadd hx hb dX2_join_213 ?_
        refine va_put (D := G) (ci := 1) (v := .int (nI (mv + (2 * (2 ^ i))))) (ty := .int) (C := RX2) (T := TX2) (N := 12) hx hb hts in_X2 tyX2 tyX2_ok nmX2 hown hK hP hD hS 0 rfl rfl 10 (by decide) (hts _ q169) (fun _ h9 => h9) rfl (by decide +kernel) rfl rfl (Nat.le_of_ble_eq_true rfl) dX2_join_214 (fun H locs hP hD hS => ?_)
        have hP : va_P G clR (WM ad ca cp Va Li Th C1 L1 S1 S2 sz dd (mv + (2 * (2 ^ i))) pb) H := hP
        have hD : va_D A (WM ad ca cp Va Li Th C1 L1 S1 S2 sz dd (mv + (2 * (2 ^ i))) pb) := hD
        exact hret 217 _ _ _ (C1, L1, S1, S2) dX2_join_217 (fun j hj => ⟨(hC j (by omega)).1.trans (hZ j hj).1, (hC j (by omega)).2.trans (hZ j hj).2⟩) hP hD hS
      · refine lv_aload_n hx hb dX2_join_171 rfl (lv_at hl 2 rfl) ?_
        refine va_get (D := G) (ci := 1) (v := .ref (ad 4)) (C := RX2) (T := TX2) (N := 12) hx hb hts in_X2 hown hK hP 0 rfl rfl 4 (by decide) (hts _ q163) (fun _ h9 => h9) rfl dX2_join_172 ?_
        refine lv_iload hx hb dX2_join_175 (lv_at hl 0 rfl) ?_
        refine lv_aload_n hx hb dX2_join_177 rfl (lv_at hl 2 rfl) ?_
        refine va_get (D := G) (ci := 1) (v := .ref (ad 6)) (C := RX2) (T := TX2) (N := 12) hx hb hts in_X2 hown hK hP 0 rfl rfl 6 (by decide) (hts _ q165) (fun _ h9 => h9) rfl dX2_join_178 ?_
        refine lv_iload hx hb dX2_join_181 (lv_at hl 0 rfl) ?_
        refine rr_iald (f := S1) (k := k) hx hb hK hP 6 5 rfl rfl (by omega) (by decide) dX2_join_183 ?_
        refine rr_iast (f := C1) (k := k) hx hb hK hP hD hS 4 3 rfl rfl (by omega) (by decide) dX2_join_184 (fun H locs hP hD hS => ?_)
        have hP : va_P G clR (WM ad ca cp Va Li Th (va_up C1 k (S1 k)) L1 S1 S2 sz dd mv pb) H := hP
        have hD : va_D A (WM ad ca cp Va Li Th (va_up C1 k (S1 k)) L1 S1 S2 sz dd mv pb) := hD
        refine lv_aload_n hx hb dX2_join_185 rfl (lv_at hl 2 rfl) ?_
        refine va_get (D := G) (ci := 1) (v := .ref (ad 5)) (C := RX2) (T := TX2) (N := 12) hx hb hts in_X2 hown hK hP 0 rfl rfl 5 (by decide) (hts _ q164) (fun _ h9 => h9) rfl dX2_join_186 ?_
        refine lv_iload hx hb dX2_join_189 (lv_at hl 0 rfl) ?_
        refine lv_aload_n hx hb dX2_join_191 rfl (lv_at hl 2 rfl) ?_
        refine va_get (D := G) (ci := 1) (v := .ref (ad 7)) (C := RX2) (T := TX2) (N := 12) hx hb hts in_X2 hown hK hP 0 rfl rfl 7 (by decide) (hts _ q166) (fun _ h9 => h9) rfl dX2_join_192 ?_
        refine lv_iload hx hb dX2_join_195 (lv_at hl 0 rfl) ?_
        refine rr_zald (B := S2) (k := k) hx hb hK hP 7 6 rfl rfl (by omega) (by decide) dX2_join_197 ?_
        refine rr_zast (B := L1) (k := k) hx hb hK hP hD hS 5 4 rfl rfl (by omega) (by decide) dX2_join_198 (fun H locs hP hD hS => ?_)
        have hP : va_P G clR (WM ad ca cp Va Li Th (va_up C1 k (S1 k)) (va_up L1 k (S2 k)) S1 S2 sz dd mv pb) H := hP
        have hD : va_D A (WM ad ca cp Va Li Th (va_up C1 k (S1 k)) (va_up L1 k (S2 k)) S1 S2 sz dd mv pb) := hD
        refine lv_iinc (v := (nI (k + 1))) (lv' := [(5, .int (nI (k + 1))), (2, .int (nI (2 ^ i))), (0, .ref (ad 0)), (1, .int (nI i))]) hx hb dX2_join_199 hl (k := 0) rfl (rr_inc k) (by decide) rfl (fun ls hl => ?_)
        refine lv_goto (tgt := 163) hx hb dX2_join_202 (by decide) ?_
        refine ih (k + 1) _ _ _ _ (by omega) (by omega) hZ (fun j hj => ?_) _ _ hP hD hS _ (lv_sub hl [0, 1, 2, 3] rfl)
        by_cases e : j = k
        · rw [e, up_s, up_s]; exact ⟨rfl, rfl⟩
        · rw [up_n e, up_n e]; exact hC j (by omega)
  have loop : ∀ (n a b : Nat) (S1 : Nat → Int32) (S2 : Nat → Bool), 2 * 2 ^ i - (a + b) < n → fwI (rn Va Li i) (fun k => (Ca k, Cl k)) (2 ^ i) a b S1 S2 → ∀ (H : Heap) (locs : List Loc), va_P G clR (WM ad ca cp Va Li Th Ca Cl S1 S2 sz dd mv pb) H → va_D A (WM ad ca cp Va Li Th Ca Cl S1 S2 sz dd mv pb) → va_S A s.heap H locs → ∀ ls : Array Slot, lv_has ls 7 [(5, .int (nI (a + b))), (4, .int (nI b)), (3, .int (nI a)), (2, .int (nI (2 ^ i))), (0, .ref (ad 0)), (1, .int (nI i))] → W p l e R s m args below meth c H locs 0 0 Q (F0 m 12 ls []) := by
    intro n
    induction n with
    | zero =>
      intro a b S1 S2 h1
      exact absurd h1 (by omega)
    | succ n ih =>
      intro a b S1 S2 h1 hI H locs hP hD hS ls hl
      have ha := hI.1
      have hb2 := hI.2.1
      have own : ∀ (_ : Unit), a < 2 ^ i → (b = 2 ^ i ∨ ((rn Va Li i) a).1 ≤ ((fun k => (Ca k, Cl k)) b).1) → a + b < 2 * 2 ^ i → ∀ (H : Heap) (locs : List Loc), va_P G clR (WM ad ca cp Va Li Th Ca Cl S1 S2 sz dd mv pb) H → va_D A (WM ad ca cp Va Li Th Ca Cl S1 S2 sz dd mv pb) → va_S A s.heap H locs → ∀ ls : Array Slot, lv_has ls 7 [(5, .int (nI (a + b))), (4, .int (nI b)), (3, .int (nI a)), (2, .int (nI (2 ^ i))), (0, .ref (ad 0)), (1, .int (nI i))] → W p l e R s m args below meth c H locs 0 0 Q (F0 m 57 ls [.int (bI true)]) := by
        intro _ g1 gc gk H locs hP hD hS ls hl
        refine lv_istore (lv' := [(6, .int (bI true)), (5, .int (nI (a + b))), (4, .int (nI b)), (3, .int (nI a)), (2, .int (nI (2 ^ i))), (0, .ref (ad 0)), (1, .int (nI i))]) hx hb dX2_join_57 hl (by decide) rfl (fun ls hl => ?_)
        refine lv_aload_n hx hb dX2_join_59 rfl (lv_at hl 5 rfl) ?_
        refine va_get (D := G) (ci := 1) (v := .ref (ad 6)) (C := RX2) (T := TX2) (N := 12) hx hb hts in_X2 hown hK hP 0 rfl rfl 6 (by decide) (hts _ q165) (fun _ h9 => h9) rfl dX2_join_60 ?_
        refine lv_iload hx hb dX2_join_63 (lv_at hl 1 rfl) ?_
        refine lv_iload hx hb dX2_join_65 (lv_at hl 0 rfl) ?_
        refine rr_ifeq_b (tgt := 84) hx hb dX2_join_67 (by decide) (fun h9 => absurd h9 (by decide)) (fun _ => ?_)
        refine lv_aload_n hx hb dX2_join_70 rfl (lv_at hl 5 rfl) ?_
        refine va_get (D := G) (ci := 1) (v := .ref (ad 1)) (C := RX2) (T := TX2) (N := 12) hx hb hts in_X2 hown hK hP 0 rfl rfl 1 (by decide) (hts _ q160) (fun _ h9 => h9) rfl dX2_join_71 ?_
        refine lv_iload_n hx hb dX2_join_74 rfl (lv_at hl 6 rfl) ?_
        refine so_M (i := i) hx hb hml hown hts (by omega) (by rw [hR]; exact ⟨by decide, by decide⟩) hl.1 (Nat.le_of_ble_eq_true rfl) dX2_join_75 ?_
        refine lv_iload_n hx hb dX2_join_78 rfl (lv_at hl 3 rfl) ?_
        refine rr_nadd hx hb dX2_join_79 ?_
        refine rr_iald (f := Va) (k := (2 ^ i - 1) + a) hx hb hK hP 1 0 rfl rfl (by omega) (by decide) dX2_join_80 ?_
        refine lv_goto (tgt := 91) hx hb dX2_join_81 (by decide) ?_
        refine rr_iast (f := S1) (k := a + b) hx hb hK hP hD hS 6 5 rfl rfl (by omega) (by decide) dX2_join_91 (fun H locs hP hD hS => ?_)
        have hP : va_P G clR (WM ad ca cp Va Li Th Ca Cl (va_up S1 (a + b) (Va ((2 ^ i - 1) + a))) S2 sz dd mv pb) H := hP
        have hD : va_D A (WM ad ca cp Va Li Th Ca Cl (va_up S1 (a + b) (Va ((2 ^ i - 1) + a))) S2 sz dd mv pb) := hD
        refine lv_aload_n hx hb dX2_join_92 rfl (lv_at hl 5 rfl) ?_
        refine va_get (D := G) (ci := 1) (v := .ref (ad 7)) (C := RX2) (T := TX2) (N := 12) hx hb hts in_X2 hown hK hP 0 rfl rfl 7 (by decide) (hts _ q166) (fun _ h9 => h9) rfl dX2_join_93 ?_
        refine lv_iload hx hb dX2_join_96 (lv_at hl 1 rfl) ?_
        refine lv_iload hx hb dX2_join_98 (lv_at hl 0 rfl) ?_
        refine rr_ifeq_b (tgt := 117) hx hb dX2_join_100 (by decide) (fun h9 => absurd h9 (by decide)) (fun _ => ?_)
        refine lv_aload_n hx hb dX2_join_103 rfl (lv_at hl 5 rfl) ?_
        refine va_get (D := G) (ci := 1) (v := .ref (ad 2)) (C := RX2) (T := TX2) (N := 12) hx hb hts in_X2 hown hK hP 0 rfl rfl 2 (by decide) (hts _ q161) (fun _ h9 => h9) rfl dX2_join_104 ?_
        refine lv_iload_n hx hb dX2_join_107 rfl (lv_at hl 6 rfl) ?_
        refine so_M (i := i) hx hb hml hown hts (by omega) (by rw [hR]; exact ⟨by decide, by decide⟩) hl.1 (Nat.le_of_ble_eq_true rfl) dX2_join_108 ?_
        refine lv_iload_n hx hb dX2_join_111 rfl (lv_at hl 3 rfl) ?_
        refine rr_nadd hx hb dX2_join_112 ?_
        refine rr_zald (B := Li) (k := (2 ^ i - 1) + a) hx hb hK hP 2 1 rfl rfl (by omega) (by decide) dX2_join_113 ?_
        refine lv_goto (tgt := 124) hx hb dX2_join_114 (by decide) ?_
        refine rr_zast (B := S2) (k := a + b) hx hb hK hP hD hS 7 6 rfl rfl (by omega) (by decide) dX2_join_124 (fun H locs hP hD hS => ?_)
        have hP : va_P G clR (WM ad ca cp Va Li Th Ca Cl (va_up S1 (a + b) (Va ((2 ^ i - 1) + a))) (va_up S2 (a + b) (Li ((2 ^ i - 1) + a))) sz dd mv pb) H := hP
        have hD : va_D A (WM ad ca cp Va Li Th Ca Cl (va_up S1 (a + b) (Va ((2 ^ i - 1) + a))) (va_up S2 (a + b) (Li ((2 ^ i - 1) + a))) sz dd mv pb) := hD
        refine lv_iload hx hb dX2_join_125 (lv_at hl 0 rfl) ?_
        refine rr_ifeq_b (tgt := 136) hx hb dX2_join_127 (by decide) (fun h9 => absurd h9 (by decide)) (fun _ => ?_)
        refine lv_iload_n hx hb dX2_join_130 rfl (lv_at hl 3 rfl) ?_
        refine lv_iconst (v := (nI 1)) hx hb dX2_join_131 (by decide +kernel) ?_
        refine rr_nadd hx hb dX2_join_132 ?_
        refine lv_goto (tgt := 137) hx hb dX2_join_133 (by decide) ?_
        refine lv_istore_n (lv' := [(3, .int (nI (a + 1))), (6, .int (bI true)), (5, .int (nI (a + b))), (4, .int (nI b)), (2, .int (nI (2 ^ i))), (0, .ref (ad 0)), (1, .int (nI i))]) hx hb dX2_join_137 rfl hl (by decide) rfl (fun ls hl => ?_)
        refine lv_iload hx hb dX2_join_138 (lv_at hl 1 rfl) ?_
        refine rr_ifeq_b (tgt := 148) hx hb dX2_join_140 (by decide) (fun h9 => absurd h9 (by decide)) (fun _ => ?_)
        refine lv_iload hx hb dX2_join_143 (lv_at hl 3 rfl) ?_
        refine lv_goto (tgt := 152) hx hb dX2_join_145 (by decide) ?_
        refine lv_istore (lv' := [(4, .int (nI b)), (3, .int (nI (a + 1))), (6, .int (bI true)), (5, .int (nI (a + b))), (2, .int (nI (2 ^ i))), (0, .ref (ad 0)), (1, .int (nI i))]) hx hb dX2_join_152 hl (by decide) rfl (fun ls hl => ?_)
        refine lv_iinc (v := (nI (a + b + 1))) (lv' := [(5, .int (nI (a + b + 1))), (4, .int (nI b)), (3, .int (nI (a + 1))), (6, .int (bI true)), (2, .int (nI (2 ^ i))), (0, .ref (ad 0)), (1, .int (nI i))]) hx hb dX2_join_154 hl (k := 3) rfl (rr_inc (a + b)) (by decide) rfl (fun ls hl => ?_)
        refine lv_goto (tgt := 12) hx hb dX2_join_157 (by decide) ?_
        rw [show a + b + 1 = a + 1 + b by omega] at hl
        exact ih (a + 1) b _ _ (by omega) (fwI_own hs1 hI g1 gc rfl rfl) _ _ hP hD hS _ (lv_sub hl [0, 1, 2, 4, 5, 6] rfl)
      have oth : ∀ (_ : Unit), b < 2 ^ i → (a = 2 ^ i ∨ ¬ ((rn Va Li i) a).1 ≤ ((fun k => (Ca k, Cl k)) b).1) → a + b < 2 * 2 ^ i → ∀ (H : Heap) (locs : List Loc), va_P G clR (WM ad ca cp Va Li Th Ca Cl S1 S2 sz dd mv pb) H → va_D A (WM ad ca cp Va Li Th Ca Cl S1 S2 sz dd mv pb) → va_S A s.heap H locs → ∀ ls : Array Slot, lv_has ls 7 [(5, .int (nI (a + b))), (4, .int (nI b)), (3, .int (nI a)), (2, .int (nI (2 ^ i))), (0, .ref (ad 0)), (1, .int (nI i))] → W p l e R s m args below meth c H locs 0 0 Q (F0 m 57 ls [.int (bI false)]) := by
        intro _ g1 gc gk H locs hP hD hS ls hl
        refine lv_istore (lv' := [(6, .int (bI false)), (5, .int (nI (a + b))), (4, .int (nI b)), (3, .int (nI a)), (2, .int (nI (2 ^ i))), (0, .ref (ad 0)), (1, .int (nI i))]) hx hb dX2_join_57 hl (by decide) rfl (fun ls hl => ?_)
        refine lv_aload_n hx hb dX2_join_59 rfl (lv_at hl 5 rfl) ?_
        refine va_get (D := G) (ci := 1) (v := .ref (ad 6)) (C := RX2) (T := TX2) (N := 12) hx hb hts in_X2 hown hK hP 0 rfl rfl 6 (by decide) (hts _ q165) (fun _ h9 => h9) rfl dX2_join_60 ?_
        refine lv_iload hx hb dX2_join_63 (lv_at hl 1 rfl) ?_
        refine lv_iload hx hb dX2_join_65 (lv_at hl 0 rfl) ?_
        refine rr_ifeq_b (tgt := 84) hx hb dX2_join_67 (by decide) (fun _ => ?_) (fun h9 => absurd h9 (by decide))
        refine lv_aload_n hx hb dX2_join_84 rfl (lv_at hl 5 rfl) ?_
        refine va_get (D := G) (ci := 1) (v := .ref (ad 4)) (C := RX2) (T := TX2) (N := 12) hx hb hts in_X2 hown hK hP 0 rfl rfl 4 (by decide) (hts _ q163) (fun _ h9 => h9) rfl dX2_join_85 ?_
        refine lv_iload hx hb dX2_join_88 (lv_at hl 2 rfl) ?_
        refine rr_iald (f := Ca) (k := b) hx hb hK hP 4 3 rfl rfl (by omega) (by decide) dX2_join_90 ?_
        refine rr_iast (f := S1) (k := a + b) hx hb hK hP hD hS 6 5 rfl rfl (by omega) (by decide) dX2_join_91 (fun H locs hP hD hS => ?_)
        have hP : va_P G clR (WM ad ca cp Va Li Th Ca Cl (va_up S1 (a + b) (Ca b)) S2 sz dd mv pb) H := hP
        have hD : va_D A (WM ad ca cp Va Li Th Ca Cl (va_up S1 (a + b) (Ca b)) S2 sz dd mv pb) := hD
        refine lv_aload_n hx hb dX2_join_92 rfl (lv_at hl 5 rfl) ?_
        refine va_get (D := G) (ci := 1) (v := .ref (ad 7)) (C := RX2) (T := TX2) (N := 12) hx hb hts in_X2 hown hK hP 0 rfl rfl 7 (by decide) (hts _ q166) (fun _ h9 => h9) rfl dX2_join_93 ?_
        refine lv_iload hx hb dX2_join_96 (lv_at hl 1 rfl) ?_
        refine lv_iload hx hb dX2_join_98 (lv_at hl 0 rfl) ?_
        refine rr_ifeq_b (tgt := 117) hx hb dX2_join_100 (by decide) (fun _ => ?_) (fun h9 => absurd h9 (by decide))
        refine lv_aload_n hx hb dX2_join_117 rfl (lv_at hl 5 rfl) ?_
        refine va_get (D := G) (ci := 1) (v := .ref (ad 5)) (C := RX2) (T := TX2) (N := 12) hx hb hts in_X2 hown hK hP 0 rfl rfl 5 (by decide) (hts _ q164) (fun _ h9 => h9) rfl dX2_join_118 ?_
        refine lv_iload hx hb dX2_join_121 (lv_at hl 2 rfl) ?_
        refine rr_zald (B := Cl) (k := b) hx hb hK hP 5 4 rfl rfl (by omega) (by decide) dX2_join_123 ?_
        refine rr_zast (B := S2) (k := a + b) hx hb hK hP hD hS 7 6 rfl rfl (by omega) (by decide) dX2_join_124 (fun H locs hP hD hS => ?_)
        have hP : va_P G clR (WM ad ca cp Va Li Th Ca Cl (va_up S1 (a + b) (Ca b)) (va_up S2 (a + b) (Cl b)) sz dd mv pb) H := hP
        have hD : va_D A (WM ad ca cp Va Li Th Ca Cl (va_up S1 (a + b) (Ca b)) (va_up S2 (a + b) (Cl b)) sz dd mv pb) := hD
        refine lv_iload hx hb dX2_join_125 (lv_at hl 0 rfl) ?_
        refine rr_ifeq_b (tgt := 136) hx hb dX2_join_127 (by decide) (fun _ => ?_) (fun h9 => absurd h9 (by decide))
        refine lv_iload_n hx hb dX2_join_136 rfl (lv_at hl 3 rfl) ?_
        refine lv_istore_n (lv' := [(3, .int (nI a)), (6, .int (bI false)), (5, .int (nI (a + b))), (4, .int (nI b)), (2, .int (nI (2 ^ i))), (0, .ref (ad 0)), (1, .int (nI i))]) hx hb dX2_join_137 rfl hl (by decide) rfl (fun ls hl => ?_)
        refine lv_iload hx hb dX2_join_138 (lv_at hl 1 rfl) ?_
        refine rr_ifeq_b (tgt := 148) hx hb dX2_join_140 (by decide) (fun _ => ?_) (fun h9 => absurd h9 (by decide))
        refine lv_iload hx hb dX2_join_148 (lv_at hl 3 rfl) ?_
        refine lv_iconst (v := (nI 1)) hx hb dX2_join_150 (by decide +kernel) ?_
        refine rr_nadd hx hb dX2_join_151 ?_
        refine lv_istore (lv' := [(4, .int (nI (b + 1))), (3, .int (nI a)), (6, .int (bI false)), (5, .int (nI (a + b))), (2, .int (nI (2 ^ i))), (0, .ref (ad 0)), (1, .int (nI i))]) hx hb dX2_join_152 hl (by decide) rfl (fun ls hl => ?_)
        refine lv_iinc (v := (nI (a + b + 1))) (lv' := [(5, .int (nI (a + b + 1))), (4, .int (nI (b + 1))), (3, .int (nI a)), (6, .int (bI false)), (2, .int (nI (2 ^ i))), (0, .ref (ad 0)), (1, .int (nI i))]) hx hb dX2_join_154 hl (k := 3) rfl (rr_inc (a + b)) (by decide) rfl (fun ls hl => ?_)
        refine lv_goto (tgt := 12) hx hb dX2_join_157 (by decide) ?_
        exact ih a (b + 1) _ _ (by omega) (fwI_oth hs2 hI g1 gc rfl rfl) _ _ hP hD hS _ (lv_sub hl [0, 1, 2, 4, 5, 6] rfl)
      refine lv_iload hx hb dX2_join_12 (lv_at hl 0 rfl) ?_
      refine lv_iconst (v := (nI 2)) hx hb dX2_join_14 (by decide +kernel) ?_
      refine lv_iload_n hx hb dX2_join_15 rfl (lv_at hl 3 rfl) ?_
      refine rr_nmul hx hb dX2_join_16 ?_
      refine rr_icmp_ge (tgt := 160) hx hb dX2_join_17 (by decide) (by omega) (by omega) (fun c1 => ?_) (fun c1 => ?_)
      · have ea : a = 2 ^ i := by omega
        have eb : b = 2 ^ i := by omega
        refine lv_iconst (v := (nI 0)) hx hb dX2_join_160 (by decide +kernel) ?_
        refine lv_istore (lv' := [(5, .int (nI 0)), (4, .int (nI b)), (3, .int (nI a)), (2, .int (nI (2 ^ i))), (0, .ref (ad 0)), (1, .int (nI i))]) hx hb dX2_join_161 hl (by decide) rfl (fun ls hl => ?_)
        rw [ea, eb] at hI
        exact copy (2 * 2 ^ i + 1) 0 _ _ _ _ (by omega) (Nat.zero_le _) (fun j hj => hI.2.2.1 j hj) (fun j hj => absurd hj (Nat.not_lt_zero j)) _ _ hP hD hS _ (lv_sub hl [0, 3, 4, 5] rfl)
      · refine lv_iload hx hb dX2_join_20 (lv_at hl 1 rfl) ?_
        refine lv_iload_n hx hb dX2_join_22 rfl (lv_at hl 3 rfl) ?_
        refine rr_icmp_eq (tgt := 52) hx hb dX2_join_23 (by decide) (by omega) (by omega) (fun c2 => ?_) (fun c2 => ?_)
        · refine lv_iconst (v := (bI true)) hx hb dX2_join_52 (by decide +kernel) ?_
          refine lv_goto (tgt := 57) hx hb dX2_join_53 (by decide) ?_
          exact own () (by omega) (Or.inl c2) c1 _ _ hP hD hS _ (lv_sub hl [0, 1, 2, 3, 4, 5] rfl)
        · refine lv_iload_n hx hb dX2_join_26 rfl (lv_at hl 2 rfl) ?_
          refine lv_iload_n hx hb dX2_join_27 rfl (lv_at hl 3 rfl) ?_
          refine rr_icmp_ge (tgt := 56) hx hb dX2_join_28 (by decide) (by omega) (by omega) (fun c3 => ?_) (fun c3 => ?_)
          · refine lv_iconst (v := (bI false)) hx hb dX2_join_56 (by decide +kernel) ?_
            exact oth () (by omega) (Or.inl (by omega)) c1 _ _ hP hD hS _ (lv_sub hl [0, 1, 2, 3, 4, 5] rfl)
          · refine lv_aload_n hx hb dX2_join_31 rfl (lv_at hl 4 rfl) ?_
            refine va_get (D := G) (ci := 1) (v := .ref (ad 1)) (C := RX2) (T := TX2) (N := 12) hx hb hts in_X2 hown hK hP 0 rfl rfl 1 (by decide) (hts _ q160) (fun _ h9 => h9) rfl dX2_join_32 ?_
            refine lv_iload_n hx hb dX2_join_35 rfl (lv_at hl 5 rfl) ?_
            refine so_M (i := i) hx hb hml hown hts (by omega) (by rw [hR]; exact ⟨by decide, by decide⟩) hl.1 (Nat.le_of_ble_eq_true rfl) dX2_join_36 ?_
            refine lv_iload_n hx hb dX2_join_39 rfl (lv_at hl 2 rfl) ?_
            refine rr_nadd hx hb dX2_join_40 ?_
            refine rr_iald (f := Va) (k := (2 ^ i - 1) + a) hx hb hK hP 1 0 rfl rfl (by omega) (by decide) dX2_join_41 ?_
            refine lv_aload_n hx hb dX2_join_42 rfl (lv_at hl 4 rfl) ?_
            refine va_get (D := G) (ci := 1) (v := .ref (ad 4)) (C := RX2) (T := TX2) (N := 12) hx hb hts in_X2 hown hK hP 0 rfl rfl 4 (by decide) (hts _ q163) (fun _ h9 => h9) rfl dX2_join_43 ?_
            refine lv_iload hx hb dX2_join_46 (lv_at hl 1 rfl) ?_
            refine rr_iald (f := Ca) (k := b) hx hb hK hP 4 3 rfl rfl (by omega) (by decide) dX2_join_48 ?_
            refine lv_icmp_gt (tgt := 56) hx hb dX2_join_49 (by decide) (fun c4 => ?_) (fun c4 => ?_)
            · refine lv_iconst (v := (bI false)) hx hb dX2_join_56 (by decide +kernel) ?_
              exact oth () (by omega) (Or.inr (i_nle.mpr c4)) c1 _ _ hP hD hS _ (lv_sub hl [0, 1, 2, 3, 4, 5] rfl)
            · refine lv_iconst (v := (bI true)) hx hb dX2_join_52 (by decide +kernel) ?_
              refine lv_goto (tgt := 57) hx hb dX2_join_53 (by decide) ?_
              exact own () c3 (Or.inr (i_nlt.mp c4)) c1 _ _ hP hD hS _ (lv_sub hl [0, 1, 2, 3, 4, 5] rfl)
  refine lv_iconst (v := (nI 1)) hx hb dX2_join_0 (by decide +kernel) ?_
  refine lv_iload_n hx hb dX2_join_1 rfl (lv_at hl 1 rfl) ?_
  refine rr_shl1 hx hb dX2_join_2 (by omega) ?_
  refine lv_istore_n (lv' := [(2, .int (nI (2 ^ i))), (0, .ref (ad 0)), (1, .int (nI i))]) hx hb dX2_join_3 rfl hl (by decide) rfl (fun ls hl => ?_)
  refine lv_iconst (v := (nI 0)) hx hb dX2_join_4 (by decide +kernel) ?_
  refine lv_istore_n (lv' := [(3, .int (nI 0)), (2, .int (nI (2 ^ i))), (0, .ref (ad 0)), (1, .int (nI i))]) hx hb dX2_join_5 rfl hl (by decide) rfl (fun ls hl => ?_)
  refine lv_iconst (v := (nI 0)) hx hb dX2_join_6 (by decide +kernel) ?_
  refine lv_istore (lv' := [(4, .int (nI 0)), (3, .int (nI 0)), (2, .int (nI (2 ^ i))), (0, .ref (ad 0)), (1, .int (nI i))]) hx hb dX2_join_7 hl (by decide) rfl (fun ls hl => ?_)
  refine lv_iconst (v := (nI 0)) hx hb dX2_join_9 (by decide +kernel) ?_
  refine lv_istore (lv' := [(5, .int (nI 0)), (4, .int (nI 0)), (3, .int (nI 0)), (2, .int (nI (2 ^ i))), (0, .ref (ad 0)), (1, .int (nI i))]) hx hb dX2_join_10 hl (by decide) rfl (fun ls hl => ?_)
  exact loop (2 * 2 ^ i + 1) 0 0 Sp Sl (by omega) fwI_start _ _ hP hD hS _ (lv_sub hl [0, 1, 2, 3, 4, 5] rfl)
set_option maxHeartbeats 4000000 in
set_option maxRecDepth 100000 in
theorem metX2_insert_full (l : Launch) (G : va_G) (ad : Nat → Nat) (ca : Nat → ClassId) (cp : Nat) (Va : Nat → Int32) (Li Th : Nat → Bool) (Ca : Nat → Int32) (Cl : Nat → Bool) (Sp : Nat → Int32) (Sl : Nat → Bool) (sz dd mv pb : Nat) (v : Int32) (hf : sz = cp) : CI (S := Unit) l yX2_insert (ws_ yX2_insert cX2_insert 4 (some .int)) rq2 G clR (tyM ca) (WM ad ca cp Va Li Th Ca Cl Sp Sl sz dd mv pb) [.ref (ad 0), .int v] (fun r _ => r = -2) (fun _ => WM ad ca cp Va Li Th Ca Cl Sp Sl sz dd mv pb) := by
  refine ci_start (by decide) (Nat.le_of_ble_eq_true rfl) ?_
  intro p e s m args below meth c R Q A ls hx hb hml hown hts hR hA hK hP hD hret hl
  have hown : s.vm.findClass RX2 = some m.cls := hown
  have hS : va_S A s.heap s.heap [] := va_S.rf
  have hl : lv_has ls 4 [(0, .ref (ad 0)), (1, .int v)] := hl
  refine lv_aload_n hx hb dX2_insert_0 rfl (lv_at hl 0 rfl) ?_
  refine va_get (D := G) (ci := 1) (v := .int (nI sz)) (C := RX2) (T := TX2) (N := 12) hx hb hts in_X2 hown hK hP 0 rfl rfl 8 (by decide) (hts _ q167) (fun _ h9 => h9) rfl dX2_insert_1 ?_
  refine lv_aload_n hx hb dX2_insert_4 rfl (lv_at hl 0 rfl) ?_
  refine va_get (D := G) (ci := 1) (v := .int (nI cp)) (C := RX2) (T := TX2) (N := 12) hx hb hts in_X2 hown hK hP 0 rfl rfl 0 (by decide) (hts _ q159) (fun _ h9 => h9) rfl dX2_insert_5 ?_
  refine lv_icmp_ne (tgt := 14) hx hb dX2_insert_8 (by decide) (fun c1 => ?_) (fun c1 => ?_)
  · exact absurd (by rw [hf]) c1
  · refine lv_bipush (v := (-2)) hx hb dX2_insert_11 (by decide +kernel) ?_
    exact hret 13 _ _ _ _ () dX2_insert_13 rfl hP hD hS
set_option maxHeartbeats 4000000 in
set_option maxRecDepth 100000 in
theorem metX2_insert (l : Launch) (G : va_G) (ad : Nat → Nat) (ca : Nat → ClassId) (cp : Nat) (Va : Nat → Int32) (Li Th : Nat → Bool) (Ca : Nat → Int32) (Cl : Nat → Bool) (Sp : Nat → Int32) (Sl : Nat → Bool) (sz dd mv pb : Nat) (v : Int32) (j0 : Nat) (hf : sz ≠ cp) (hsz : sz < 2147483648) (hcp : cp < 2147483648) (hj : j0 < 10) (hT0 : Th j0 = false) (hT1 : ∀ i, i < j0 → Th i = true) (hsr : ∀ i, i < j0 → srt (fun k => Va (2 ^ i - 1 + k)) (2 ^ i)) : CI (S := (Nat → Bool) × (Nat → Bool) × (Nat → Int32) × (Nat → Bool) × (Nat → Int32) × (Nat → Bool)) l yX2_insert (ws_ yX2_insert cX2_insert 4 (some .int)) rq2 G clR (tyM ca) (WM ad ca cp Va Li Th Ca Cl Sp Sl sz dd mv pb) [.ref (ad 0), .int v] (fun r u => r = nI 0 ∧ (∀ i, u.2.1 i = if i < j0 then false else if i = j0 then true else Th i) ∧ ∀ i, i < 10 → ∀ k, k < 2 ^ i → u.1 (2 ^ i - 1 + k) = if i < j0 then false else if i = j0 then (cas Va Li v j0 k).2 else Li (2 ^ i - 1 + k)) (fun u => WM ad ca cp (fb_put Va (fun k => (cas Va Li v j0 k).1) (2 ^ j0 - 1) (2 ^ j0)) (u.1) (u.2.1) (u.2.2.1) (u.2.2.2.1) (u.2.2.2.2.1) (u.2.2.2.2.2) (sz + 1) dd (mv + (2 ^ (j0 + 1) - 1)) pb) := by
  refine ci_start (by decide) (Nat.le_of_ble_eq_true rfl) ?_
  intro p e s m args below meth c R Q A ls hx hb hml hown hts hR hA hK hP hD hret hl
  have hown : s.vm.findClass RX2 = some m.cls := hown
  have hS : va_S A s.heap s.heap [] := va_S.rf
  have hl : lv_has ls 4 [(0, .ref (ad 0)), (1, .int v)] := hl
  have hp := rr_pow hj
  have copy : ∀ (n k : Nat) (V1 : Nat → Int32) (L0 L1 T1 : Nat → Bool) (C : Nat → Int32) (L : Nat → Bool) (S1 : Nat → Int32) (S2 : Nat → Bool), 2 ^ j0 - k < n → k ≤ 2 ^ j0 → V1 = fb_put Va C (2 ^ j0 - 1) k → L1 = fb_put L0 L (2 ^ j0 - 1) k → (∀ i, i < 10 → ∀ k, k < 2 ^ i → L0 (2 ^ i - 1 + k) = if i < j0 then false else Li (2 ^ i - 1 + k)) → (∀ i, T1 i = if i < j0 then false else Th i) → (∀ k, k < 2 ^ j0 → C k = (cas Va Li v j0 k).1 ∧ L k = (cas Va Li v j0 k).2) → ∀ (H : Heap) (locs : List Loc), va_P G clR (WM ad ca cp V1 L1 T1 C L S1 S2 (sz + 1) dd (mv + (2 ^ (j0 + 1) - 1)) pb) H → va_D A (WM ad ca cp V1 L1 T1 C L S1 S2 (sz + 1) dd (mv + (2 ^ (j0 + 1) - 1)) pb) → va_S A s.heap H locs → ∀ ls : Array Slot, lv_has ls 4 [(3, .int (nI k)), (2, .int (nI j0)), (0, .ref (ad 0)), (1, .int v)] → W p l e R s m args below meth c H locs 0 0 Q (F0 m 77 ls []) := by
    intro n
    induction n with
    | zero =>
      intro k V1 L0 L1 T1 C L S1 S2 h1
      exact absurd h1 (by omega)
    | succ n ih =>
      intro k V1 L0 L1 T1 C L S1 S2 h1 h2 eV eL hL hT hC H locs hP hD hS ls hl
      refine lv_iload_n hx hb dX2_insert_77 rfl (lv_at hl 0 rfl) ?_
      refine lv_iconst (v := (nI 1)) hx hb dX2_insert_78 (by decide +kernel) ?_
      refine lv_iload_n hx hb dX2_insert_79 rfl (lv_at hl 1 rfl) ?_
      refine rr_shl1 hx hb dX2_insert_80 (by omega) ?_
      refine rr_icmp_ge (tgt := 124) hx hb dX2_insert_81 (by decide) (by omega) (by omega) (fun c1 => ?_) (fun c1 => ?_)
      · have ek : k = 2 ^ j0 := by omega
        rw [ek] at eV eL
        have eV2 : V1 = fb_put Va (fun k => (cas Va Li v j0 k).1) (2 ^ j0 - 1) (2 ^ j0) := by rw [eV]; exact fb_put_cong (fun _ _ => rfl) (fun k hk => (hC k hk).1)
        refine lv_aload_n hx hb dX2_insert_124 rfl (lv_at hl 2 rfl) ?_
        refine va_get (D := G) (ci := 1) (v := .ref (ad 3)) (C := RX2) (T := TX2) (N := 12) hx hb hts in_X2 hown hK hP 0 rfl rfl 3 (by decide) (hts _ q162) (fun _ h9 => h9) rfl dX2_insert_125 ?_
        refine lv_iload_n hx hb dX2_insert_128 rfl (lv_at hl 1 rfl) ?_
        refine lv_iconst (v := (bI true)) hx hb dX2_insert_129 (by decide +kernel) ?_
        refine rr_zast (B := T1) (k := j0) hx hb hK hP hD hS 3 2 rfl rfl (by omega) (by decide) dX2_insert_130 (fun H locs hP hD hS => ?_)
        have hP : va_P G clR (WM ad ca cp V1 L1 (va_up T1 j0 true) C L S1 S2 (sz + 1) dd (mv + (2 ^ (j0 + 1) - 1)) pb) H := hP
        have hD : va_D A (WM ad ca cp V1 L1 (va_up T1 j0 true) C L S1 S2 (sz + 1) dd (mv + (2 ^ (j0 + 1) - 1)) pb) := hD
        refine lv_iconst (v := (nI 0)) hx hb dX2_insert_131 (by decide +kernel) ?_
        rw [eV2] at hP hD
        refine hret 132 _ _ _ _ (L1, va_up T1 j0 true, C, L, S1, S2) dX2_insert_132 ⟨rfl, fun i => ?_, fun i hi k hk => ?_⟩ hP hD hS
        · show va_up T1 j0 true i = _
          by_cases e : i = j0
          · rw [e, up_s, if_neg (Nat.lt_irrefl _), if_pos rfl]
          · rw [up_n e, hT i, if_neg e]
        · show L1 (2 ^ i - 1 + k) = _
          rw [eL]
          by_cases e : i = j0
          · subst e
            rw [put_run hk, if_neg (Nat.lt_irrefl _), if_pos rfl]
            exact (hC k hk).2
          · rw [put_oth hk e, hL i hi k hk, if_neg e]
      · refine lv_aload_n hx hb dX2_insert_84 rfl (lv_at hl 2 rfl) ?_
        refine va_get (D := G) (ci := 1) (v := .ref (ad 1)) (C := RX2) (T := TX2) (N := 12) hx hb hts in_X2 hown hK hP 0 rfl rfl 1 (by decide) (hts _ q160) (fun _ h9 => h9) rfl dX2_insert_85 ?_
        refine lv_iload_n hx hb dX2_insert_88 rfl (lv_at hl 1 rfl) ?_
        refine so_M (i := j0) hx hb hml hown hts (by omega) (by rw [hR]; exact ⟨by decide, by decide⟩) hl.1 (Nat.le_of_ble_eq_true rfl) dX2_insert_89 ?_
        refine lv_iload_n hx hb dX2_insert_92 rfl (lv_at hl 0 rfl) ?_
        refine rr_nadd hx hb dX2_insert_93 ?_
        refine lv_aload_n hx hb dX2_insert_94 rfl (lv_at hl 2 rfl) ?_
        refine va_get (D := G) (ci := 1) (v := .ref (ad 4)) (C := RX2) (T := TX2) (N := 12) hx hb hts in_X2 hown hK hP 0 rfl rfl 4 (by decide) (hts _ q163) (fun _ h9 => h9) rfl dX2_insert_95 ?_
        refine lv_iload_n hx hb dX2_insert_98 rfl (lv_at hl 0 rfl) ?_
        refine rr_iald (f := C) (k := k) hx hb hK hP 4 3 rfl rfl (by omega) (by decide) dX2_insert_99 ?_
        refine rr_iast (f := V1) (k := (2 ^ j0 - 1) + k) hx hb hK hP hD hS 1 0 rfl rfl (by omega) (by decide) dX2_insert_100 (fun H locs hP hD hS => ?_)
        have hP : va_P G clR (WM ad ca cp (va_up V1 ((2 ^ j0 - 1) + k) (C k)) L1 T1 C L S1 S2 (sz + 1) dd (mv + (2 ^ (j0 + 1) - 1)) pb) H := hP
        have hD : va_D A (WM ad ca cp (va_up V1 ((2 ^ j0 - 1) + k) (C k)) L1 T1 C L S1 S2 (sz + 1) dd (mv + (2 ^ (j0 + 1) - 1)) pb) := hD
        refine lv_aload_n hx hb dX2_insert_101 rfl (lv_at hl 2 rfl) ?_
        refine va_get (D := G) (ci := 1) (v := .ref (ad 2)) (C := RX2) (T := TX2) (N := 12) hx hb hts in_X2 hown hK hP 0 rfl rfl 2 (by decide) (hts _ q161) (fun _ h9 => h9) rfl dX2_insert_102 ?_
        refine lv_iload_n hx hb dX2_insert_105 rfl (lv_at hl 1 rfl) ?_
        refine so_M (i := j0) hx hb hml hown hts (by omega) (by rw [hR]; exact ⟨by decide, by decide⟩) hl.1 (Nat.le_of_ble_eq_true rfl) dX2_insert_106 ?_
        refine lv_iload_n hx hb dX2_insert_109 rfl (lv_at hl 0 rfl) ?_
        refine rr_nadd hx hb dX2_insert_110 ?_
        refine lv_aload_n hx hb dX2_insert_111 rfl (lv_at hl 2 rfl) ?_
        refine va_get (D := G) (ci := 1) (v := .ref (ad 5)) (C := RX2) (T := TX2) (N := 12) hx hb hts in_X2 hown hK hP 0 rfl rfl 5 (by decide) (hts _ q164) (fun _ h9 => h9) rfl dX2_insert_112 ?_
        refine lv_iload_n hx hb dX2_insert_115 rfl (lv_at hl 0 rfl) ?_
        refine rr_zald (B := L) (k := k) hx hb hK hP 5 4 rfl rfl (by omega) (by decide) dX2_insert_116 ?_
        refine rr_zast (B := L1) (k := (2 ^ j0 - 1) + k) hx hb hK hP hD hS 2 1 rfl rfl (by omega) (by decide) dX2_insert_117 (fun H locs hP hD hS => ?_)
        have hP : va_P G clR (WM ad ca cp (va_up V1 ((2 ^ j0 - 1) + k) (C k)) (va_up L1 ((2 ^ j0 - 1) + k) (L k)) T1 C L S1 S2 (sz + 1) dd (mv + (2 ^ (j0 + 1) - 1)) pb) H := hP
        have hD : va_D A (WM ad ca cp (va_up V1 ((2 ^ j0 - 1) + k) (C k)) (va_up L1 ((2 ^ j0 - 1) + k) (L k)) T1 C L S1 S2 (sz + 1) dd (mv + (2 ^ (j0 + 1) - 1)) pb) := hD
        refine lv_iinc (v := (nI (k + 1))) (lv' := [(3, .int (nI (k + 1))), (2, .int (nI j0)), (0, .ref (ad 0)), (1, .int v)]) hx hb dX2_insert_118 hl (k := 0) rfl (rr_inc k) (by decide) rfl (fun ls hl => ?_)
        refine lv_goto (tgt := 77) hx hb dX2_insert_121 (by decide) ?_
        exact ih (k + 1) _ L0 _ _ _ _ _ _ (by omega) (by omega) (by rw [eV]; exact put_succ Va C (2 ^ j0 - 1) k) (by rw [eL]; exact put_succ L0 L (2 ^ j0 - 1) k) hL hT hC _ _ hP hD hS _ (lv_sub hl [0, 1, 2, 3] rfl)
  have loop : ∀ (n j : Nat) (L1 T1 : Nat → Bool) (C : Nat → Int32) (L : Nat → Bool) (S1 : Nat → Int32) (S2 : Nat → Bool) (q : Nat), j0 - j < n → j ≤ j0 → (∀ i, i < 10 → ∀ k, k < 2 ^ i → L1 (2 ^ i - 1 + k) = if i < j then false else Li (2 ^ i - 1 + k)) → (∀ i, T1 i = if i < j then false else Th i) → (∀ k, k < 2 ^ j → C k = (cas Va Li v j k).1 ∧ L k = (cas Va Li v j k).2) → q = mv + (2 ^ (j + 1) - 1) → ∀ (H : Heap) (locs : List Loc), va_P G clR (WM ad ca cp Va L1 T1 C L S1 S2 (sz + 1) dd q pb) H → va_D A (WM ad ca cp Va L1 T1 C L S1 S2 (sz + 1) dd q pb) → va_S A s.heap H locs → ∀ ls : Array Slot, lv_has ls 4 [(2, .int (nI j)), (0, .ref (ad 0)), (1, .int v)] → W p l e R s m args below meth c H locs 0 0 Q (F0 m 50 ls []) := by
    intro n
    induction n with
    | zero =>
      intro j L1 T1 C L S1 S2 q h1
      exact absurd h1 (by omega)
    | succ n ih =>
      intro j L1 T1 C L S1 S2 q h1 h2 hL hT hC hq H locs hP hD hS ls hl
      have hpj := rr_pow (i := j) (by omega)
      have eT : T1 j = Th j := by rw [hT j, if_neg (Nat.lt_irrefl j)]
      refine lv_aload_n hx hb dX2_insert_50 rfl (lv_at hl 1 rfl) ?_
      refine va_get (D := G) (ci := 1) (v := .ref (ad 3)) (C := RX2) (T := TX2) (N := 12) hx hb hts in_X2 hown hK hP 0 rfl rfl 3 (by decide) (hts _ q162) (fun _ h9 => h9) rfl dX2_insert_51 ?_
      refine lv_iload_n hx hb dX2_insert_54 rfl (lv_at hl 0 rfl) ?_
      refine rr_zald (B := T1) (k := j) hx hb hK hP 3 2 rfl rfl (by omega) (by decide) dX2_insert_55 ?_
      refine rr_ifeq_b (tgt := 75) hx hb dX2_insert_56 (by decide) (fun c1 => ?_) (fun c1 => ?_)
      · have ej : j = j0 := by
          rcases Nat.lt_or_ge j j0 with h | h
          · rw [eT, hT1 j h] at c1; cases c1
          · omega
        subst ej
        subst hq
        refine lv_iconst (v := (nI 0)) hx hb dX2_insert_75 (by decide +kernel) ?_
        refine lv_istore_n (lv' := [(3, .int (nI 0)), (2, .int (nI j)), (0, .ref (ad 0)), (1, .int v)]) hx hb dX2_insert_76 rfl hl (by decide) rfl (fun ls hl => ?_)
        exact copy (2 ^ j + 1) 0 _ L1 _ _ _ _ _ _ (by omega) (Nat.zero_le _) (fb_put_0 _ _ _).symm (fb_put_0 _ _ _).symm hL hT hC _ _ hP hD hS _ (lv_sub hl [0, 1, 2, 3] rfl)
      · have hlt : j < j0 := by
          rcases Nat.lt_or_ge j j0 with h | h
          · exact h
          · rw [eT, show j = j0 by omega, hT0] at c1; cases c1
        have hpp := pow_2 j
        have hpp2 := pow_2 (j + 1)
        have hsC : srt C (2 ^ j) := srt_cong (cas_srt (Lv := Li) (v := v) j (fun i hi => hsr i (by omega))) (fun k hk => (hC k hk).1)
        refine lv_aload_n hx hb dX2_insert_59 rfl (lv_at hl 1 rfl) ?_
        refine lv_iload_n hx hb dX2_insert_60 rfl (lv_at hl 0 rfl) ?_
        refine sf_callv (C := RX2) (As := [.int (nI j)]) (rest := []) ⟨hx, hb, hml, hown, hts⟩ (metX2_join l G ad ca cp Va L1 T1 C L S1 S2 (sz + 1) dd q pb j (by omega) (hsr j hlt) hsC) (cwV 1 hts (lw_V q200 q202 qs7 q14 q203) rfl rfl rfl (by decide +kernel) (by rw [hR]; exact ⟨by decide, by decide⟩)) hK hP hD hS hA rfl rfl rfl hl.1 rfl (Nat.le_of_ble_eq_true rfl) dX2_insert_61 ⟨Nat.zero_le _, Nat.zero_le _⟩ (fun u H locs hpo hP hD hS => ?_)
        obtain ⟨C2, L2, S3, S4⟩ := u
        have hP : va_P G clR (WM ad ca cp Va L1 T1 C2 L2 S3 S4 (sz + 1) dd (q + 2 * 2 ^ j) pb) H := hP
        have hD : va_D A (WM ad ca cp Va L1 T1 C2 L2 S3 S4 (sz + 1) dd (q + 2 * 2 ^ j) pb) := hD
        have hpo : ∀ k, k < 2 ^ j + 2 ^ j → C2 k = (mbf (rn Va L1 j) (fun k => (C k, L k)) (2 ^ j) (2 ^ j) k).1 ∧ L2 k = (mbf (rn Va L1 j) (fun k => (C k, L k)) (2 ^ j) (2 ^ j) k).2 := hpo
        refine lv_aload_n hx hb dX2_insert_64 rfl (lv_at hl 1 rfl) ?_
        refine lv_iload_n hx hb dX2_insert_65 rfl (lv_at hl 0 rfl) ?_
        refine sf_callv (C := RX2) (As := [.int (nI j)]) (rest := []) ⟨hx, hb, hml, hown, hts⟩ (metX2_leave l G ad ca cp Va L1 T1 C2 L2 S3 S4 (sz + 1) dd (q + 2 * 2 ^ j) pb j (by omega)) (cwV 1 hts (lw_V q207 q209 qs8 q14 q210) rfl rfl rfl (by decide +kernel) (by rw [hR]; exact ⟨by decide, by decide⟩)) hK hP hD hS hA rfl rfl rfl hl.1 rfl (Nat.le_of_ble_eq_true rfl) dX2_insert_66 ⟨Nat.zero_le _, Nat.zero_le _⟩ (fun u H locs _ hP hD hS => ?_)
        have hP : va_P G clR (WM ad ca cp Va (fb_put L1 (fun _ => false) (2 ^ j - 1) (2 ^ j)) (va_up T1 j false) C2 L2 S3 S4 (sz + 1) dd (q + 2 * 2 ^ j) pb) H := hP
        have hD : va_D A (WM ad ca cp Va (fb_put L1 (fun _ => false) (2 ^ j - 1) (2 ^ j)) (va_up T1 j false) C2 L2 S3 S4 (sz + 1) dd (q + 2 * 2 ^ j) pb) := hD
        refine lv_iinc (v := (nI (j + 1))) (lv' := [(2, .int (nI (j + 1))), (0, .ref (ad 0)), (1, .int v)]) hx hb dX2_insert_69 hl (k := 0) rfl (rr_inc j) (by decide) rfl (fun ls hl => ?_)
        refine lv_goto (tgt := 50) hx hb dX2_insert_72 (by decide) ?_
        have e2 : mbf (rn Va L1 j) (fun k => (C k, L k)) (2 ^ j) (2 ^ j) = cas Va Li v (j + 1) := mbf_cong _ _ (fun k hk => by
          unfold rn
          rw [hL j (by omega) k hk, if_neg (Nat.lt_irrefl j)]) (fun k hk => by
          rw [(hC k hk).1, (hC k hk).2])
        rw [e2, hpp] at hpo
        refine ih (j + 1) _ _ _ _ _ _ _ (by omega) hlt (fun i hi k hk => ?_) (fun i => ?_) hpo (by rw [hq]; omega) _ _ hP hD hS _ (lv_sub hl [0, 1, 2] rfl)
        · by_cases e : i = j
          · subst e
            rw [put_run hk, if_pos (by omega)]
          · rw [put_oth hk e, hL i hi k hk]
            by_cases e2 : i < j
            · rw [if_pos e2, if_pos (by omega)]
            · rw [if_neg e2, if_neg (by omega)]
        · by_cases e : i = j
          · rw [e, up_s, if_pos (by omega)]
          · rw [up_n e, hT i]
            by_cases e2 : i < j
            · rw [if_pos e2, if_pos (by omega)]
            · rw [if_neg e2, if_neg (by omega)]
  refine lv_aload_n hx hb dX2_insert_0 rfl (lv_at hl 0 rfl) ?_
  refine va_get (D := G) (ci := 1) (v := .int (nI sz)) (C := RX2) (T := TX2) (N := 12) hx hb hts in_X2 hown hK hP 0 rfl rfl 8 (by decide) (hts _ q167) (fun _ h9 => h9) rfl dX2_insert_1 ?_
  refine lv_aload_n hx hb dX2_insert_4 rfl (lv_at hl 0 rfl) ?_
  refine va_get (D := G) (ci := 1) (v := .int (nI cp)) (C := RX2) (T := TX2) (N := 12) hx hb hts in_X2 hown hK hP 0 rfl rfl 0 (by decide) (hts _ q159) (fun _ h9 => h9) rfl dX2_insert_5 ?_
  refine rr_icmp_ne (tgt := 14) hx hb dX2_insert_8 (by decide) (by omega) (by omega) (fun c0 => ?_) (fun c0 => ?_)
  · refine lv_aload_n hx hb dX2_insert_14 rfl (lv_at hl 0 rfl) ?_
    refine lv_dup hx hb dX2_insert_15 rfl ?_
    refine va_get (D := G) (ci := 1) (v := .int (nI sz)) (C := RX2) (T := TX2) (N := 12) hx hb hts in_X2 hown hK hP 0 rfl rfl 8 (by decide) (hts _ q167) (fun _ h9 => h9) rfl dX2_insert_16 ?_
    refine lv_iconst (v := (nI 1)) hx hb dX2_insert_19 (by decide +kernel) ?_
    refine rr_nadd hx hb dX2_insert_20 ?_
    refine va_put (D := G) (ci := 1) (v := .int (nI (sz + 1))) (ty := .int) (C := RX2) (T := TX2) (N := 12) hx hb hts in_X2 tyX2 tyX2_ok nmX2 hown hK hP hD hS 0 rfl rfl 8 (by decide) (hts _ q167) (fun _ h9 => h9) rfl (by decide +kernel) rfl rfl (Nat.le_of_ble_eq_true rfl) dX2_insert_21 (fun H locs hP hD hS => ?_)
    have hP : va_P G clR (WM ad ca cp Va Li Th Ca Cl Sp Sl (sz + 1) dd mv pb) H := hP
    have hD : va_D A (WM ad ca cp Va Li Th Ca Cl Sp Sl (sz + 1) dd mv pb) := hD
    refine lv_aload_n hx hb dX2_insert_24 rfl (lv_at hl 0 rfl) ?_
    refine lv_dup hx hb dX2_insert_25 rfl ?_
    refine va_get (D := G) (ci := 1) (v := .int (nI mv)) (C := RX2) (T := TX2) (N := 12) hx hb hts in_X2 hown hK hP 0 rfl rfl 10 (by decide) (hts _ q169) (fun _ h9 => h9) rfl dX2_insert_26 ?_
    refine lv_iconst (v := (nI 1)) hx hb dX2_insert_29 (by decide +kernel) ?_
    refine rr_nadd hx hb dX2_insert_30 ?_
    refine va_put (D := G) (ci := 1) (v := .int (nI (mv + 1))) (ty := .int) (C := RX2) (T := TX2) (N := 12) hx hb hts in_X2 tyX2 tyX2_ok nmX2 hown hK hP hD hS 0 rfl rfl 10 (by decide) (hts _ q169) (fun _ h9 => h9) rfl (by decide +kernel) rfl rfl (Nat.le_of_ble_eq_true rfl) dX2_insert_31 (fun H locs hP hD hS => ?_)
    have hP : va_P G clR (WM ad ca cp Va Li Th Ca Cl Sp Sl (sz + 1) dd (mv + 1) pb) H := hP
    have hD : va_D A (WM ad ca cp Va Li Th Ca Cl Sp Sl (sz + 1) dd (mv + 1) pb) := hD
    refine lv_aload_n hx hb dX2_insert_34 rfl (lv_at hl 0 rfl) ?_
    refine va_get (D := G) (ci := 1) (v := .ref (ad 4)) (C := RX2) (T := TX2) (N := 12) hx hb hts in_X2 hown hK hP 0 rfl rfl 4 (by decide) (hts _ q163) (fun _ h9 => h9) rfl dX2_insert_35 ?_
    refine lv_iconst (v := (nI 0)) hx hb dX2_insert_38 (by decide +kernel) ?_
    refine lv_iload_n hx hb dX2_insert_39 rfl (lv_at hl 1 rfl) ?_
    refine rr_iast (f := Ca) (k := 0) hx hb hK hP hD hS 4 3 rfl rfl (by omega) (by decide) dX2_insert_40 (fun H locs hP hD hS => ?_)
    have hP : va_P G clR (WM ad ca cp Va Li Th (va_up Ca 0 v) Cl Sp Sl (sz + 1) dd (mv + 1) pb) H := hP
    have hD : va_D A (WM ad ca cp Va Li Th (va_up Ca 0 v) Cl Sp Sl (sz + 1) dd (mv + 1) pb) := hD
    refine lv_aload_n hx hb dX2_insert_41 rfl (lv_at hl 0 rfl) ?_
    refine va_get (D := G) (ci := 1) (v := .ref (ad 5)) (C := RX2) (T := TX2) (N := 12) hx hb hts in_X2 hown hK hP 0 rfl rfl 5 (by decide) (hts _ q164) (fun _ h9 => h9) rfl dX2_insert_42 ?_
    refine lv_iconst (v := (nI 0)) hx hb dX2_insert_45 (by decide +kernel) ?_
    refine lv_iconst (v := (bI true)) hx hb dX2_insert_46 (by decide +kernel) ?_
    refine rr_zast (B := Cl) (k := 0) hx hb hK hP hD hS 5 4 rfl rfl (by omega) (by decide) dX2_insert_47 (fun H locs hP hD hS => ?_)
    have hP : va_P G clR (WM ad ca cp Va Li Th (va_up Ca 0 v) (va_up Cl 0 true) Sp Sl (sz + 1) dd (mv + 1) pb) H := hP
    have hD : va_D A (WM ad ca cp Va Li Th (va_up Ca 0 v) (va_up Cl 0 true) Sp Sl (sz + 1) dd (mv + 1) pb) := hD
    refine lv_iconst (v := (nI 0)) hx hb dX2_insert_48 (by decide +kernel) ?_
    refine lv_istore_n (lv' := [(2, .int (nI 0)), (0, .ref (ad 0)), (1, .int v)]) hx hb dX2_insert_49 rfl hl (by decide) rfl (fun ls hl => ?_)
    refine loop (j0 + 1) 0 _ _ _ _ _ _ _ (by omega) (Nat.zero_le _) (fun i _ k _ => (if_neg (Nat.not_lt_zero i)).symm) (fun i => (if_neg (Nat.not_lt_zero i)).symm) (fun k hk => ?_) rfl _ _ hP hD hS _ (lv_sub hl [0, 1, 2] rfl)
    rw [Nat.pow_zero] at hk
    have ek : k = 0 := by omega
    rw [ek, up_s, up_s]
    exact ⟨rfl, rfl⟩
  · exact absurd c0 hf
end
section
/-! contracts of RankRunsModel: what is made anew -/
set_option maxRecDepth 100000
theorem bdA_le {V : Nat → Int32} {Lv : Nat → Bool} {z : Int} {n0 : Nat} {C0 : Nat → Int32} {w : Int32} {p n : Nat} {C : Nat → Int32} (h : bdI V Lv z n0 C0) (hw : z < w.toInt) (hA : bdA V Lv w n0 C0 p n C) (hp : p ≤ 1023) : n ≤ 1023 := by
  have d1 : ∀ p, p < 1023 → ¬ (lez V Lv z p = true ∧ (Lv p && decide (V p = w)) = true) := by
    intro p _ ⟨q1, q2⟩
    unfold lez at q1
    rw [Bool.and_eq_true, decide_eq_true_eq] at q1 q2
    have := q1.2
    rw [q2.2] at this
    omega
  have h1 := fb_ct_or d1
  have h2 := fb_ct_le (fun k => lez V Lv z k || (Lv k && decide (V k = w))) 1023
  have h3 := fb_ct_mono (fun q => Lv q && decide (V q = w)) hp
  have h4 := h.1
  have h5 := hA.1
  omega
theorem bdA_more {V : Nat → Int32} {Lv : Nat → Bool} {n0 : Nat} {C0 : Nat → Int32} {w : Int32} {n : Nat} {C : Nat → Int32} {q : Nat} (hq : q < 1023) (hl : Lv q = true) (hv : V q = w) (hA : bdA V Lv w n0 C0 1023 n C) : n0 < n := by
  have h1 : 0 < fb_ct (fun q => Lv q && decide (V q = w)) 1023 := fb_ct_pos.mpr ⟨q, hq, by rw [hl, decide_eq_true hv]; rfl⟩
  have h5 := hA.1
  omega
theorem bx_self (T : Nat → Bool) (j : Nat) (a b : Bool) : va_up (va_up T j a) j b = va_up T j b := bx_uu T j a b
set_option maxHeartbeats 4000000 in
set_option maxRecDepth 100000 in
theorem metX2_build (l : Launch) (G : va_G) (ad : Nat → Nat) (ca : Nat → ClassId) (cp : Nat) (Va : Nat → Int32) (Li Th : Nat → Bool) (Ca : Nat → Int32) (Cl : Nat → Bool) (Sp : Nat → Int32) (Sl : Nat → Bool) (sz dd mv pb : Nat)  (hsz : sz = fb_ct Li 1023) : CI (S := (Nat → Int32) × (Nat → Bool) × (Nat → Bool) × (Nat → Int32)) l yX2_build (ws_ yX2_build cX2_build 7 (some .int)) rq2 G clR (tyM ca) (WM ad ca cp Va Li Th Ca Cl Sp Sl sz dd mv pb) [.ref (ad 0)] (fun r u => r = nI dd ∧ ∃ g : Nat → Int32, srt g sz ∧ (∀ v : Int32, fb_ct (fun q => decide (g q ≤ v)) sz = fb_ct (leq Va Li v) 1023) ∧ rbM g sz 0 u.1 u.2.1 u.2.2.1) (fun u => WM ad ca cp (u.1) (u.2.1) (u.2.2.1) (u.2.2.2) Cl Sp Sl sz 0 (mv + sz) pb) := by
  refine ci_start (by decide) (Nat.le_of_ble_eq_true rfl) ?_
  intro p e s m args below meth c R Q A ls hx hb hml hown hts hR hA hK hP hD hret hl
  have hown : s.vm.findClass RX2 = some m.cls := hown
  have hS : va_S A s.heap s.heap [] := va_S.rf
  have hl : lv_has ls 7 [(0, .ref (ad 0))] := hl
  have hN : sz ≤ 1023 := by rw [hsz]; exact fb_ct_le _ _
  have lay : ∀ (C : Nat → Int32) (j : Nat) (V1 : Nat → Int32) (L1 T1 : Nat → Bool), srt C sz → (∀ v : Int32, fb_ct (fun q => decide (C q ≤ v)) sz = fb_ct (leq Va Li v) 1023) → j ≤ 10 → rbM C sz j V1 L1 T1 → ∀ (H : Heap) (locs : List Loc), va_P G clR (WM ad ca cp V1 L1 T1 C Cl Sp Sl sz dd mv pb) H → va_D A (WM ad ca cp V1 L1 T1 C Cl Sp Sl sz dd mv pb) → va_S A s.heap H locs → ∀ ls : Array Slot, lv_has ls 7 [(5, .int (mI j)), (4, .int (nI (sz / 2 ^ j * 2 ^ j))), (0, .ref (ad 0))] → W p l e R s m args below meth c H locs 0 0 Q (F0 m 153 ls []) := by
    intro C j
    induction j with
    | zero =>
      intro V1 L1 T1 hs hc h1 hB H locs hP hD hS ls hl
      refine lv_iload hx hb dX2_build_153 (lv_at hl 0 rfl) ?_
      refine rr_if_lt_m (tgt := 260) hx hb dX2_build_155 (by decide) ?_
      refine lv_aload_n hx hb dX2_build_260 rfl (lv_at hl 2 rfl) ?_
      refine lv_aload_n hx hb dX2_build_261 rfl (lv_at hl 2 rfl) ?_
      refine va_get (D := G) (ci := 1) (v := .int (nI mv)) (C := RX2) (T := TX2) (N := 12) hx hb hts in_X2 hown hK hP 0 rfl rfl 10 (by decide) (hts _ q169) (fun _ h9 => h9) rfl dX2_build_262 ?_
      refine lv_aload_n hx hb dX2_build_265 rfl (lv_at hl 2 rfl) ?_
      refine va_get (D := G) (ci := 1) (v := .int (nI sz)) (C := RX2) (T := TX2) (N := 12) hx hb hts in_X2 hown hK hP 0 rfl rfl 8 (by decide) (hts _ q167) (fun _ h9 => h9) rfl dX2_build_266 ?_
      refine rr_nadd hx hb dX2_build_269 ?_
      refine va_put (D := G) (ci := 1) (v := .int (nI (mv + sz))) (ty := .int) (C := RX2) (T := TX2) (N := 12) hx hb hts in_X2 tyX2 tyX2_ok nmX2 hown hK hP hD hS 0 rfl rfl 10 (by decide) (hts _ q169) (fun _ h9 => h9) rfl (by decide +kernel) rfl rfl (Nat.le_of_ble_eq_true rfl) dX2_build_270 (fun H locs hP hD hS => ?_)
      have hP : va_P G clR (WM ad ca cp V1 L1 T1 C Cl Sp Sl sz dd (mv + sz) pb) H := hP
      have hD : va_D A (WM ad ca cp V1 L1 T1 C Cl Sp Sl sz dd (mv + sz) pb) := hD
      refine lv_aload_n hx hb dX2_build_273 rfl (lv_at hl 2 rfl) ?_
      refine va_get (D := G) (ci := 1) (v := .int (nI dd)) (C := RX2) (T := TX2) (N := 12) hx hb hts in_X2 hown hK hP 0 rfl rfl 9 (by decide) (hts _ q168) (fun _ h9 => h9) rfl dX2_build_274 ?_
      refine lv_istore (lv' := [(5, .int (nI dd)), (4, .int (nI (sz / 2 ^ 0 * 2 ^ 0))), (0, .ref (ad 0))]) hx hb dX2_build_277 hl (by decide) rfl (fun ls hl => ?_)
      refine lv_aload_n hx hb dX2_build_279 rfl (lv_at hl 2 rfl) ?_
      refine lv_iconst (v := (nI 0)) hx hb dX2_build_280 (by decide +kernel) ?_
      refine va_put (D := G) (ci := 1) (v := .int (nI 0)) (ty := .int) (C := RX2) (T := TX2) (N := 12) hx hb hts in_X2 tyX2 tyX2_ok nmX2 hown hK hP hD hS 0 rfl rfl 9 (by decide) (hts _ q168) (fun _ h9 => h9) rfl (by decide +kernel) rfl rfl (Nat.le_of_ble_eq_true rfl) dX2_build_281 (fun H locs hP hD hS => ?_)
      have hP : va_P G clR (WM ad ca cp V1 L1 T1 C Cl Sp Sl sz 0 (mv + sz) pb) H := hP
      have hD : va_D A (WM ad ca cp V1 L1 T1 C Cl Sp Sl sz 0 (mv + sz) pb) := hD
      refine lv_iload hx hb dX2_build_284 (lv_at hl 0 rfl) ?_
      exact hret 286 _ _ _ _ (V1, L1, T1, C) dX2_build_286 ⟨rfl, C, hs, hc, hB⟩ hP hD hS
    | succ j ih =>
      intro V1 L1 T1 hs hc h1 hB H locs hP hD hS ls hl
      rw [mI_succ j] at hl
      have hp := rr_pow (i := j) (by omega)
      have hst := off_step sz j
      have hdv := Nat.div_le_self sz (2 ^ j)
      refine lv_iload hx hb dX2_build_153 (lv_at hl 0 rfl) ?_
      refine rr_if_lt_n (tgt := 260) hx hb dX2_build_155 (by decide) (by omega) ?_
      refine lv_aload_n hx hb dX2_build_158 rfl (lv_at hl 2 rfl) ?_
      refine lv_iload hx hb dX2_build_159 (lv_at hl 0 rfl) ?_
      refine sf_callv (C := RX2) (As := [.int (nI j)]) (rest := []) ⟨hx, hb, hml, hown, hts⟩ (metX2_leave l G ad ca cp V1 L1 T1 C Cl Sp Sl sz dd mv pb j (by omega)) (cwV 1 hts (lw_V q207 q209 qs8 q14 q210) rfl rfl rfl (by decide +kernel) (by rw [hR]; exact ⟨by decide, by decide⟩)) hK hP hD hS hA rfl rfl rfl hl.1 rfl (Nat.le_of_ble_eq_true rfl) dX2_build_161 ⟨Nat.zero_le _, Nat.zero_le _⟩ (fun u H locs _ hP hD hS => ?_)
      have hP : va_P G clR (WM ad ca cp V1 (fb_put L1 (fun _ => false) (2 ^ j - 1) (2 ^ j)) (va_up T1 j false) C Cl Sp Sl sz dd mv pb) H := hP
      have hD : va_D A (WM ad ca cp V1 (fb_put L1 (fun _ => false) (2 ^ j - 1) (2 ^ j)) (va_up T1 j false) C Cl Sp Sl sz dd mv pb) := hD
      refine lv_aload_n hx hb dX2_build_164 rfl (lv_at hl 2 rfl) ?_
      refine va_get (D := G) (ci := 1) (v := .ref (ad 3)) (C := RX2) (T := TX2) (N := 12) hx hb hts in_X2 hown hK hP 0 rfl rfl 3 (by decide) (hts _ q162) (fun _ h9 => h9) rfl dX2_build_165 ?_
      refine lv_iload hx hb dX2_build_168 (lv_at hl 0 rfl) ?_
      refine lv_aload_n hx hb dX2_build_170 rfl (lv_at hl 2 rfl) ?_
      refine va_get (D := G) (ci := 1) (v := .int (nI sz)) (C := RX2) (T := TX2) (N := 12) hx hb hts in_X2 hown hK hP 0 rfl rfl 8 (by decide) (hts _ q167) (fun _ h9 => h9) rfl dX2_build_171 ?_
      refine lv_iload hx hb dX2_build_174 (lv_at hl 0 rfl) ?_
      refine rr_nshr hx hb dX2_build_176 (by omega) (by omega) ?_
      refine lv_iconst (v := (nI 1)) hx hb dX2_build_177 (by decide +kernel) ?_
      refine rr_nand1 hx hb dX2_build_178 (by omega) ?_
      refine lv_iconst (v := (nI 1)) hx hb dX2_build_179 (by decide +kernel) ?_
      refine rr_icmp_ne (tgt := 187) hx hb dX2_build_180 (by decide) (by omega) (by omega) (fun c1 => ?_) (fun c1 => ?_)
      · have hbt : bt sz j = false := decide_eq_false c1
        have hb0 : sz / 2 ^ j % 2 = 0 := by omega
        rw [hb0, Nat.zero_mul, Nat.add_zero] at hst
        refine lv_iconst (v := (bI false)) hx hb dX2_build_187 (by decide +kernel) ?_
        refine rr_zast (B := va_up T1 j false) (k := j) hx hb hK hP hD hS 3 2 rfl rfl (by omega) (by decide) dX2_build_188 (fun H locs hP hD hS => ?_)
        have hP : va_P G clR (WM ad ca cp V1 (fb_put L1 (fun _ => false) (2 ^ j - 1) (2 ^ j)) (va_up (va_up T1 j false) j false) C Cl Sp Sl sz dd mv pb) H := hP
        have hD : va_D A (WM ad ca cp V1 (fb_put L1 (fun _ => false) (2 ^ j - 1) (2 ^ j)) (va_up (va_up T1 j false) j false) C Cl Sp Sl sz dd mv pb) := hD
        refine lv_iconst (v := (nI 0)) hx hb dX2_build_189 (by decide +kernel) ?_
        refine lv_istore (lv' := [(6, .int (nI 0)), (5, .int (nI j)), (4, .int (nI (sz / 2 ^ (j + 1) * 2 ^ (j + 1)))), (0, .ref (ad 0))]) hx hb dX2_build_190 hl (by decide) rfl (fun ls hl => ?_)
        refine lv_iload hx hb dX2_build_192 (lv_at hl 0 rfl) ?_
        refine lv_iconst (v := (nI 1)) hx hb dX2_build_194 (by decide +kernel) ?_
        refine lv_iload hx hb dX2_build_195 (lv_at hl 1 rfl) ?_
        refine rr_shl1 hx hb dX2_build_197 (by omega) ?_
        rw [bx_self] at hP hD
        have hP : va_P G clR (WM ad ca cp V1 (fb_put L1 (fun _ => false) (2 ^ j - 1) (2 ^ j)) (va_up T1 j false) C Cl Sp Sl sz dd mv pb) H := hP
        have hD : va_D A (WM ad ca cp V1 (fb_put L1 (fun _ => false) (2 ^ j - 1) (2 ^ j)) (va_up T1 j false) C Cl Sp Sl sz dd mv pb) := hD
        refine rr_icmp_ge (tgt := 254) hx hb dX2_build_198 (by decide) (by omega) (by omega) (fun c2 => ?_) (fun c2 => ?_)
        · exact absurd c2 (by omega)
        · refine lv_aload_n hx hb dX2_build_201 rfl (lv_at hl 3 rfl) ?_
          refine va_get (D := G) (ci := 1) (v := .ref (ad 3)) (C := RX2) (T := TX2) (N := 12) hx hb hts in_X2 hown hK hP 0 rfl rfl 3 (by decide) (hts _ q162) (fun _ h9 => h9) rfl dX2_build_202 ?_
          refine lv_iload hx hb dX2_build_205 (lv_at hl 1 rfl) ?_
          refine rr_zald (B := va_up T1 j false) (k := j) hx hb hK hP 3 2 rfl rfl (by omega) (by decide) dX2_build_207 ?_
          refine rr_ifeq_b (tgt := 254) hx hb dX2_build_208 (by decide) (fun c3 => ?_) (fun c3 => ?_)
          · refine lv_iinc (v := (mI j)) (lv' := [(5, .int (mI j)), (6, .int (nI 0)), (4, .int (nI (sz / 2 ^ (j + 1) * 2 ^ (j + 1)))), (0, .ref (ad 0))]) hx hb dX2_build_254 hl (k := 1) rfl (rr_dec j) (by decide) rfl (fun ls hl => ?_)
            refine lv_goto (tgt := 153) hx hb dX2_build_257 (by decide) ?_
            have hst : sz / 2 ^ (j + 1) * 2 ^ (j + 1) = sz / 2 ^ j * 2 ^ j := hst.symm
            rw [hst] at hl
            exact ih _ _ _ hs hc (by omega) (rbM_no hB hbt) _ _ hP hD hS _ (lv_sub hl [0, 2, 3] rfl)
          · rw [up_s] at c3
            cases c3
      · have hbt : bt sz j = true := decide_eq_true c1
        have ho := off_bit hbt
        rw [c1, Nat.one_mul] at hst
        unfold off at ho
        have fill : ∀ (n k : Nat) (V2 : Nat → Int32) (L2 : Nat → Bool), 2 ^ j - k < n → k ≤ 2 ^ j → V2 = (fb_put V1 (fun k => C (off sz j + k)) (2 ^ j - 1) k) → L2 = (fb_put (fb_put L1 (fun _ => false) (2 ^ j - 1) (2 ^ j)) (fun _ => true) (2 ^ j - 1) k) → ∀ (H : Heap) (locs : List Loc), va_P G clR (WM ad ca cp V2 L2 (va_up T1 j true) C Cl Sp Sl sz dd mv pb) H → va_D A (WM ad ca cp V2 L2 (va_up T1 j true) C Cl Sp Sl sz dd mv pb) → va_S A s.heap H locs → ∀ ls : Array Slot, lv_has ls 7 [(6, .int (nI k)), (5, .int (nI j)), (4, .int (nI (sz / 2 ^ (j + 1) * 2 ^ (j + 1) + k))), (0, .ref (ad 0))] → W p l e R s m args below meth c H locs 0 0 Q (F0 m 192 ls []) := by
          intro n
          induction n with
          | zero =>
            intro k V2 L2 h1
            exact absurd h1 (by omega)
          | succ n ih2 =>
            intro k V2 L2 g1 g2 eV eL H locs hP hD hS ls hl
            refine lv_iload hx hb dX2_build_192 (lv_at hl 0 rfl) ?_
            refine lv_iconst (v := (nI 1)) hx hb dX2_build_194 (by decide +kernel) ?_
            refine lv_iload hx hb dX2_build_195 (lv_at hl 1 rfl) ?_
            refine rr_shl1 hx hb dX2_build_197 (by omega) ?_
            refine rr_icmp_ge (tgt := 254) hx hb dX2_build_198 (by decide) (by omega) (by omega) (fun c2 => ?_) (fun c2 => ?_)
            · have ek : k = 2 ^ j := by omega
              refine lv_iinc (v := (mI j)) (lv' := [(5, .int (mI j)), (6, .int (nI k)), (4, .int (nI (sz / 2 ^ (j + 1) * 2 ^ (j + 1) + k))), (0, .ref (ad 0))]) hx hb dX2_build_254 hl (k := 1) rfl (rr_dec j) (by decide) rfl (fun ls hl => ?_)
              refine lv_goto (tgt := 153) hx hb dX2_build_257 (by decide) ?_
              subst eV
              subst eL
              rw [ek] at hl hP hD
              have hst : sz / 2 ^ (j + 1) * 2 ^ (j + 1) + 2 ^ j = sz / 2 ^ j * 2 ^ j := hst.symm
              rw [hst] at hl
              exact ih _ _ _ hs hc (by omega) (rbM_yes hB hbt (fun _ _ => rfl) (fun i hi k hk e => put_oth hk e)) _ _ hP hD hS _ (lv_sub hl [0, 2, 3] rfl)
            · refine lv_aload_n hx hb dX2_build_201 rfl (lv_at hl 3 rfl) ?_
              refine va_get (D := G) (ci := 1) (v := .ref (ad 3)) (C := RX2) (T := TX2) (N := 12) hx hb hts in_X2 hown hK hP 0 rfl rfl 3 (by decide) (hts _ q162) (fun _ h9 => h9) rfl dX2_build_202 ?_
              refine lv_iload hx hb dX2_build_205 (lv_at hl 1 rfl) ?_
              refine rr_zald (B := va_up T1 j true) (k := j) hx hb hK hP 3 2 rfl rfl (by omega) (by decide) dX2_build_207 ?_
              refine rr_ifeq_b (tgt := 254) hx hb dX2_build_208 (by decide) (fun c3 => ?_) (fun c3 => ?_)
              · rw [up_s] at c3
                cases c3
              · refine lv_aload_n hx hb dX2_build_211 rfl (lv_at hl 3 rfl) ?_
                refine va_get (D := G) (ci := 1) (v := .ref (ad 1)) (C := RX2) (T := TX2) (N := 12) hx hb hts in_X2 hown hK hP 0 rfl rfl 1 (by decide) (hts _ q160) (fun _ h9 => h9) rfl dX2_build_212 ?_
                refine lv_iload hx hb dX2_build_215 (lv_at hl 1 rfl) ?_
                refine so_M (i := j) hx hb hml hown hts (by omega) (by rw [hR]; exact ⟨by decide, by decide⟩) hl.1 (Nat.le_of_ble_eq_true rfl) dX2_build_217 ?_
                refine lv_iload hx hb dX2_build_220 (lv_at hl 0 rfl) ?_
                refine rr_nadd hx hb dX2_build_222 ?_
                refine lv_aload_n hx hb dX2_build_223 rfl (lv_at hl 3 rfl) ?_
                refine va_get (D := G) (ci := 1) (v := .ref (ad 4)) (C := RX2) (T := TX2) (N := 12) hx hb hts in_X2 hown hK hP 0 rfl rfl 4 (by decide) (hts _ q163) (fun _ h9 => h9) rfl dX2_build_224 ?_
                refine lv_iload hx hb dX2_build_227 (lv_at hl 2 rfl) ?_
                refine rr_iald (f := C) (k := sz / 2 ^ (j + 1) * 2 ^ (j + 1) + k) hx hb hK hP 4 3 rfl rfl (by omega) (by decide) dX2_build_229 ?_
                refine rr_iast (f := V2) (k := (2 ^ j - 1) + k) hx hb hK hP hD hS 1 0 rfl rfl (by omega) (by decide) dX2_build_230 (fun H locs hP hD hS => ?_)
                have hP : va_P G clR (WM ad ca cp (va_up V2 ((2 ^ j - 1) + k) (C (sz / 2 ^ (j + 1) * 2 ^ (j + 1) + k))) L2 (va_up T1 j true) C Cl Sp Sl sz dd mv pb) H := hP
                have hD : va_D A (WM ad ca cp (va_up V2 ((2 ^ j - 1) + k) (C (sz / 2 ^ (j + 1) * 2 ^ (j + 1) + k))) L2 (va_up T1 j true) C Cl Sp Sl sz dd mv pb) := hD
                refine lv_aload_n hx hb dX2_build_231 rfl (lv_at hl 3 rfl) ?_
                refine va_get (D := G) (ci := 1) (v := .ref (ad 2)) (C := RX2) (T := TX2) (N := 12) hx hb hts in_X2 hown hK hP 0 rfl rfl 2 (by decide) (hts _ q161) (fun _ h9 => h9) rfl dX2_build_232 ?_
                refine lv_iload hx hb dX2_build_235 (lv_at hl 1 rfl) ?_
                refine so_M (i := j) hx hb hml hown hts (by omega) (by rw [hR]; exact ⟨by decide, by decide⟩) hl.1 (Nat.le_of_ble_eq_true rfl) dX2_build_237 ?_
                refine lv_iload hx hb dX2_build_240 (lv_at hl 0 rfl) ?_
                refine rr_nadd hx hb dX2_build_242 ?_
                refine lv_iconst (v := (bI true)) hx hb dX2_build_243 (by decide +kernel) ?_
                refine rr_zast (B := L2) (k := (2 ^ j - 1) + k) hx hb hK hP hD hS 2 1 rfl rfl (by omega) (by decide) dX2_build_244 (fun H locs hP hD hS => ?_)
                have hP : va_P G clR (WM ad ca cp (va_up V2 ((2 ^ j - 1) + k) (C (sz / 2 ^ (j + 1) * 2 ^ (j + 1) + k))) (va_up L2 ((2 ^ j - 1) + k) true) (va_up T1 j true) C Cl Sp Sl sz dd mv pb) H := hP
                have hD : va_D A (WM ad ca cp (va_up V2 ((2 ^ j - 1) + k) (C (sz / 2 ^ (j + 1) * 2 ^ (j + 1) + k))) (va_up L2 ((2 ^ j - 1) + k) true) (va_up T1 j true) C Cl Sp Sl sz dd mv pb) := hD
                refine lv_iinc (v := (nI (sz / 2 ^ (j + 1) * 2 ^ (j + 1) + k + 1))) (lv' := [(4, .int (nI (sz / 2 ^ (j + 1) * 2 ^ (j + 1) + k + 1))), (6, .int (nI k)), (5, .int (nI j)), (0, .ref (ad 0))]) hx hb dX2_build_245 hl (k := 2) rfl (rr_inc (sz / 2 ^ (j + 1) * 2 ^ (j + 1) + k)) (by decide) rfl (fun ls hl => ?_)
                refine lv_iinc (v := (nI (k + 1))) (lv' := [(6, .int (nI (k + 1))), (4, .int (nI (sz / 2 ^ (j + 1) * 2 ^ (j + 1) + k + 1))), (5, .int (nI j)), (0, .ref (ad 0))]) hx hb dX2_build_248 hl (k := 1) rfl (rr_inc k) (by decide) rfl (fun ls hl => ?_)
                refine lv_goto (tgt := 192) hx hb dX2_build_251 (by decide) ?_
                exact ih2 (k + 1) _ _ (by omega) (by omega) (by rw [eV]; exact put_succ V1 (fun k => C (off sz j + k)) (2 ^ j - 1) k) (by rw [eL]; exact put_succ _ (fun _ => true) (2 ^ j - 1) k) _ _ hP hD hS _ (lv_sub hl [0, 2, 1, 3] rfl)
        refine lv_iconst (v := (bI true)) hx hb dX2_build_183 (by decide +kernel) ?_
        refine lv_goto (tgt := 188) hx hb dX2_build_184 (by decide) ?_
        refine rr_zast (B := va_up T1 j false) (k := j) hx hb hK hP hD hS 3 2 rfl rfl (by omega) (by decide) dX2_build_188 (fun H locs hP hD hS => ?_)
        have hP : va_P G clR (WM ad ca cp V1 (fb_put L1 (fun _ => false) (2 ^ j - 1) (2 ^ j)) (va_up (va_up T1 j false) j true) C Cl Sp Sl sz dd mv pb) H := hP
        have hD : va_D A (WM ad ca cp V1 (fb_put L1 (fun _ => false) (2 ^ j - 1) (2 ^ j)) (va_up (va_up T1 j false) j true) C Cl Sp Sl sz dd mv pb) := hD
        refine lv_iconst (v := (nI 0)) hx hb dX2_build_189 (by decide +kernel) ?_
        refine lv_istore (lv' := [(6, .int (nI 0)), (5, .int (nI j)), (4, .int (nI (sz / 2 ^ (j + 1) * 2 ^ (j + 1)))), (0, .ref (ad 0))]) hx hb dX2_build_190 hl (by decide) rfl (fun ls hl => ?_)
        rw [bx_self] at hP hD
        have hP : va_P G clR (WM ad ca cp V1 (fb_put L1 (fun _ => false) (2 ^ j - 1) (2 ^ j)) (va_up T1 j true) C Cl Sp Sl sz dd mv pb) H := hP
        have hD : va_D A (WM ad ca cp V1 (fb_put L1 (fun _ => false) (2 ^ j - 1) (2 ^ j)) (va_up T1 j true) C Cl Sp Sl sz dd mv pb) := hD
        have hl : lv_has ls 7 [(6, .int (nI 0)), (5, .int (nI j)), (4, .int (nI (sz / 2 ^ (j + 1) * 2 ^ (j + 1) + 0))), (0, .ref (ad 0))] := lv_sub hl [0, 1, 2, 3] rfl
        exact fill (2 ^ j + 1) 0 _ _ (by omega) (Nat.zero_le _) (fb_put_0 _ _ _).symm (fb_put_0 _ _ _).symm _ _ hP hD hS _ hl
  have pick : ∀ (f n : Nat) (z : Int64) (C : Nat → Int32), sz - n < f → bdI Va Li z.toInt n C → ∀ (H : Heap) (locs : List Loc), va_P G clR (WM ad ca cp Va Li Th C Cl Sp Sl sz dd mv pb) H → va_D A (WM ad ca cp Va Li Th C Cl Sp Sl sz dd mv pb) → va_S A s.heap H locs → ∀ ls : Array Slot, lv_has ls 7 [(1, .int (nI n)), (2, .long z), (0, .ref (ad 0))] → W p l e R s m args below meth c H locs 0 0 Q (F0 m 6 ls []) := by
    intro f
    induction f with
    | zero =>
      intro n z C h1
      exact absurd h1 (by omega)
    | succ f ih =>
      intro n z C h1 hI H locs hP hD hS ls hl
      have hn1 : n ≤ 1023 := by rw [hI.1]; exact fb_ct_le _ _
      refine lv_iload_n hx hb dX2_build_6 rfl (lv_at hl 0 rfl) ?_
      refine lv_aload_n hx hb dX2_build_7 rfl (lv_at hl 2 rfl) ?_
      refine va_get (D := G) (ci := 1) (v := .int (nI sz)) (C := RX2) (T := TX2) (N := 12) hx hb hts in_X2 hown hK hP 0 rfl rfl 8 (by decide) (hts _ q167) (fun _ h9 => h9) rfl dX2_build_8 ?_
      refine rr_icmp_ge (tgt := 146) hx hb dX2_build_11 (by decide) (by omega) (by omega) (fun c1 => ?_) (fun c1 => ?_)
      · obtain ⟨en, hs, hc⟩ := bdI_end hI (by omega)
        rw [← hsz] at en
        subst en
        refine lv_iconst (v := (nI 0)) hx hb dX2_build_146 (by decide +kernel) ?_
        refine lv_istore (lv' := [(4, .int (nI 0)), (1, .int (nI n)), (2, .long z), (0, .ref (ad 0))]) hx hb dX2_build_147 hl (by decide) rfl (fun ls hl => ?_)
        refine lv_bipush (v := (nI 9)) hx hb dX2_build_149 (by decide +kernel) ?_
        refine lv_istore (lv' := [(5, .int (nI 9)), (4, .int (nI 0)), (1, .int (nI n)), (2, .long z), (0, .ref (ad 0))]) hx hb dX2_build_151 hl (by decide) rfl (fun ls hl => ?_)
        have h0 : n / 2 ^ 10 * 2 ^ 10 = 0 := by rw [Nat.div_eq_of_lt (by omega), Nat.zero_mul]
        have hl : lv_has ls 7 [(5, .int (mI 10)), (4, .int (nI (n / 2 ^ 10 * 2 ^ 10))), (0, .ref (ad 0))] := by
          rw [h0, show mI 10 = nI 9 from mI_succ 9]
          exact lv_sub hl [0, 1, 4] rfl
        exact lay C 10 _ _ _ hs hc (Nat.le_refl _) rbM_0 _ _ hP hD hS _ hl
      · have add : ∀ (w : Int32) (y : Int64) (q : Nat) (n2 p1 n1 : Nat) (C1 : Nat → Int32), q < 1023 → Li q = true → Va q = w → y = w.toInt64 → z.toInt < w.toInt → (∀ r, r < 1023 → Li r = true → z.toInt < (Va r).toInt → w.toInt ≤ (Va r).toInt) → 1023 - p1 < n2 → p1 ≤ 1023 → bdA Va Li w n C p1 n1 C1 → ∀ (H : Heap) (locs : List Loc), va_P G clR (WM ad ca cp Va Li Th C1 Cl Sp Sl sz dd mv pb) H → va_D A (WM ad ca cp Va Li Th C1 Cl Sp Sl sz dd mv pb) → va_S A s.heap H locs → ∀ ls : Array Slot, lv_has ls 7 [(6, .int (nI p1)), (4, .long y), (1, .int (nI n1)), (2, .long z), (0, .ref (ad 0))] → W p l e R s m args below meth c H locs 0 0 Q (F0 m 86 ls []) := by
          intro w y q n2
          induction n2 with
          | zero =>
            intro p1 n1 C1 _ _ _ _ _ _ h1
            exact absurd h1 (by omega)
          | succ n2 ih2 =>
            intro p1 n1 C1 q1 q2 q3 q4 q5 q6 g1 g2 hA1 H locs hP hD hS ls hl
            have hn2 := bdA_le hI q5 hA1 g2
            refine lv_iload hx hb dX2_build_86 (lv_at hl 0 rfl) ?_
            refine lv_sipush (v := (nI 1023)) hx hb dX2_build_88 (by decide +kernel) ?_
            refine rr_icmp_ge (tgt := 140) hx hb dX2_build_91 (by decide) (by omega) (by omega) (fun c2 => ?_) (fun c2 => ?_)
            · have ep : p1 = 1023 := by omega
              subst ep
              refine lv_lload hx hb dX2_build_140 (lv_at hl 1 rfl) ?_
              refine lv_lstore_n (lv' := [(2, .long y), (6, .int (nI 1023)), (4, .long y), (1, .int (nI n1)), (0, .ref (ad 0))]) hx hb dX2_build_142 rfl hl (by decide) rfl (fun ls hl => ?_)
              refine lv_goto (tgt := 6) hx hb dX2_build_143 (by decide) ?_
              have hI2 := bdA_end hI q5 q6 hA1
              have hmore := bdA_more q1 q2 q3 hA1
              rw [← Int32.toInt_toInt64, ← q4] at hI2
              exact ih n1 y C1 (by omega) hI2 _ _ hP hD hS _ (lv_sub hl [3, 0, 4] rfl)
            · refine lv_aload_n hx hb dX2_build_94 rfl (lv_at hl 4 rfl) ?_
              refine va_get (D := G) (ci := 1) (v := .ref (ad 2)) (C := RX2) (T := TX2) (N := 12) hx hb hts in_X2 hown hK hP 0 rfl rfl 2 (by decide) (hts _ q161) (fun _ h9 => h9) rfl dX2_build_95 ?_
              refine lv_iload hx hb dX2_build_98 (lv_at hl 0 rfl) ?_
              refine rr_zald (B := Li) (k := p1) hx hb hK hP 2 1 rfl rfl (by omega) (by decide) dX2_build_100 ?_
              refine rr_ifeq_b (tgt := 134) hx hb dX2_build_101 (by decide) (fun c3 => ?_) (fun c3 => ?_)
              · refine lv_iinc (v := (nI (p1 + 1))) (lv' := [(6, .int (nI (p1 + 1))), (4, .long y), (1, .int (nI n1)), (2, .long z), (0, .ref (ad 0))]) hx hb dX2_build_134 hl (k := 0) rfl (rr_inc p1) (by decide) rfl (fun ls hl => ?_)
                refine lv_goto (tgt := 86) hx hb dX2_build_137 (by decide) ?_
                exact ih2 (p1 + 1) n1 _ q1 q2 q3 q4 q5 q6 (by omega) (by omega) (bdA_no hA1 (fun h => by rw [c3] at h; cases h.1)) _ _ hP hD hS _ (lv_sub hl [0, 1, 2, 3, 4] rfl)
              · refine lv_aload_n hx hb dX2_build_104 rfl (lv_at hl 4 rfl) ?_
                refine va_get (D := G) (ci := 1) (v := .ref (ad 1)) (C := RX2) (T := TX2) (N := 12) hx hb hts in_X2 hown hK hP 0 rfl rfl 1 (by decide) (hts _ q160) (fun _ h9 => h9) rfl dX2_build_105 ?_
                refine lv_iload hx hb dX2_build_108 (lv_at hl 0 rfl) ?_
                refine rr_iald (f := Va) (k := p1) hx hb hK hP 1 0 rfl rfl (by omega) (by decide) dX2_build_110 ?_
                refine lv_i2l (v := (Va p1).toInt64) hx hb dX2_build_111 rfl ?_
                refine lv_lload hx hb dX2_build_112 (lv_at hl 1 rfl) ?_
                refine rr_lcmp_ne (tgt := 134) hx hb dX2_build_114 dX2_build_115 (by decide) (fun c4 => ?_) (fun c4 => ?_)
                · refine lv_iinc (v := (nI (p1 + 1))) (lv' := [(6, .int (nI (p1 + 1))), (4, .long y), (1, .int (nI n1)), (2, .long z), (0, .ref (ad 0))]) hx hb dX2_build_134 hl (k := 0) rfl (rr_inc p1) (by decide) rfl (fun ls hl => ?_)
                  refine lv_goto (tgt := 86) hx hb dX2_build_137 (by decide) ?_
                  exact ih2 (p1 + 1) n1 _ q1 q2 q3 q4 q5 q6 (by omega) (by omega) (bdA_no hA1 (fun h => c4 (by rw [h.2, q4]))) _ _ hP hD hS _ (lv_sub hl [0, 1, 2, 3, 4] rfl)
                · have ev : Va p1 = w := Int32.toInt_inj.mp (by rw [← Int32.toInt_toInt64, ← Int32.toInt_toInt64, c4, q4])
                  refine lv_aload_n hx hb dX2_build_118 rfl (lv_at hl 4 rfl) ?_
                  refine va_get (D := G) (ci := 1) (v := .ref (ad 4)) (C := RX2) (T := TX2) (N := 12) hx hb hts in_X2 hown hK hP 0 rfl rfl 4 (by decide) (hts _ q163) (fun _ h9 => h9) rfl dX2_build_119 ?_
                  refine lv_iload_n hx hb dX2_build_122 rfl (lv_at hl 2 rfl) ?_
                  refine lv_aload_n hx hb dX2_build_123 rfl (lv_at hl 4 rfl) ?_
                  refine va_get (D := G) (ci := 1) (v := .ref (ad 1)) (C := RX2) (T := TX2) (N := 12) hx hb hts in_X2 hown hK hP 0 rfl rfl 1 (by decide) (hts _ q160) (fun _ h9 => h9) rfl dX2_build_124 ?_
                  refine lv_iload hx hb dX2_build_127 (lv_at hl 0 rfl) ?_
                  refine rr_iald (f := Va) (k := p1) hx hb hK hP 1 0 rfl rfl (by omega) (by decide) dX2_build_129 ?_
                  refine rr_iast (f := C1) (k := n1) hx hb hK hP hD hS 4 3 rfl rfl (by omega) (by decide) dX2_build_130 (fun H locs hP hD hS => ?_)
                  have hP : va_P G clR (WM ad ca cp Va Li Th (va_up C1 n1 (Va p1)) Cl Sp Sl sz dd mv pb) H := hP
                  have hD : va_D A (WM ad ca cp Va Li Th (va_up C1 n1 (Va p1)) Cl Sp Sl sz dd mv pb) := hD
                  refine lv_iinc (v := (nI (n1 + 1))) (lv' := [(1, .int (nI (n1 + 1))), (6, .int (nI p1)), (4, .long y), (2, .long z), (0, .ref (ad 0))]) hx hb dX2_build_131 hl (k := 2) rfl (rr_inc n1) (by decide) rfl (fun ls hl => ?_)
                  refine lv_iinc (v := (nI (p1 + 1))) (lv' := [(6, .int (nI (p1 + 1))), (1, .int (nI (n1 + 1))), (4, .long y), (2, .long z), (0, .ref (ad 0))]) hx hb dX2_build_134 hl (k := 1) rfl (rr_inc p1) (by decide) rfl (fun ls hl => ?_)
                  refine lv_goto (tgt := 86) hx hb dX2_build_137 (by decide) ?_
                  exact ih2 (p1 + 1) (n1 + 1) _ q1 q2 q3 q4 q5 q6 (by omega) (by omega) (bdA_yes hA1 c3 ev) _ _ hP hD hS _ (lv_sub hl [0, 2, 1, 3, 4] rfl)
        have least : ∀ (n2 p1 : Nat) (y : Int64), 1023 - p1 < n2 → p1 ≤ 1023 → bdL Va Li z.toInt p1 y.toInt → ∀ (H : Heap) (locs : List Loc), va_P G clR (WM ad ca cp Va Li Th C Cl Sp Sl sz dd mv pb) H → va_D A (WM ad ca cp Va Li Th C Cl Sp Sl sz dd mv pb) → va_S A s.heap H locs → ∀ ls : Array Slot, lv_has ls 7 [(6, .int (nI p1)), (4, .long y), (1, .int (nI n)), (2, .long z), (0, .ref (ad 0))] → W p l e R s m args below meth c H locs 0 0 Q (F0 m 22 ls []) := by
          intro n2
          induction n2 with
          | zero =>
            intro p1 y h1
            exact absurd h1 (by omega)
          | succ n2 ih2 =>
            intro p1 y g1 g2 hY H locs hP hD hS ls hl
            refine lv_iload hx hb dX2_build_22 (lv_at hl 0 rfl) ?_
            refine lv_sipush (v := (nI 1023)) hx hb dX2_build_24 (by decide +kernel) ?_
            refine rr_icmp_ge (tgt := 83) hx hb dX2_build_27 (by decide) (by omega) (by omega) (fun c2 => ?_) (fun c2 => ?_)
            · have ep : p1 = 1023 := by omega
              subst ep
              obtain ⟨q, q1, q2, q3, q4, q5⟩ := bdL_end hI (by omega) hY
              refine lv_iconst (v := (nI 0)) hx hb dX2_build_83 (by decide +kernel) ?_
              refine lv_istore (lv' := [(6, .int (nI 0)), (4, .long y), (1, .int (nI n)), (2, .long z), (0, .ref (ad 0))]) hx hb dX2_build_84 hl (by decide) rfl (fun ls hl => ?_)
              exact add (Va q) y q 1024 0 n _ q1 q2 rfl (Int64.toInt_inj.mp (by rw [Int32.toInt_toInt64]; exact q4)) q3 (fun r hr hl hz => by rw [← q4]; exact q5 r hr hl hz) (by omega) (by omega) bdA_0 _ _ hP hD hS _ (lv_sub hl [0, 1, 2, 3, 4] rfl)
            · refine lv_aload_n hx hb dX2_build_30 rfl (lv_at hl 4 rfl) ?_
              refine va_get (D := G) (ci := 1) (v := .ref (ad 2)) (C := RX2) (T := TX2) (N := 12) hx hb hts in_X2 hown hK hP 0 rfl rfl 2 (by decide) (hts _ q161) (fun _ h9 => h9) rfl dX2_build_31 ?_
              refine lv_iload hx hb dX2_build_34 (lv_at hl 0 rfl) ?_
              refine rr_zald (B := Li) (k := p1) hx hb hK hP 2 1 rfl rfl (by omega) (by decide) dX2_build_36 ?_
              refine rr_ifeq_b (tgt := 77) hx hb dX2_build_37 (by decide) (fun c3 => ?_) (fun c3 => ?_)
              · refine lv_iinc (v := (nI (p1 + 1))) (lv' := [(6, .int (nI (p1 + 1))), (4, .long y), (1, .int (nI n)), (2, .long z), (0, .ref (ad 0))]) hx hb dX2_build_77 hl (k := 0) rfl (rr_inc p1) (by decide) rfl (fun ls hl => ?_)
                refine lv_goto (tgt := 22) hx hb dX2_build_80 (by decide) ?_
                exact ih2 (p1 + 1) y (by omega) (by omega) (bdL_keep hY (fun h => by rw [c3] at h; cases h)) _ _ hP hD hS _ (lv_sub hl [0, 1, 2, 3, 4] rfl)
              · refine lv_aload_n hx hb dX2_build_40 rfl (lv_at hl 4 rfl) ?_
                refine va_get (D := G) (ci := 1) (v := .ref (ad 1)) (C := RX2) (T := TX2) (N := 12) hx hb hts in_X2 hown hK hP 0 rfl rfl 1 (by decide) (hts _ q160) (fun _ h9 => h9) rfl dX2_build_41 ?_
                refine lv_iload hx hb dX2_build_44 (lv_at hl 0 rfl) ?_
                refine rr_iald (f := Va) (k := p1) hx hb hK hP 1 0 rfl rfl (by omega) (by decide) dX2_build_46 ?_
                refine lv_i2l (v := (Va p1).toInt64) hx hb dX2_build_47 rfl ?_
                refine lv_lload_n hx hb dX2_build_48 rfl (lv_at hl 3 rfl) ?_
                refine rr_lcmp_le (tgt := 77) hx hb dX2_build_49 dX2_build_50 (by decide) (fun c4 => ?_) (fun c4 => ?_)
                · rw [Int64.le_iff_toInt_le, Int32.toInt_toInt64] at c4
                  refine lv_iinc (v := (nI (p1 + 1))) (lv' := [(6, .int (nI (p1 + 1))), (4, .long y), (1, .int (nI n)), (2, .long z), (0, .ref (ad 0))]) hx hb dX2_build_77 hl (k := 0) rfl (rr_inc p1) (by decide) rfl (fun ls hl => ?_)
                  refine lv_goto (tgt := 22) hx hb dX2_build_80 (by decide) ?_
                  exact ih2 (p1 + 1) y (by omega) (by omega) (bdL_keep hY (fun _ h => by omega)) _ _ hP hD hS _ (lv_sub hl [0, 1, 2, 3, 4] rfl)
                · rw [Int64.le_iff_toInt_le, Int32.toInt_toInt64] at c4
                  refine lv_aload_n hx hb dX2_build_53 rfl (lv_at hl 4 rfl) ?_
                  refine va_get (D := G) (ci := 1) (v := .ref (ad 1)) (C := RX2) (T := TX2) (N := 12) hx hb hts in_X2 hown hK hP 0 rfl rfl 1 (by decide) (hts _ q160) (fun _ h9 => h9) rfl dX2_build_54 ?_
                  refine lv_iload hx hb dX2_build_57 (lv_at hl 0 rfl) ?_
                  refine rr_iald (f := Va) (k := p1) hx hb hK hP 1 0 rfl rfl (by omega) (by decide) dX2_build_59 ?_
                  refine lv_i2l (v := (Va p1).toInt64) hx hb dX2_build_60 rfl ?_
                  refine lv_lload hx hb dX2_build_61 (lv_at hl 1 rfl) ?_
                  refine rr_lcmp_ge (tgt := 77) hx hb dX2_build_63 dX2_build_64 (by decide) (fun c5 => ?_) (fun c5 => ?_)
                  · rw [Int64.le_iff_toInt_le, Int32.toInt_toInt64] at c5
                    refine lv_iinc (v := (nI (p1 + 1))) (lv' := [(6, .int (nI (p1 + 1))), (4, .long y), (1, .int (nI n)), (2, .long z), (0, .ref (ad 0))]) hx hb dX2_build_77 hl (k := 0) rfl (rr_inc p1) (by decide) rfl (fun ls hl => ?_)
                    refine lv_goto (tgt := 22) hx hb dX2_build_80 (by decide) ?_
                    exact ih2 (p1 + 1) y (by omega) (by omega) (bdL_keep hY (fun _ _ => c5)) _ _ hP hD hS _ (lv_sub hl [0, 1, 2, 3, 4] rfl)
                  · rw [Int64.le_iff_toInt_le, Int32.toInt_toInt64] at c5
                    refine lv_aload_n hx hb dX2_build_67 rfl (lv_at hl 4 rfl) ?_
                    refine va_get (D := G) (ci := 1) (v := .ref (ad 1)) (C := RX2) (T := TX2) (N := 12) hx hb hts in_X2 hown hK hP 0 rfl rfl 1 (by decide) (hts _ q160) (fun _ h9 => h9) rfl dX2_build_68 ?_
                    refine lv_iload hx hb dX2_build_71 (lv_at hl 0 rfl) ?_
                    refine rr_iald (f := Va) (k := p1) hx hb hK hP 1 0 rfl rfl (by omega) (by decide) dX2_build_73 ?_
                    refine lv_i2l (v := (Va p1).toInt64) hx hb dX2_build_74 rfl ?_
                    refine lv_lstore (lv' := [(4, .long ((Va p1).toInt64)), (6, .int (nI p1)), (1, .int (nI n)), (2, .long z), (0, .ref (ad 0))]) hx hb dX2_build_75 hl (by decide) rfl (fun ls hl => ?_)
                    refine lv_iinc (v := (nI (p1 + 1))) (lv' := [(6, .int (nI (p1 + 1))), (4, .long ((Va p1).toInt64)), (1, .int (nI n)), (2, .long z), (0, .ref (ad 0))]) hx hb dX2_build_77 hl (k := 1) rfl (rr_inc p1) (by decide) rfl (fun ls hl => ?_)
                    refine lv_goto (tgt := 22) hx hb dX2_build_80 (by decide) ?_
                    exact ih2 (p1 + 1) _ (by omega) (by omega) (by rw [Int32.toInt_toInt64]; exact bdL_take hY c3 (by omega) (by omega)) _ _ hP hD hS _ (lv_sub hl [0, 1, 2, 3, 4] rfl)
        refine lv_ldc2 hx hb hown (hts _ q220) dX2_build_14 ?_
        refine lv_lstore (lv' := [(4, .long (2147483648)), (1, .int (nI n)), (2, .long z), (0, .ref (ad 0))]) hx hb dX2_build_17 hl (by decide) rfl (fun ls hl => ?_)
        refine lv_iconst (v := (nI 0)) hx hb dX2_build_19 (by decide +kernel) ?_
        refine lv_istore (lv' := [(6, .int (nI 0)), (4, .long (2147483648)), (1, .int (nI n)), (2, .long z), (0, .ref (ad 0))]) hx hb dX2_build_20 hl (by decide) rfl (fun ls hl => ?_)
        exact least 1024 0 _ (by omega) (by omega) (by rw [show (2147483648 : Int64).toInt = 2147483648 from by decide +kernel]; exact bdL_0) _ _ hP hD hS _ (lv_sub hl [0, 1, 2, 3, 4] rfl)
  refine lv_iconst (v := (nI 0)) hx hb dX2_build_0 (by decide +kernel) ?_
  refine lv_istore_n (lv' := [(1, .int (nI 0)), (0, .ref (ad 0))]) hx hb dX2_build_1 rfl hl (by decide) rfl (fun ls hl => ?_)
  refine lv_ldc2 hx hb hown (hts _ q219) dX2_build_2 ?_
  refine lv_lstore_n (lv' := [(2, .long (-2147483649)), (1, .int (nI 0)), (0, .ref (ad 0))]) hx hb dX2_build_5 rfl hl (by decide) rfl (fun ls hl => ?_)
  exact pick (sz + 1) 0 _ Ca (by omega) (by rw [show (-2147483649 : Int64).toInt = -2147483649 from by decide +kernel]; exact bdI_0) _ _ hP hD hS _ (lv_sub hl [1, 0, 2] rfl)
set_option maxHeartbeats 4000000 in
set_option maxRecDepth 100000 in
theorem metX2_rebuild (l : Launch) (G : va_G) (ad : Nat → Nat) (ca : Nat → ClassId) (cp : Nat) (Va : Nat → Int32) (Li Th : Nat → Bool) (Ca : Nat → Int32) (Cl : Nat → Bool) (Sp : Nat → Int32) (Sl : Nat → Bool) (sz dd mv pb : Nat)  (hsz : sz = fb_ct Li 1023) : CI (S := (Nat → Int32) × (Nat → Bool) × (Nat → Bool) × (Nat → Int32)) l yX2_rebuild (ws_ yX2_rebuild cX2_rebuild 1 (some .int)) rq3 G clR (tyM ca) (WM ad ca cp Va Li Th Ca Cl Sp Sl sz dd mv pb) [.ref (ad 0)] (fun r u => r = nI dd ∧ ∃ g : Nat → Int32, srt g sz ∧ (∀ v : Int32, fb_ct (fun q => decide (g q ≤ v)) sz = fb_ct (leq Va Li v) 1023) ∧ rbM g sz 0 u.1 u.2.1 u.2.2.1) (fun u => WM ad ca cp (u.1) (u.2.1) (u.2.2.1) (u.2.2.2) Cl Sp Sl sz 0 (mv + sz) pb) := by
  refine ci_start (by decide) (Nat.le_of_ble_eq_true rfl) ?_
  intro p e s m args below meth c R Q A ls hx hb hml hown hts hR hA hK hP hD hret hl
  have hown : s.vm.findClass RX2 = some m.cls := hown
  have hS : va_S A s.heap s.heap [] := va_S.rf
  have hl : lv_has ls 1 [(0, .ref (ad 0))] := hl
  refine lv_aload_n hx hb dX2_rebuild_0 rfl (lv_at hl 0 rfl) ?_
  refine sf_calli (C := RX2) (As := []) (rest := []) ⟨hx, hb, hml, hown, hts⟩ (metX2_build l G ad ca cp Va Li Th Ca Cl Sp Sl sz dd mv pb hsz) (cwV 0 hts (lw_V q215 q217 qs9 q14 q218) rfl rfl rfl (by decide +kernel) (by rw [hR]; exact ⟨by decide, by decide⟩)) hK hP hD hS hA rfl rfl rfl hl.1 rfl (Nat.le_of_ble_eq_true rfl) dX2_rebuild_1 ⟨Nat.zero_le _, Nat.zero_le _⟩ (fun r u H locs hpo hP hD hS => ?_)
  exact hret 4 _ _ _ _ u dX2_rebuild_4 hpo hP hD hS
end
section
/-! contracts of RankRunsModel: what is taken out -/
set_option maxRecDepth 100000
set_option maxHeartbeats 4000000 in
set_option maxRecDepth 100000 in
theorem metX2_remove_none (l : Launch) (G : va_G) (ad : Nat → Nat) (ca : Nat → ClassId) (cp : Nat) (Va : Nat → Int32) (Li Th : Nat → Bool) (Ca : Nat → Int32) (Cl : Nat → Bool) (Sp : Nat → Int32) (Sl : Nat → Bool) (sz dd mv pb : Nat) (v : Int32) (hsz : sz = fb_ct Li 1023) (hdd : dd < 2147483647) (hf : fnd Va Li (fun i => if Th i then 2 ^ i else 0) v 10 0 = none) : CI (S := Unit) l yX2_remove (ws_ yX2_remove cX2_remove 6 (some .boolean)) rq3 G clR (tyM ca) (WM ad ca cp Va Li Th Ca Cl Sp Sl sz dd mv pb) [.ref (ad 0), .int v] (fun r _ => r = bI false) (fun _ => WM ad ca cp Va Li Th Ca Cl Sp Sl sz dd mv pb) := by
  refine cz_start (by decide) (Nat.le_of_ble_eq_true rfl) ?_
  intro p e s m args below meth c R Q A ls hx hb hml hown hts hR hA hK hP hD hret hl
  have hown : s.vm.findClass RX2 = some m.cls := hown
  have hS : va_S A s.heap s.heap [] := va_S.rf
  have hl : lv_has ls 6 [(0, .ref (ad 0)), (1, .int v)] := hl
  have hN : sz ≤ 1023 := by rw [hsz]; exact fb_ct_le _ _
  have loop : ∀ (n i : Nat), 10 - i < n → i ≤ 10 → fnd Va Li (fun i => if Th i then 2 ^ i else 0) v (10 - i) i = none → ∀ (H : Heap) (locs : List Loc), va_P G clR (WM ad ca cp Va Li Th Ca Cl Sp Sl sz dd mv pb) H → va_D A (WM ad ca cp Va Li Th Ca Cl Sp Sl sz dd mv pb) → va_S A s.heap H locs → ∀ ls : Array Slot, lv_has ls 6 [(2, .int (nI i)), (0, .ref (ad 0)), (1, .int v)] → W p l e R s m args below meth c H locs 0 0 Q (F0 m 2 ls []) := by
    intro n
    induction n with
    | zero =>
      intro i h1
      exact absurd h1 (by omega)
    | succ n ih =>
      intro i h1 h2 e1 H locs hP hD hS ls hl
      refine lv_iload_n hx hb dX2_remove_2 rfl (lv_at hl 0 rfl) ?_
      refine lv_bipush (v := (nI 10)) hx hb dX2_remove_3 (by decide +kernel) ?_
      refine rr_icmp_ge (tgt := 114) hx hb dX2_remove_5 (by decide) (by omega) (by omega) (fun c1 => ?_) (fun c1 => ?_)
      · rw [show 10 - i = 0 by omega] at e1
        refine lv_iconst (v := (bI false)) hx hb dX2_remove_114 (by decide +kernel) ?_
        exact hret 115 _ _ _ _ () dX2_remove_115 rfl hP hD hS
      · rw [show 10 - i = (10 - (i + 1)) + 1 by omega] at e1
        have hp := rr_pow c1
        cases hth : Th i with
        | false =>
          rw [fnd_no (by show liv Va Li v (if Th i then 2 ^ i else 0) (2 ^ i - 1) = none; rw [hth]; rfl)] at e1
          refine lv_iconst (v := (nI 0)) hx hb dX2_remove_8 (by decide +kernel) ?_
          refine lv_istore_n (lv' := [(3, .int (nI 0)), (2, .int (nI i)), (0, .ref (ad 0)), (1, .int v)]) hx hb dX2_remove_9 rfl hl (by decide) rfl (fun ls hl => ?_)
          refine lv_iload_n hx hb dX2_remove_10 rfl (lv_at hl 0 rfl) ?_
          refine lv_iconst (v := (nI 1)) hx hb dX2_remove_11 (by decide +kernel) ?_
          refine lv_iload_n hx hb dX2_remove_12 rfl (lv_at hl 1 rfl) ?_
          refine rr_shl1 hx hb dX2_remove_13 (by omega) ?_
          refine rr_icmp_ge (tgt := 108) hx hb dX2_remove_14 (by decide) (by omega) (by omega) (fun c2 => ?_) (fun c2 => ?_)
          · exact absurd c2 (by omega)
          · refine lv_aload_n hx hb dX2_remove_17 rfl (lv_at hl 2 rfl) ?_
            refine va_get (D := G) (ci := 1) (v := .ref (ad 3)) (C := RX2) (T := TX2) (N := 12) hx hb hts in_X2 hown hK hP 0 rfl rfl 3 (by decide) (hts _ q162) (fun _ h9 => h9) rfl dX2_remove_18 ?_
            refine lv_iload_n hx hb dX2_remove_21 rfl (lv_at hl 1 rfl) ?_
            refine rr_zald (B := Th) (k := i) hx hb hK hP 3 2 rfl rfl (by omega) (by decide) dX2_remove_22 ?_
            refine rr_ifeq_b (tgt := 108) hx hb dX2_remove_23 (by decide) (fun c3 => ?_) (fun c3 => ?_)
            · refine lv_iinc (v := (nI (i + 1))) (lv' := [(2, .int (nI (i + 1))), (3, .int (nI 0)), (0, .ref (ad 0)), (1, .int v)]) hx hb dX2_remove_108 hl (k := 1) rfl (rr_inc i) (by decide) rfl (fun ls hl => ?_)
              refine lv_goto (tgt := 2) hx hb dX2_remove_111 (by decide) ?_
              exact ih (i + 1) (by omega) (by omega) e1 _ _ hP hD hS _ (lv_sub hl [0, 2, 3] rfl)
            · rw [hth] at c3
              cases c3
        | true =>
          have hlen : (fun i => if Th i then 2 ^ i else 0) i = 2 ^ i := by show (if Th i then 2 ^ i else 0) = _; rw [hth]; rfl
          have inn : ∀ (n2 k : Nat), 2 ^ i - k < n2 → k ≤ 2 ^ i → liv Va Li v (2 ^ i - k) (2 ^ i - 1 + k) = liv Va Li v ((fun i => if Th i then 2 ^ i else 0) i) (2 ^ i - 1) → ∀ (H : Heap) (locs : List Loc), va_P G clR (WM ad ca cp Va Li Th Ca Cl Sp Sl sz dd mv pb) H → va_D A (WM ad ca cp Va Li Th Ca Cl Sp Sl sz dd mv pb) → va_S A s.heap H locs → ∀ ls : Array Slot, lv_has ls 6 [(3, .int (nI k)), (2, .int (nI i)), (0, .ref (ad 0)), (1, .int v)] → W p l e R s m args below meth c H locs 0 0 Q (F0 m 10 ls []) := by
            intro n2
            induction n2 with
            | zero =>
              intro k h1
              exact absurd h1 (by omega)
            | succ n2 ih2 =>
              intro k g1 g2 e2 H locs hP hD hS ls hl
              refine lv_iload_n hx hb dX2_remove_10 rfl (lv_at hl 0 rfl) ?_
              refine lv_iconst (v := (nI 1)) hx hb dX2_remove_11 (by decide +kernel) ?_
              refine lv_iload_n hx hb dX2_remove_12 rfl (lv_at hl 1 rfl) ?_
              refine rr_shl1 hx hb dX2_remove_13 (by omega) ?_
              refine rr_icmp_ge (tgt := 108) hx hb dX2_remove_14 (by decide) (by omega) (by omega) (fun c2 => ?_) (fun c2 => ?_)
              · rw [show 2 ^ i - k = 0 by omega] at e2
                rw [fnd_no e2.symm] at e1
                refine lv_iinc (v := (nI (i + 1))) (lv' := [(2, .int (nI (i + 1))), (3, .int (nI k)), (0, .ref (ad 0)), (1, .int v)]) hx hb dX2_remove_108 hl (k := 1) rfl (rr_inc i) (by decide) rfl (fun ls hl => ?_)
                refine lv_goto (tgt := 2) hx hb dX2_remove_111 (by decide) ?_
                exact ih (i + 1) (by omega) (by omega) e1 _ _ hP hD hS _ (lv_sub hl [0, 2, 3] rfl)
              · refine lv_aload_n hx hb dX2_remove_17 rfl (lv_at hl 2 rfl) ?_
                refine va_get (D := G) (ci := 1) (v := .ref (ad 3)) (C := RX2) (T := TX2) (N := 12) hx hb hts in_X2 hown hK hP 0 rfl rfl 3 (by decide) (hts _ q162) (fun _ h9 => h9) rfl dX2_remove_18 ?_
                refine lv_iload_n hx hb dX2_remove_21 rfl (lv_at hl 1 rfl) ?_
                refine rr_zald (B := Th) (k := i) hx hb hK hP 3 2 rfl rfl (by omega) (by decide) dX2_remove_22 ?_
                refine rr_ifeq_b (tgt := 108) hx hb dX2_remove_23 (by decide) (fun c3 => ?_) (fun c3 => ?_)
                · rw [hth] at c3
                  cases c3
                · rw [show 2 ^ i - k = (2 ^ i - (k + 1)) + 1 by omega] at e2
                  refine lv_iload_n hx hb dX2_remove_26 rfl (lv_at hl 1 rfl) ?_
                  refine so_M (i := i) hx hb hml hown hts (by omega) (by rw [hR]; exact ⟨by decide, by decide⟩) hl.1 (Nat.le_of_ble_eq_true rfl) dX2_remove_27 ?_
                  refine lv_iload_n hx hb dX2_remove_30 rfl (lv_at hl 0 rfl) ?_
                  refine rr_nadd hx hb dX2_remove_31 ?_
                  refine lv_istore (lv' := [(4, .int (nI ((2 ^ i - 1) + k))), (3, .int (nI k)), (2, .int (nI i)), (0, .ref (ad 0)), (1, .int v)]) hx hb dX2_remove_32 hl (by decide) rfl (fun ls hl => ?_)
                  refine lv_aload_n hx hb dX2_remove_34 rfl (lv_at hl 3 rfl) ?_
                  refine va_get (D := G) (ci := 1) (v := .ref (ad 2)) (C := RX2) (T := TX2) (N := 12) hx hb hts in_X2 hown hK hP 0 rfl rfl 2 (by decide) (hts _ q161) (fun _ h9 => h9) rfl dX2_remove_35 ?_
                  refine lv_iload hx hb dX2_remove_38 (lv_at hl 0 rfl) ?_
                  refine rr_zald (B := Li) (k := (2 ^ i - 1) + k) hx hb hK hP 2 1 rfl rfl (by omega) (by decide) dX2_remove_40 ?_
                  refine rr_ifeq_b (tgt := 102) hx hb dX2_remove_41 (by decide) (fun c4 => ?_) (fun c4 => ?_)
                  · rw [liv_no (fun h => by have h9 := h.2; rw [c4] at h9; cases h9)] at e2
                    refine lv_iinc (v := (nI (k + 1))) (lv' := [(3, .int (nI (k + 1))), (4, .int (nI ((2 ^ i - 1) + k))), (2, .int (nI i)), (0, .ref (ad 0)), (1, .int v)]) hx hb dX2_remove_102 hl (k := 1) rfl (rr_inc k) (by decide) rfl (fun ls hl => ?_)
                    refine lv_goto (tgt := 10) hx hb dX2_remove_105 (by decide) ?_
                    exact ih2 (k + 1) (by omega) (by omega) e2 _ _ hP hD hS _ (lv_sub hl [0, 2, 3, 4] rfl)
                  · refine lv_aload_n hx hb dX2_remove_44 rfl (lv_at hl 3 rfl) ?_
                    refine va_get (D := G) (ci := 1) (v := .ref (ad 1)) (C := RX2) (T := TX2) (N := 12) hx hb hts in_X2 hown hK hP 0 rfl rfl 1 (by decide) (hts _ q160) (fun _ h9 => h9) rfl dX2_remove_45 ?_
                    refine lv_iload hx hb dX2_remove_48 (lv_at hl 0 rfl) ?_
                    refine rr_iald (f := Va) (k := (2 ^ i - 1) + k) hx hb hK hP 1 0 rfl rfl (by omega) (by decide) dX2_remove_50 ?_
                    refine lv_iload_n hx hb dX2_remove_51 rfl (lv_at hl 4 rfl) ?_
                    refine lv_icmp_ne (tgt := 102) hx hb dX2_remove_52 (by decide) (fun c5 => ?_) (fun c5 => ?_)
                    · rw [liv_no (fun h => c5 h.1)] at e2
                      refine lv_iinc (v := (nI (k + 1))) (lv' := [(3, .int (nI (k + 1))), (4, .int (nI ((2 ^ i - 1) + k))), (2, .int (nI i)), (0, .ref (ad 0)), (1, .int v)]) hx hb dX2_remove_102 hl (k := 1) rfl (rr_inc k) (by decide) rfl (fun ls hl => ?_)
                      refine lv_goto (tgt := 10) hx hb dX2_remove_105 (by decide) ?_
                      exact ih2 (k + 1) (by omega) (by omega) e2 _ _ hP hD hS _ (lv_sub hl [0, 2, 3, 4] rfl)
                    · rw [liv_yes c5 c4] at e2
                      rw [fnd_yes e2.symm] at e1
                      cases e1
          refine lv_iconst (v := (nI 0)) hx hb dX2_remove_8 (by decide +kernel) ?_
          refine lv_istore_n (lv' := [(3, .int (nI 0)), (2, .int (nI i)), (0, .ref (ad 0)), (1, .int v)]) hx hb dX2_remove_9 rfl hl (by decide) rfl (fun ls hl => ?_)
          exact inn (2 ^ i + 1) 0 (by omega) (Nat.zero_le _) (by rw [hlen]; rfl) _ _ hP hD hS _ (lv_sub hl [0, 1, 2, 3] rfl)
  refine lv_iconst (v := (nI 0)) hx hb dX2_remove_0 (by decide +kernel) ?_
  refine lv_istore_n (lv' := [(2, .int (nI 0)), (0, .ref (ad 0)), (1, .int v)]) hx hb dX2_remove_1 rfl hl (by decide) rfl (fun ls hl => ?_)
  exact loop 11 0 (by omega) (by omega) hf _ _ hP hD hS _ (lv_sub hl [0, 1, 2] rfl)
set_option maxHeartbeats 4000000 in
set_option maxRecDepth 100000 in
theorem metX2_remove_some (l : Launch) (G : va_G) (ad : Nat → Nat) (ca : Nat → ClassId) (cp : Nat) (Va : Nat → Int32) (Li Th : Nat → Bool) (Ca : Nat → Int32) (Cl : Nat → Bool) (Sp : Nat → Int32) (Sl : Nat → Bool) (sz dd mv pb : Nat) (v : Int32) (p0 : Nat) (hsz : sz = fb_ct Li 1023) (hdd : dd < 2147483647) (hf : fnd Va Li (fun i => if Th i then 2 ^ i else 0) v 10 0 = some p0) (hc : dd + 1 ≤ sz - 1) : CI (S := Unit) l yX2_remove (ws_ yX2_remove cX2_remove 6 (some .boolean)) rq3 G clR (tyM ca) (WM ad ca cp Va Li Th Ca Cl Sp Sl sz dd mv pb) [.ref (ad 0), .int v] (fun r _ => r = bI true) (fun _ => WM ad ca cp Va (va_up Li p0 false) Th Ca Cl Sp Sl (sz - 1) (dd + 1) mv pb) := by
  refine cz_start (by decide) (Nat.le_of_ble_eq_true rfl) ?_
  intro p e s m args below meth c R Q A ls hx hb hml hown hts hR hA hK hP hD hret hl
  have hown : s.vm.findClass RX2 = some m.cls := hown
  have hS : va_S A s.heap s.heap [] := va_S.rf
  have hl : lv_has ls 6 [(0, .ref (ad 0)), (1, .int v)] := hl
  have hN : sz ≤ 1023 := by rw [hsz]; exact fb_ct_le _ _
  have loop : ∀ (n i : Nat), 10 - i < n → i ≤ 10 → fnd Va Li (fun i => if Th i then 2 ^ i else 0) v (10 - i) i = (some p0) → ∀ (H : Heap) (locs : List Loc), va_P G clR (WM ad ca cp Va Li Th Ca Cl Sp Sl sz dd mv pb) H → va_D A (WM ad ca cp Va Li Th Ca Cl Sp Sl sz dd mv pb) → va_S A s.heap H locs → ∀ ls : Array Slot, lv_has ls 6 [(2, .int (nI i)), (0, .ref (ad 0)), (1, .int v)] → W p l e R s m args below meth c H locs 0 0 Q (F0 m 2 ls []) := by
    intro n
    induction n with
    | zero =>
      intro i h1
      exact absurd h1 (by omega)
    | succ n ih =>
      intro i h1 h2 e1 H locs hP hD hS ls hl
      refine lv_iload_n hx hb dX2_remove_2 rfl (lv_at hl 0 rfl) ?_
      refine lv_bipush (v := (nI 10)) hx hb dX2_remove_3 (by decide +kernel) ?_
      refine rr_icmp_ge (tgt := 114) hx hb dX2_remove_5 (by decide) (by omega) (by omega) (fun c1 => ?_) (fun c1 => ?_)
      · rw [show 10 - i = 0 by omega] at e1
        cases e1
      · rw [show 10 - i = (10 - (i + 1)) + 1 by omega] at e1
        have hp := rr_pow c1
        cases hth : Th i with
        | false =>
          rw [fnd_no (by show liv Va Li v (if Th i then 2 ^ i else 0) (2 ^ i - 1) = none; rw [hth]; rfl)] at e1
          refine lv_iconst (v := (nI 0)) hx hb dX2_remove_8 (by decide +kernel) ?_
          refine lv_istore_n (lv' := [(3, .int (nI 0)), (2, .int (nI i)), (0, .ref (ad 0)), (1, .int v)]) hx hb dX2_remove_9 rfl hl (by decide) rfl (fun ls hl => ?_)
          refine lv_iload_n hx hb dX2_remove_10 rfl (lv_at hl 0 rfl) ?_
          refine lv_iconst (v := (nI 1)) hx hb dX2_remove_11 (by decide +kernel) ?_
          refine lv_iload_n hx hb dX2_remove_12 rfl (lv_at hl 1 rfl) ?_
          refine rr_shl1 hx hb dX2_remove_13 (by omega) ?_
          refine rr_icmp_ge (tgt := 108) hx hb dX2_remove_14 (by decide) (by omega) (by omega) (fun c2 => ?_) (fun c2 => ?_)
          · exact absurd c2 (by omega)
          · refine lv_aload_n hx hb dX2_remove_17 rfl (lv_at hl 2 rfl) ?_
            refine va_get (D := G) (ci := 1) (v := .ref (ad 3)) (C := RX2) (T := TX2) (N := 12) hx hb hts in_X2 hown hK hP 0 rfl rfl 3 (by decide) (hts _ q162) (fun _ h9 => h9) rfl dX2_remove_18 ?_
            refine lv_iload_n hx hb dX2_remove_21 rfl (lv_at hl 1 rfl) ?_
            refine rr_zald (B := Th) (k := i) hx hb hK hP 3 2 rfl rfl (by omega) (by decide) dX2_remove_22 ?_
            refine rr_ifeq_b (tgt := 108) hx hb dX2_remove_23 (by decide) (fun c3 => ?_) (fun c3 => ?_)
            · refine lv_iinc (v := (nI (i + 1))) (lv' := [(2, .int (nI (i + 1))), (3, .int (nI 0)), (0, .ref (ad 0)), (1, .int v)]) hx hb dX2_remove_108 hl (k := 1) rfl (rr_inc i) (by decide) rfl (fun ls hl => ?_)
              refine lv_goto (tgt := 2) hx hb dX2_remove_111 (by decide) ?_
              exact ih (i + 1) (by omega) (by omega) e1 _ _ hP hD hS _ (lv_sub hl [0, 2, 3] rfl)
            · rw [hth] at c3
              cases c3
        | true =>
          have hlen : (fun i => if Th i then 2 ^ i else 0) i = 2 ^ i := by show (if Th i then 2 ^ i else 0) = _; rw [hth]; rfl
          have inn : ∀ (n2 k : Nat), 2 ^ i - k < n2 → k ≤ 2 ^ i → liv Va Li v (2 ^ i - k) (2 ^ i - 1 + k) = liv Va Li v ((fun i => if Th i then 2 ^ i else 0) i) (2 ^ i - 1) → ∀ (H : Heap) (locs : List Loc), va_P G clR (WM ad ca cp Va Li Th Ca Cl Sp Sl sz dd mv pb) H → va_D A (WM ad ca cp Va Li Th Ca Cl Sp Sl sz dd mv pb) → va_S A s.heap H locs → ∀ ls : Array Slot, lv_has ls 6 [(3, .int (nI k)), (2, .int (nI i)), (0, .ref (ad 0)), (1, .int v)] → W p l e R s m args below meth c H locs 0 0 Q (F0 m 10 ls []) := by
            intro n2
            induction n2 with
            | zero =>
              intro k h1
              exact absurd h1 (by omega)
            | succ n2 ih2 =>
              intro k g1 g2 e2 H locs hP hD hS ls hl
              refine lv_iload_n hx hb dX2_remove_10 rfl (lv_at hl 0 rfl) ?_
              refine lv_iconst (v := (nI 1)) hx hb dX2_remove_11 (by decide +kernel) ?_
              refine lv_iload_n hx hb dX2_remove_12 rfl (lv_at hl 1 rfl) ?_
              refine rr_shl1 hx hb dX2_remove_13 (by omega) ?_
              refine rr_icmp_ge (tgt := 108) hx hb dX2_remove_14 (by decide) (by omega) (by omega) (fun c2 => ?_) (fun c2 => ?_)
              · rw [show 2 ^ i - k = 0 by omega] at e2
                rw [fnd_no e2.symm] at e1
                refine lv_iinc (v := (nI (i + 1))) (lv' := [(2, .int (nI (i + 1))), (3, .int (nI k)), (0, .ref (ad 0)), (1, .int v)]) hx hb dX2_remove_108 hl (k := 1) rfl (rr_inc i) (by decide) rfl (fun ls hl => ?_)
                refine lv_goto (tgt := 2) hx hb dX2_remove_111 (by decide) ?_
                exact ih (i + 1) (by omega) (by omega) e1 _ _ hP hD hS _ (lv_sub hl [0, 2, 3] rfl)
              · refine lv_aload_n hx hb dX2_remove_17 rfl (lv_at hl 2 rfl) ?_
                refine va_get (D := G) (ci := 1) (v := .ref (ad 3)) (C := RX2) (T := TX2) (N := 12) hx hb hts in_X2 hown hK hP 0 rfl rfl 3 (by decide) (hts _ q162) (fun _ h9 => h9) rfl dX2_remove_18 ?_
                refine lv_iload_n hx hb dX2_remove_21 rfl (lv_at hl 1 rfl) ?_
                refine rr_zald (B := Th) (k := i) hx hb hK hP 3 2 rfl rfl (by omega) (by decide) dX2_remove_22 ?_
                refine rr_ifeq_b (tgt := 108) hx hb dX2_remove_23 (by decide) (fun c3 => ?_) (fun c3 => ?_)
                · rw [hth] at c3
                  cases c3
                · rw [show 2 ^ i - k = (2 ^ i - (k + 1)) + 1 by omega] at e2
                  refine lv_iload_n hx hb dX2_remove_26 rfl (lv_at hl 1 rfl) ?_
                  refine so_M (i := i) hx hb hml hown hts (by omega) (by rw [hR]; exact ⟨by decide, by decide⟩) hl.1 (Nat.le_of_ble_eq_true rfl) dX2_remove_27 ?_
                  refine lv_iload_n hx hb dX2_remove_30 rfl (lv_at hl 0 rfl) ?_
                  refine rr_nadd hx hb dX2_remove_31 ?_
                  refine lv_istore (lv' := [(4, .int (nI ((2 ^ i - 1) + k))), (3, .int (nI k)), (2, .int (nI i)), (0, .ref (ad 0)), (1, .int v)]) hx hb dX2_remove_32 hl (by decide) rfl (fun ls hl => ?_)
                  refine lv_aload_n hx hb dX2_remove_34 rfl (lv_at hl 3 rfl) ?_
                  refine va_get (D := G) (ci := 1) (v := .ref (ad 2)) (C := RX2) (T := TX2) (N := 12) hx hb hts in_X2 hown hK hP 0 rfl rfl 2 (by decide) (hts _ q161) (fun _ h9 => h9) rfl dX2_remove_35 ?_
                  refine lv_iload hx hb dX2_remove_38 (lv_at hl 0 rfl) ?_
                  refine rr_zald (B := Li) (k := (2 ^ i - 1) + k) hx hb hK hP 2 1 rfl rfl (by omega) (by decide) dX2_remove_40 ?_
                  refine rr_ifeq_b (tgt := 102) hx hb dX2_remove_41 (by decide) (fun c4 => ?_) (fun c4 => ?_)
                  · rw [liv_no (fun h => by have h9 := h.2; rw [c4] at h9; cases h9)] at e2
                    refine lv_iinc (v := (nI (k + 1))) (lv' := [(3, .int (nI (k + 1))), (4, .int (nI ((2 ^ i - 1) + k))), (2, .int (nI i)), (0, .ref (ad 0)), (1, .int v)]) hx hb dX2_remove_102 hl (k := 1) rfl (rr_inc k) (by decide) rfl (fun ls hl => ?_)
                    refine lv_goto (tgt := 10) hx hb dX2_remove_105 (by decide) ?_
                    exact ih2 (k + 1) (by omega) (by omega) e2 _ _ hP hD hS _ (lv_sub hl [0, 2, 3, 4] rfl)
                  · refine lv_aload_n hx hb dX2_remove_44 rfl (lv_at hl 3 rfl) ?_
                    refine va_get (D := G) (ci := 1) (v := .ref (ad 1)) (C := RX2) (T := TX2) (N := 12) hx hb hts in_X2 hown hK hP 0 rfl rfl 1 (by decide) (hts _ q160) (fun _ h9 => h9) rfl dX2_remove_45 ?_
                    refine lv_iload hx hb dX2_remove_48 (lv_at hl 0 rfl) ?_
                    refine rr_iald (f := Va) (k := (2 ^ i - 1) + k) hx hb hK hP 1 0 rfl rfl (by omega) (by decide) dX2_remove_50 ?_
                    refine lv_iload_n hx hb dX2_remove_51 rfl (lv_at hl 4 rfl) ?_
                    refine lv_icmp_ne (tgt := 102) hx hb dX2_remove_52 (by decide) (fun c5 => ?_) (fun c5 => ?_)
                    · rw [liv_no (fun h => c5 h.1)] at e2
                      refine lv_iinc (v := (nI (k + 1))) (lv' := [(3, .int (nI (k + 1))), (4, .int (nI ((2 ^ i - 1) + k))), (2, .int (nI i)), (0, .ref (ad 0)), (1, .int v)]) hx hb dX2_remove_102 hl (k := 1) rfl (rr_inc k) (by decide) rfl (fun ls hl => ?_)
                      refine lv_goto (tgt := 10) hx hb dX2_remove_105 (by decide) ?_
                      exact ih2 (k + 1) (by omega) (by omega) e2 _ _ hP hD hS _ (lv_sub hl [0, 2, 3, 4] rfl)
                    · rw [liv_yes c5 c4] at e2
                      rw [fnd_yes e2.symm] at e1
                      have e1 : 2 ^ i - 1 + k = p0 := Option.some.inj e1
                      subst e1
                      have hk := fb_ct_upd Li false (i := 2 ^ i - 1 + k) (n := 1023) (by omega)
                      rw [c4, if_pos rfl] at hk
                      have hsz2 : sz - 1 = fb_ct (va_up Li (2 ^ i - 1 + k) false) 1023 := by
                        show sz - 1 = fb_ct (fun q => if q = 2 ^ i - 1 + k then false else Li q) 1023
                        rw [if_neg (by decide)] at hk
                        omega
                      have hs1 : 1 ≤ sz := by rw [if_neg (by decide)] at hk; omega
                      refine lv_aload_n hx hb dX2_remove_55 rfl (lv_at hl 3 rfl) ?_
                      refine va_get (D := G) (ci := 1) (v := .ref (ad 2)) (C := RX2) (T := TX2) (N := 12) hx hb hts in_X2 hown hK hP 0 rfl rfl 2 (by decide) (hts _ q161) (fun _ h9 => h9) rfl dX2_remove_56 ?_
                      refine lv_iload hx hb dX2_remove_59 (lv_at hl 0 rfl) ?_
                      refine lv_iconst (v := (bI false)) hx hb dX2_remove_61 (by decide +kernel) ?_
                      refine rr_zast (B := Li) (k := (2 ^ i - 1) + k) hx hb hK hP hD hS 2 1 rfl rfl (by omega) (by decide) dX2_remove_62 (fun H locs hP hD hS => ?_)
                      have hP : va_P G clR (WM ad ca cp Va (va_up Li ((2 ^ i - 1) + k) false) Th Ca Cl Sp Sl sz dd mv pb) H := hP
                      have hD : va_D A (WM ad ca cp Va (va_up Li ((2 ^ i - 1) + k) false) Th Ca Cl Sp Sl sz dd mv pb) := hD
                      refine lv_aload_n hx hb dX2_remove_63 rfl (lv_at hl 3 rfl) ?_
                      refine lv_dup hx hb dX2_remove_64 rfl ?_
                      refine va_get (D := G) (ci := 1) (v := .int (nI sz)) (C := RX2) (T := TX2) (N := 12) hx hb hts in_X2 hown hK hP 0 rfl rfl 8 (by decide) (hts _ q167) (fun _ h9 => h9) rfl dX2_remove_65 ?_
                      refine lv_iconst (v := (nI 1)) hx hb dX2_remove_68 (by decide +kernel) ?_
                      refine rr_nsub hx hb dX2_remove_69 hs1 ?_
                      refine va_put (D := G) (ci := 1) (v := .int (nI (sz - 1))) (ty := .int) (C := RX2) (T := TX2) (N := 12) hx hb hts in_X2 tyX2 tyX2_ok nmX2 hown hK hP hD hS 0 rfl rfl 8 (by decide) (hts _ q167) (fun _ h9 => h9) rfl (by decide +kernel) rfl rfl (Nat.le_of_ble_eq_true rfl) dX2_remove_70 (fun H locs hP hD hS => ?_)
                      have hP : va_P G clR (WM ad ca cp Va (va_up Li ((2 ^ i - 1) + k) false) Th Ca Cl Sp Sl (sz - 1) dd mv pb) H := hP
                      have hD : va_D A (WM ad ca cp Va (va_up Li ((2 ^ i - 1) + k) false) Th Ca Cl Sp Sl (sz - 1) dd mv pb) := hD
                      refine lv_aload_n hx hb dX2_remove_73 rfl (lv_at hl 3 rfl) ?_
                      refine lv_dup hx hb dX2_remove_74 rfl ?_
                      refine va_get (D := G) (ci := 1) (v := .int (nI dd)) (C := RX2) (T := TX2) (N := 12) hx hb hts in_X2 hown hK hP 0 rfl rfl 9 (by decide) (hts _ q168) (fun _ h9 => h9) rfl dX2_remove_75 ?_
                      refine lv_iconst (v := (nI 1)) hx hb dX2_remove_78 (by decide +kernel) ?_
                      refine rr_nadd hx hb dX2_remove_79 ?_
                      refine va_put (D := G) (ci := 1) (v := .int (nI (dd + 1))) (ty := .int) (C := RX2) (T := TX2) (N := 12) hx hb hts in_X2 tyX2 tyX2_ok nmX2 hown hK hP hD hS 0 rfl rfl 9 (by decide) (hts _ q168) (fun _ h9 => h9) rfl (by decide +kernel) rfl rfl (Nat.le_of_ble_eq_true rfl) dX2_remove_80 (fun H locs hP hD hS => ?_)
                      have hP : va_P G clR (WM ad ca cp Va (va_up Li ((2 ^ i - 1) + k) false) Th Ca Cl Sp Sl (sz - 1) (dd + 1) mv pb) H := hP
                      have hD : va_D A (WM ad ca cp Va (va_up Li ((2 ^ i - 1) + k) false) Th Ca Cl Sp Sl (sz - 1) (dd + 1) mv pb) := hD
                      refine lv_aload_n hx hb dX2_remove_83 rfl (lv_at hl 3 rfl) ?_
                      refine va_get (D := G) (ci := 1) (v := .int (nI (dd + 1))) (C := RX2) (T := TX2) (N := 12) hx hb hts in_X2 hown hK hP 0 rfl rfl 9 (by decide) (hts _ q168) (fun _ h9 => h9) rfl dX2_remove_84 ?_
                      refine lv_aload_n hx hb dX2_remove_87 rfl (lv_at hl 3 rfl) ?_
                      refine va_get (D := G) (ci := 1) (v := .int (nI (sz - 1))) (C := RX2) (T := TX2) (N := 12) hx hb hts in_X2 hown hK hP 0 rfl rfl 8 (by decide) (hts _ q167) (fun _ h9 => h9) rfl dX2_remove_88 ?_
                      refine rr_icmp_le (tgt := 100) hx hb dX2_remove_91 (by decide) (by omega) (by omega) (fun c6 => ?_) (fun c6 => ?_)
                      · refine lv_iconst (v := (bI true)) hx hb dX2_remove_100 (by decide +kernel) ?_
                        exact hret 101 _ _ _ _ () dX2_remove_101 rfl hP hD hS
                      · exact absurd hc (Nat.not_le.mpr c6)
          refine lv_iconst (v := (nI 0)) hx hb dX2_remove_8 (by decide +kernel) ?_
          refine lv_istore_n (lv' := [(3, .int (nI 0)), (2, .int (nI i)), (0, .ref (ad 0)), (1, .int v)]) hx hb dX2_remove_9 rfl hl (by decide) rfl (fun ls hl => ?_)
          exact inn (2 ^ i + 1) 0 (by omega) (Nat.zero_le _) (by rw [hlen]; rfl) _ _ hP hD hS _ (lv_sub hl [0, 1, 2, 3] rfl)
  refine lv_iconst (v := (nI 0)) hx hb dX2_remove_0 (by decide +kernel) ?_
  refine lv_istore_n (lv' := [(2, .int (nI 0)), (0, .ref (ad 0)), (1, .int v)]) hx hb dX2_remove_1 rfl hl (by decide) rfl (fun ls hl => ?_)
  exact loop 11 0 (by omega) (by omega) hf _ _ hP hD hS _ (lv_sub hl [0, 1, 2] rfl)
set_option maxHeartbeats 4000000 in
set_option maxRecDepth 100000 in
theorem metX2_remove_reb (l : Launch) (G : va_G) (ad : Nat → Nat) (ca : Nat → ClassId) (cp : Nat) (Va : Nat → Int32) (Li Th : Nat → Bool) (Ca : Nat → Int32) (Cl : Nat → Bool) (Sp : Nat → Int32) (Sl : Nat → Bool) (sz dd mv pb : Nat) (v : Int32) (p0 : Nat) (hsz : sz = fb_ct Li 1023) (hdd : dd < 2147483647) (hf : fnd Va Li (fun i => if Th i then 2 ^ i else 0) v 10 0 = some p0) (hc : ¬ dd + 1 ≤ sz - 1) : CI (S := (Nat → Int32) × (Nat → Bool) × (Nat → Bool) × (Nat → Int32)) l yX2_remove (ws_ yX2_remove cX2_remove 6 (some .boolean)) rq3 G clR (tyM ca) (WM ad ca cp Va Li Th Ca Cl Sp Sl sz dd mv pb) [.ref (ad 0), .int v] (fun r u => r = bI true ∧ ∃ g : Nat → Int32, srt g (sz - 1) ∧ (∀ v : Int32, fb_ct (fun q => decide (g q ≤ v)) (sz - 1) = fb_ct (leq Va (va_up Li p0 false) v) 1023) ∧ rbM g (sz - 1) 0 u.1 u.2.1 u.2.2.1) (fun u => WM ad ca cp (u.1) (u.2.1) (u.2.2.1) (u.2.2.2) Cl Sp Sl (sz - 1) 0 (mv + (sz - 1)) pb) := by
  refine cz_start (by decide) (Nat.le_of_ble_eq_true rfl) ?_
  intro p e s m args below meth c R Q A ls hx hb hml hown hts hR hA hK hP hD hret hl
  have hown : s.vm.findClass RX2 = some m.cls := hown
  have hS : va_S A s.heap s.heap [] := va_S.rf
  have hl : lv_has ls 6 [(0, .ref (ad 0)), (1, .int v)] := hl
  have hN : sz ≤ 1023 := by rw [hsz]; exact fb_ct_le _ _
  have loop : ∀ (n i : Nat), 10 - i < n → i ≤ 10 → fnd Va Li (fun i => if Th i then 2 ^ i else 0) v (10 - i) i = (some p0) → ∀ (H : Heap) (locs : List Loc), va_P G clR (WM ad ca cp Va Li Th Ca Cl Sp Sl sz dd mv pb) H → va_D A (WM ad ca cp Va Li Th Ca Cl Sp Sl sz dd mv pb) → va_S A s.heap H locs → ∀ ls : Array Slot, lv_has ls 6 [(2, .int (nI i)), (0, .ref (ad 0)), (1, .int v)] → W p l e R s m args below meth c H locs 0 0 Q (F0 m 2 ls []) := by
    intro n
    induction n with
    | zero =>
      intro i h1
      exact absurd h1 (by omega)
    | succ n ih =>
      intro i h1 h2 e1 H locs hP hD hS ls hl
      refine lv_iload_n hx hb dX2_remove_2 rfl (lv_at hl 0 rfl) ?_
      refine lv_bipush (v := (nI 10)) hx hb dX2_remove_3 (by decide +kernel) ?_
      refine rr_icmp_ge (tgt := 114) hx hb dX2_remove_5 (by decide) (by omega) (by omega) (fun c1 => ?_) (fun c1 => ?_)
      · rw [show 10 - i = 0 by omega] at e1
        cases e1
      · rw [show 10 - i = (10 - (i + 1)) + 1 by omega] at e1
        have hp := rr_pow c1
        cases hth : Th i with
        | false =>
          rw [fnd_no (by show liv Va Li v (if Th i then 2 ^ i else 0) (2 ^ i - 1) = none; rw [hth]; rfl)] at e1
          refine lv_iconst (v := (nI 0)) hx hb dX2_remove_8 (by decide +kernel) ?_
          refine lv_istore_n (lv' := [(3, .int (nI 0)), (2, .int (nI i)), (0, .ref (ad 0)), (1, .int v)]) hx hb dX2_remove_9 rfl hl (by decide) rfl (fun ls hl => ?_)
          refine lv_iload_n hx hb dX2_remove_10 rfl (lv_at hl 0 rfl) ?_
          refine lv_iconst (v := (nI 1)) hx hb dX2_remove_11 (by decide +kernel) ?_
          refine lv_iload_n hx hb dX2_remove_12 rfl (lv_at hl 1 rfl) ?_
          refine rr_shl1 hx hb dX2_remove_13 (by omega) ?_
          refine rr_icmp_ge (tgt := 108) hx hb dX2_remove_14 (by decide) (by omega) (by omega) (fun c2 => ?_) (fun c2 => ?_)
          · exact absurd c2 (by omega)
          · refine lv_aload_n hx hb dX2_remove_17 rfl (lv_at hl 2 rfl) ?_
            refine va_get (D := G) (ci := 1) (v := .ref (ad 3)) (C := RX2) (T := TX2) (N := 12) hx hb hts in_X2 hown hK hP 0 rfl rfl 3 (by decide) (hts _ q162) (fun _ h9 => h9) rfl dX2_remove_18 ?_
            refine lv_iload_n hx hb dX2_remove_21 rfl (lv_at hl 1 rfl) ?_
            refine rr_zald (B := Th) (k := i) hx hb hK hP 3 2 rfl rfl (by omega) (by decide) dX2_remove_22 ?_
            refine rr_ifeq_b (tgt := 108) hx hb dX2_remove_23 (by decide) (fun c3 => ?_) (fun c3 => ?_)
            · refine lv_iinc (v := (nI (i + 1))) (lv' := [(2, .int (nI (i + 1))), (3, .int (nI 0)), (0, .ref (ad 0)), (1, .int v)]) hx hb dX2_remove_108 hl (k := 1) rfl (rr_inc i) (by decide) rfl (fun ls hl => ?_)
              refine lv_goto (tgt := 2) hx hb dX2_remove_111 (by decide) ?_
              exact ih (i + 1) (by omega) (by omega) e1 _ _ hP hD hS _ (lv_sub hl [0, 2, 3] rfl)
            · rw [hth] at c3
              cases c3
        | true =>
          have hlen : (fun i => if Th i then 2 ^ i else 0) i = 2 ^ i := by show (if Th i then 2 ^ i else 0) = _; rw [hth]; rfl
          have inn : ∀ (n2 k : Nat), 2 ^ i - k < n2 → k ≤ 2 ^ i → liv Va Li v (2 ^ i - k) (2 ^ i - 1 + k) = liv Va Li v ((fun i => if Th i then 2 ^ i else 0) i) (2 ^ i - 1) → ∀ (H : Heap) (locs : List Loc), va_P G clR (WM ad ca cp Va Li Th Ca Cl Sp Sl sz dd mv pb) H → va_D A (WM ad ca cp Va Li Th Ca Cl Sp Sl sz dd mv pb) → va_S A s.heap H locs → ∀ ls : Array Slot, lv_has ls 6 [(3, .int (nI k)), (2, .int (nI i)), (0, .ref (ad 0)), (1, .int v)] → W p l e R s m args below meth c H locs 0 0 Q (F0 m 10 ls []) := by
            intro n2
            induction n2 with
            | zero =>
              intro k h1
              exact absurd h1 (by omega)
            | succ n2 ih2 =>
              intro k g1 g2 e2 H locs hP hD hS ls hl
              refine lv_iload_n hx hb dX2_remove_10 rfl (lv_at hl 0 rfl) ?_
              refine lv_iconst (v := (nI 1)) hx hb dX2_remove_11 (by decide +kernel) ?_
              refine lv_iload_n hx hb dX2_remove_12 rfl (lv_at hl 1 rfl) ?_
              refine rr_shl1 hx hb dX2_remove_13 (by omega) ?_
              refine rr_icmp_ge (tgt := 108) hx hb dX2_remove_14 (by decide) (by omega) (by omega) (fun c2 => ?_) (fun c2 => ?_)
              · rw [show 2 ^ i - k = 0 by omega] at e2
                rw [fnd_no e2.symm] at e1
                refine lv_iinc (v := (nI (i + 1))) (lv' := [(2, .int (nI (i + 1))), (3, .int (nI k)), (0, .ref (ad 0)), (1, .int v)]) hx hb dX2_remove_108 hl (k := 1) rfl (rr_inc i) (by decide) rfl (fun ls hl => ?_)
                refine lv_goto (tgt := 2) hx hb dX2_remove_111 (by decide) ?_
                exact ih (i + 1) (by omega) (by omega) e1 _ _ hP hD hS _ (lv_sub hl [0, 2, 3] rfl)
              · refine lv_aload_n hx hb dX2_remove_17 rfl (lv_at hl 2 rfl) ?_
                refine va_get (D := G) (ci := 1) (v := .ref (ad 3)) (C := RX2) (T := TX2) (N := 12) hx hb hts in_X2 hown hK hP 0 rfl rfl 3 (by decide) (hts _ q162) (fun _ h9 => h9) rfl dX2_remove_18 ?_
                refine lv_iload_n hx hb dX2_remove_21 rfl (lv_at hl 1 rfl) ?_
                refine rr_zald (B := Th) (k := i) hx hb hK hP 3 2 rfl rfl (by omega) (by decide) dX2_remove_22 ?_
                refine rr_ifeq_b (tgt := 108) hx hb dX2_remove_23 (by decide) (fun c3 => ?_) (fun c3 => ?_)
                · rw [hth] at c3
                  cases c3
                · rw [show 2 ^ i - k = (2 ^ i - (k + 1)) + 1 by omega] at e2
                  refine lv_iload_n hx hb dX2_remove_26 rfl (lv_at hl 1 rfl) ?_
                  refine so_M (i := i) hx hb hml hown hts (by omega) (by rw [hR]; exact ⟨by decide, by decide⟩) hl.1 (Nat.le_of_ble_eq_true rfl) dX2_remove_27 ?_
                  refine lv_iload_n hx hb dX2_remove_30 rfl (lv_at hl 0 rfl) ?_
                  refine rr_nadd hx hb dX2_remove_31 ?_
                  refine lv_istore (lv' := [(4, .int (nI ((2 ^ i - 1) + k))), (3, .int (nI k)), (2, .int (nI i)), (0, .ref (ad 0)), (1, .int v)]) hx hb dX2_remove_32 hl (by decide) rfl (fun ls hl => ?_)
                  refine lv_aload_n hx hb dX2_remove_34 rfl (lv_at hl 3 rfl) ?_
                  refine va_get (D := G) (ci := 1) (v := .ref (ad 2)) (C := RX2) (T := TX2) (N := 12) hx hb hts in_X2 hown hK hP 0 rfl rfl 2 (by decide) (hts _ q161) (fun _ h9 => h9) rfl dX2_remove_35 ?_
                  refine lv_iload hx hb dX2_remove_38 (lv_at hl 0 rfl) ?_
                  refine rr_zald (B := Li) (k := (2 ^ i - 1) + k) hx hb hK hP 2 1 rfl rfl (by omega) (by decide) dX2_remove_40 ?_
                  refine rr_ifeq_b (tgt := 102) hx hb dX2_remove_41 (by decide) (fun c4 => ?_) (fun c4 => ?_)
                  · rw [liv_no (fun h => by have h9 := h.2; rw [c4] at h9; cases h9)] at e2
                    refine lv_iinc (v := (nI (k + 1))) (lv' := [(3, .int (nI (k + 1))), (4, .int (nI ((2 ^ i - 1) + k))), (2, .int (nI i)), (0, .ref (ad 0)), (1, .int v)]) hx hb dX2_remove_102 hl (k := 1) rfl (rr_inc k) (by decide) rfl (fun ls hl => ?_)
                    refine lv_goto (tgt := 10) hx hb dX2_remove_105 (by decide) ?_
                    exact ih2 (k + 1) (by omega) (by omega) e2 _ _ hP hD hS _ (lv_sub hl [0, 2, 3, 4] rfl)
                  · refine lv_aload_n hx hb dX2_remove_44 rfl (lv_at hl 3 rfl) ?_
                    refine va_get (D := G) (ci := 1) (v := .ref (ad 1)) (C := RX2) (T := TX2) (N := 12) hx hb hts in_X2 hown hK hP 0 rfl rfl 1 (by decide) (hts _ q160) (fun _ h9 => h9) rfl dX2_remove_45 ?_
                    refine lv_iload hx hb dX2_remove_48 (lv_at hl 0 rfl) ?_
                    refine rr_iald (f := Va) (k := (2 ^ i - 1) + k) hx hb hK hP 1 0 rfl rfl (by omega) (by decide) dX2_remove_50 ?_
                    refine lv_iload_n hx hb dX2_remove_51 rfl (lv_at hl 4 rfl) ?_
                    refine lv_icmp_ne (tgt := 102) hx hb dX2_remove_52 (by decide) (fun c5 => ?_) (fun c5 => ?_)
                    · rw [liv_no (fun h => c5 h.1)] at e2
                      refine lv_iinc (v := (nI (k + 1))) (lv' := [(3, .int (nI (k + 1))), (4, .int (nI ((2 ^ i - 1) + k))), (2, .int (nI i)), (0, .ref (ad 0)), (1, .int v)]) hx hb dX2_remove_102 hl (k := 1) rfl (rr_inc k) (by decide) rfl (fun ls hl => ?_)
                      refine lv_goto (tgt := 10) hx hb dX2_remove_105 (by decide) ?_
                      exact ih2 (k + 1) (by omega) (by omega) e2 _ _ hP hD hS _ (lv_sub hl [0, 2, 3, 4] rfl)
                    · rw [liv_yes c5 c4] at e2
                      rw [fnd_yes e2.symm] at e1
                      have e1 : 2 ^ i - 1 + k = p0 := Option.some.inj e1
                      subst e1
                      have hk := fb_ct_upd Li false (i := 2 ^ i - 1 + k) (n := 1023) (by omega)
                      rw [c4, if_pos rfl] at hk
                      have hsz2 : sz - 1 = fb_ct (va_up Li (2 ^ i - 1 + k) false) 1023 := by
                        show sz - 1 = fb_ct (fun q => if q = 2 ^ i - 1 + k then false else Li q) 1023
                        rw [if_neg (by decide)] at hk
                        omega
                      have hs1 : 1 ≤ sz := by rw [if_neg (by decide)] at hk; omega
                      refine lv_aload_n hx hb dX2_remove_55 rfl (lv_at hl 3 rfl) ?_
                      refine va_get (D := G) (ci := 1) (v := .ref (ad 2)) (C := RX2) (T := TX2) (N := 12) hx hb hts in_X2 hown hK hP 0 rfl rfl 2 (by decide) (hts _ q161) (fun _ h9 => h9) rfl dX2_remove_56 ?_
                      refine lv_iload hx hb dX2_remove_59 (lv_at hl 0 rfl) ?_
                      refine lv_iconst (v := (bI false)) hx hb dX2_remove_61 (by decide +kernel) ?_
                      refine rr_zast (B := Li) (k := (2 ^ i - 1) + k) hx hb hK hP hD hS 2 1 rfl rfl (by omega) (by decide) dX2_remove_62 (fun H locs hP hD hS => ?_)
                      have hP : va_P G clR (WM ad ca cp Va (va_up Li ((2 ^ i - 1) + k) false) Th Ca Cl Sp Sl sz dd mv pb) H := hP
                      have hD : va_D A (WM ad ca cp Va (va_up Li ((2 ^ i - 1) + k) false) Th Ca Cl Sp Sl sz dd mv pb) := hD
                      refine lv_aload_n hx hb dX2_remove_63 rfl (lv_at hl 3 rfl) ?_
                      refine lv_dup hx hb dX2_remove_64 rfl ?_
                      refine va_get (D := G) (ci := 1) (v := .int (nI sz)) (C := RX2) (T := TX2) (N := 12) hx hb hts in_X2 hown hK hP 0 rfl rfl 8 (by decide) (hts _ q167) (fun _ h9 => h9) rfl dX2_remove_65 ?_
                      refine lv_iconst (v := (nI 1)) hx hb dX2_remove_68 (by decide +kernel) ?_
                      refine rr_nsub hx hb dX2_remove_69 hs1 ?_
                      refine va_put (D := G) (ci := 1) (v := .int (nI (sz - 1))) (ty := .int) (C := RX2) (T := TX2) (N := 12) hx hb hts in_X2 tyX2 tyX2_ok nmX2 hown hK hP hD hS 0 rfl rfl 8 (by decide) (hts _ q167) (fun _ h9 => h9) rfl (by decide +kernel) rfl rfl (Nat.le_of_ble_eq_true rfl) dX2_remove_70 (fun H locs hP hD hS => ?_)
                      have hP : va_P G clR (WM ad ca cp Va (va_up Li ((2 ^ i - 1) + k) false) Th Ca Cl Sp Sl (sz - 1) dd mv pb) H := hP
                      have hD : va_D A (WM ad ca cp Va (va_up Li ((2 ^ i - 1) + k) false) Th Ca Cl Sp Sl (sz - 1) dd mv pb) := hD
                      refine lv_aload_n hx hb dX2_remove_73 rfl (lv_at hl 3 rfl) ?_
                      refine lv_dup hx hb dX2_remove_74 rfl ?_
                      refine va_get (D := G) (ci := 1) (v := .int (nI dd)) (C := RX2) (T := TX2) (N := 12) hx hb hts in_X2 hown hK hP 0 rfl rfl 9 (by decide) (hts _ q168) (fun _ h9 => h9) rfl dX2_remove_75 ?_
                      refine lv_iconst (v := (nI 1)) hx hb dX2_remove_78 (by decide +kernel) ?_
                      refine rr_nadd hx hb dX2_remove_79 ?_
                      refine va_put (D := G) (ci := 1) (v := .int (nI (dd + 1))) (ty := .int) (C := RX2) (T := TX2) (N := 12) hx hb hts in_X2 tyX2 tyX2_ok nmX2 hown hK hP hD hS 0 rfl rfl 9 (by decide) (hts _ q168) (fun _ h9 => h9) rfl (by decide +kernel) rfl rfl (Nat.le_of_ble_eq_true rfl) dX2_remove_80 (fun H locs hP hD hS => ?_)
                      have hP : va_P G clR (WM ad ca cp Va (va_up Li ((2 ^ i - 1) + k) false) Th Ca Cl Sp Sl (sz - 1) (dd + 1) mv pb) H := hP
                      have hD : va_D A (WM ad ca cp Va (va_up Li ((2 ^ i - 1) + k) false) Th Ca Cl Sp Sl (sz - 1) (dd + 1) mv pb) := hD
                      refine lv_aload_n hx hb dX2_remove_83 rfl (lv_at hl 3 rfl) ?_
                      refine va_get (D := G) (ci := 1) (v := .int (nI (dd + 1))) (C := RX2) (T := TX2) (N := 12) hx hb hts in_X2 hown hK hP 0 rfl rfl 9 (by decide) (hts _ q168) (fun _ h9 => h9) rfl dX2_remove_84 ?_
                      refine lv_aload_n hx hb dX2_remove_87 rfl (lv_at hl 3 rfl) ?_
                      refine va_get (D := G) (ci := 1) (v := .int (nI (sz - 1))) (C := RX2) (T := TX2) (N := 12) hx hb hts in_X2 hown hK hP 0 rfl rfl 8 (by decide) (hts _ q167) (fun _ h9 => h9) rfl dX2_remove_88 ?_
                      refine rr_icmp_le (tgt := 100) hx hb dX2_remove_91 (by decide) (by omega) (by omega) (fun c6 => ?_) (fun c6 => ?_)
                      · exact absurd c6 hc
                      · refine lv_aload_n hx hb dX2_remove_94 rfl (lv_at hl 3 rfl) ?_
                        refine sf_calli (C := RX2) (As := []) (rest := []) ⟨hx, hb, hml, hown, hts⟩ (metX2_build l G ad ca cp Va (va_up Li (2 ^ i - 1 + k) false) Th Ca Cl Sp Sl (sz - 1) (dd + 1) mv pb hsz2) (cwV 0 hts (lw_V q215 q217 qs9 q14 q218) rfl rfl rfl (by decide +kernel) (by rw [hR]; exact ⟨by decide, by decide⟩)) hK hP hD hS hA rfl rfl rfl hl.1 rfl (Nat.le_of_ble_eq_true rfl) dX2_remove_95 ⟨Nat.zero_le _, Nat.zero_le _⟩ (fun r u H locs hpo hP hD hS => ?_)
                        have hP : va_P G clR (WM ad ca cp (u.1) (u.2.1) (u.2.2.1) (u.2.2.2) Cl Sp Sl (sz - 1) 0 (mv + (sz - 1)) pb) H := hP
                        have hD : va_D A (WM ad ca cp (u.1) (u.2.1) (u.2.2.1) (u.2.2.2) Cl Sp Sl (sz - 1) 0 (mv + (sz - 1)) pb) := hD
                        refine lv_istore (lv' := [(5, .int r), (4, .int (nI ((2 ^ i - 1) + k))), (3, .int (nI k)), (2, .int (nI i)), (0, .ref (ad 0)), (1, .int v)]) hx hb dX2_remove_98 hl (by decide) rfl (fun ls hl => ?_)
                        refine lv_iconst (v := (bI true)) hx hb dX2_remove_100 (by decide +kernel) ?_
                        exact hret 101 _ _ _ _ u dX2_remove_101 ⟨rfl, hpo.2⟩ hP hD hS
          refine lv_iconst (v := (nI 0)) hx hb dX2_remove_8 (by decide +kernel) ?_
          refine lv_istore_n (lv' := [(3, .int (nI 0)), (2, .int (nI i)), (0, .ref (ad 0)), (1, .int v)]) hx hb dX2_remove_9 rfl hl (by decide) rfl (fun ls hl => ?_)
          exact inn (2 ^ i + 1) 0 (by omega) (Nat.zero_le _) (by rw [hlen]; rfl) _ _ hP hD hS _ (lv_sub hl [0, 1, 2, 3] rfl)
  refine lv_iconst (v := (nI 0)) hx hb dX2_remove_0 (by decide +kernel) ?_
  refine lv_istore_n (lv' := [(2, .int (nI 0)), (0, .ref (ad 0)), (1, .int v)]) hx hb dX2_remove_1 rfl hl (by decide) rfl (fun ls hl => ?_)
  exact loop 11 0 (by omega) (by omega) hf _ _ hP hD hS _ (lv_sub hl [0, 1, 2] rfl)
end
section
/-! the class and the reference hold the same -/
set_option maxRecDepth 100000
abbrev ln_ (Th : Nat → Bool) : Nat → Nat := fun i => if Th i then 2 ^ i else 0
/-- all but the bound on the dead -/
def rel0 (cp : Nat) (Ar : Nat → Int32) (De : Nat → Bool) (Ln : Nat → Nat) (Va : Nat → Int32) (Li Th : Nat → Bool) (sz dd : Nat) : Prop :=
  (∀ i, i < 10 → Ln i = ln_ Th i) ∧ (∀ i, i < 10 → Th i = true → ∀ k, k < 2 ^ i → Ar (2 ^ i - 1 + k) = Va (2 ^ i - 1 + k) ∧ De (2 ^ i - 1 + k) = !Li (2 ^ i - 1 + k)) ∧ (∀ i, i < 10 → Th i = false → ∀ k, k < 2 ^ i → Li (2 ^ i - 1 + k) = false) ∧ (∀ i, i < 10 → Th i = true → srt (fun k => Va (2 ^ i - 1 + k)) (2 ^ i)) ∧ sz = fb_ct Li 1023 ∧ sz + dd = fb_sm (ln_ Th) 10 ∧ sz ≤ cp ∧ cp ≤ 256
def rel (cp : Nat) (Ar : Nat → Int32) (De : Nat → Bool) (Ln : Nat → Nat) (Va : Nat → Int32) (Li Th : Nat → Bool) (sz dd : Nat) : Prop := rel0 cp Ar De Ln Va Li Th sz dd ∧ dd ≤ sz
section Rel
variable {cp : Nat} {Ar : Nat → Int32} {De : Nat → Bool} {Ln : Nat → Nat} {Va : Nat → Int32} {Li Th : Nat → Bool} {sz dd : Nat}
theorem ln_le (Th : Nat → Bool) (i : Nat) : ln_ Th i ≤ 2 ^ i := by
  show (if Th i then 2 ^ i else 0) ≤ 2 ^ i
  split
  · exact Nat.le_refl _
  · exact Nat.zero_le _
theorem ln_t {i : Nat} (h : Th i = true) : ln_ Th i = 2 ^ i := if_pos h
theorem ln_f {i : Nat} (h : Th i = false) : ln_ Th i = 0 := if_neg (by rw [h]; decide)
theorem ln_in {i k : Nat} (h : k < ln_ Th i) : Th i = true := by
  cases hh : Th i with
  | true => rfl
  | false => rw [ln_f hh] at h; omega
theorem rel_len (h : rel0 cp Ar De Ln Va Li Th sz dd) : ∀ j, j < 10 → Ln j ≤ 2 ^ j := fun j hj => by rw [h.1 j hj]; exact ln_le Th j
theorem rel_at (h : rel0 cp Ar De Ln Va Li Th sz dd) : ∀ j, j < 10 → ∀ k, k < Ln j → Ar (2 ^ j - 1 + k) = Va (2 ^ j - 1 + k) ∧ (!De (2 ^ j - 1 + k)) = Li (2 ^ j - 1 + k) := by
  intro j hj k hk
  rw [h.1 j hj] at hk
  have ht := ln_in hk
  rw [ln_t ht] at hk
  have := h.2.1 j hj ht k hk
  exact ⟨this.1, by rw [this.2, Bool.not_not]⟩
theorem rel_b (h : rel0 cp Ar De Ln Va Li Th sz dd) : bX Ar De Ln = bM Va Li Th := by
  funext bd
  exact bel_cong 10 h.1 (rel_at h)
theorem rel_fnd (h : rel0 cp Ar De Ln Va Li Th sz dd) (v : Int32) : fnd Ar (fun p => !De p) Ln v 10 0 = fnd Va Li (fun i => if Th i then 2 ^ i else 0) v 10 0 := fnd_cong 10 0 (fun j hj => h.1 j (by omega)) (fun j hj => rel_at h j (by omega))
/-- counts of what is there, by the class and by the reference -/
theorem rel_ct (h : rel0 cp Ar De Ln Va Li Th sz dd) {P P' : Nat → Bool} (h1 : ∀ j, j < 10 → ∀ k, k < Ln j → P (2 ^ j - 1 + k) = P' (2 ^ j - 1 + k)) (h2 : ∀ p, Li p = false → P' p = false) : nr P Ln 10 = fb_ct P' 1023 := by
  have e1 : fb_ct P' 1023 = nr P' (fun i => 2 ^ i) 10 := nr_all P' 10
  rw [e1, nr_there (th := Th) (fun i hi ht k hk => h2 _ (h.2.2.1 i hi ht k hk))]
  exact nr_cong h.1 h1
theorem rel_nr (h : rel0 cp Ar De Ln Va Li Th sz dd) : sz = nr (fun p => !De p) Ln 10 := by
  rw [rel_ct h (P' := Li) (fun j hj k hk => (rel_at h j hj k hk).2) (fun p hp => hp)]
  exact h.2.2.2.2.1
theorem rel_leq (h : rel0 cp Ar De Ln Va Li Th sz dd) (v : Int32) : nr (leq Ar (fun p => !De p) v) Ln 10 = fb_ct (leq Va Li v) 1023 := by
  refine rel_ct h (fun j hj k hk => ?_) (fun p hp => ?_)
  · have := rel_at h j hj k hk
    unfold leq
    dsimp only
    rw [this.1, this.2]
  · unfold leq
    rw [hp, Bool.false_and]
theorem sm_pow : ∀ j, fb_sm (fun i => 2 ^ i) j = 2 ^ j - 1
  | 0 => rfl
  | j + 1 => by
    have := Nat.two_pow_pos j
    rw [fb_sm_succ, sm_pow j, ← pow_2]
    omega
theorem rel_first (h : rel cp Ar De Ln Va Li Th sz dd) : ∃ j0, j0 < 10 ∧ Th j0 = false ∧ ∀ i, i < j0 → Th i = true := by
  obtain ⟨⟨h1, h2, h3, h4, h5, h6, h7, h8⟩, h9⟩ := h
  have hex : ∃ i, i < 10 ∧ Th i = false := by
    apply Classical.byContradiction
    intro hn
    have hall : ∀ i, i < 10 → ln_ Th i = (fun i => 2 ^ i) i := fun i hi => by
      cases ht : Th i with
      | true => exact ln_t ht
      | false => exact absurd ⟨i, hi, ht⟩ hn
    have := fb_sm_cong hall
    rw [sm_pow] at this
    omega
  obtain ⟨j0, ⟨hj, hf⟩, hmin⟩ := pk_least (fun i => i < 10 ∧ Th i = false) hex
  refine ⟨j0, hj, hf, fun i hi => ?_⟩
  cases ht : Th i with
  | true => rfl
  | false => exact absurd ⟨by omega, ht⟩ (hmin i hi)
theorem sm3 (f : Nat → Nat) {j : Nat} (hj : j < 10) : fb_sm f 10 = fb_sm f j + f j + fb_sm (fun k => f (j + 1 + k)) (9 - j) := by
  have := fb_sm_split f (j + 1) (9 - j)
  rw [show j + 1 + (9 - j) = 10 by omega] at this
  rw [this, fb_sm_succ]
theorem sm_0 {f : Nat → Nat} {n : Nat} (h : ∀ k, k < n → f k = 0) : fb_sm f n = 0 := by
  rw [fb_sm_cong (g := fun _ => 0) h, fb_sm_const, Nat.mul_zero]
/-- one more is put in -/
theorem rel_insert (h : rel cp Ar De Ln Va Li Th sz dd) {v : Int32} {j0 : Nat} (hj : j0 < 10) (hf : Th j0 = false) (hall : ∀ i, i < j0 → Th i = true) (hcp : sz ≠ cp) {L' : Nat → Nat} {Li' Th' : Nat → Bool}
    (hL : ∀ i, i < 10 → L' i = if i < j0 then 0 else if i = j0 then 2 ^ j0 else Ln i) (hT : ∀ i, Th' i = if i < j0 then false else if i = j0 then true else Th i) (hLi : ∀ i, i < 10 → ∀ k, k < 2 ^ i → Li' (2 ^ i - 1 + k) = if i < j0 then false else if i = j0 then (cas Va Li v j0 k).2 else Li (2 ^ i - 1 + k)) :
    rel cp (fb_put Ar (fun k => (cas Ar (fun p => !De p) v j0 k).1) (2 ^ j0 - 1) (2 ^ j0)) (fb_put De (fun k => !(cas Ar (fun p => !De p) v j0 k).2) (2 ^ j0 - 1) (2 ^ j0)) L' (fb_put Va (fun k => (cas Va Li v j0 k).1) (2 ^ j0 - 1) (2 ^ j0)) Li' Th' (sz + 1) dd := by
  have hr := h
  obtain ⟨⟨h1, h2, h3, h4, h5, h6, h7, h8⟩, h9⟩ := h
  have eC : cas Ar (fun p => !De p) v j0 = cas Va Li v j0 := cas_cong j0 (fun i hi k hk => rel_at hr.1 i (by omega) k (by rw [h1 i (by omega), ln_t (hall i hi)]; exact hk))
  rw [eC]
  have Tlt : ∀ i, i < j0 → Th' i = false := fun i hi => by rw [hT i, if_pos hi]
  have Teq : Th' j0 = true := by rw [hT j0, if_neg (Nat.lt_irrefl _), if_pos rfl]
  have Tgt : ∀ i, j0 < i → Th' i = Th i := fun i hi => by rw [hT i, if_neg (by omega), if_neg (by omega)]
  have Leq : ∀ k, k < 2 ^ j0 → Li' (2 ^ j0 - 1 + k) = (cas Va Li v j0 k).2 := fun k hk => by rw [hLi j0 hj k hk, if_neg (Nat.lt_irrefl _), if_pos rfl]
  have Llt : ∀ i, i < j0 → ∀ k, k < 2 ^ i → Li' (2 ^ i - 1 + k) = false := fun i hi k hk => by rw [hLi i (by omega) k hk, if_pos hi]
  have Lgt : ∀ i, j0 < i → i < 10 → ∀ k, k < 2 ^ i → Li' (2 ^ i - 1 + k) = Li (2 ^ i - 1 + k) := fun i hi hi2 k hk => by rw [hLi i hi2 k hk, if_neg (by omega), if_neg (by omega)]
  refine ⟨⟨fun i hi => ?_, fun i hi ht k hk => ?_, fun i hi ht k hk => ?_, fun i hi ht => ?_, ?_, ?_, by omega, h8⟩, by omega⟩
  · rw [hL i hi]
    rcases Nat.lt_trichotomy i j0 with q | q | q
    · rw [if_pos q, ln_f (Tlt i q)]
    · subst q
      rw [if_neg (Nat.lt_irrefl _), if_pos rfl, ln_t Teq]
    · rw [if_neg (by omega), if_neg (by omega), h1 i hi]
      show (if Th i then 2 ^ i else 0) = (if Th' i then 2 ^ i else 0)
      rw [Tgt i q]
  · rcases Nat.lt_trichotomy i j0 with q | q | q
    · rw [Tlt i q] at ht; cases ht
    · subst q
      rw [put_run hk, put_run hk, put_run hk, Leq k hk]
      exact ⟨rfl, rfl⟩
    · rw [put_oth hk (by omega), put_oth hk (by omega), put_oth hk (by omega), Lgt i q hi k hk]
      rw [Tgt i q] at ht
      exact h2 i hi ht k hk
  · rcases Nat.lt_trichotomy i j0 with q | q | q
    · exact Llt i q k hk
    · subst q
      rw [Teq] at ht; cases ht
    · rw [Lgt i q hi k hk]
      rw [Tgt i q] at ht
      exact h3 i hi ht k hk
  · rcases Nat.lt_trichotomy i j0 with q | q | q
    · rw [Tlt i q] at ht; cases ht
    · subst q
      exact srt_cong (cas_srt (Lv := Li) (v := v) i (fun i2 hi2 => h4 i2 (by omega) (hall i2 hi2))) (fun k hk => put_run hk)
    · rw [Tgt i q] at ht
      exact srt_cong (h4 i hi ht) (fun k hk => put_oth hk (by omega))
  · have e1 : fb_ct Li' 1023 = nr Li' (fun i => 2 ^ i) 10 := nr_all Li' 10
    have e2 : fb_ct Li 1023 = nr Li (fun i => 2 ^ i) 10 := nr_all Li 10
    have s1 := sm3 (fun i => fb_ct (fun k => Li' (2 ^ i - 1 + k)) (2 ^ i)) hj
    have s2 := sm3 (fun i => fb_ct (fun k => Li (2 ^ i - 1 + k)) (2 ^ i)) hj
    have a1 : fb_sm (fun i => fb_ct (fun k => Li' (2 ^ i - 1 + k)) (2 ^ i)) j0 = 0 := sm_0 (fun i hi => fb_ct_zero.mpr (Llt i hi))
    have a2 : fb_ct (fun k => Li' (2 ^ j0 - 1 + k)) (2 ^ j0) = fb_ct (fun k => (cas Va Li v j0 k).2) (2 ^ j0) := fb_ct_cong Leq
    rw [cas_ct] at a2
    have a3 : fb_ct (fun k => Li (2 ^ j0 - 1 + k)) (2 ^ j0) = 0 := fb_ct_zero.mpr (h3 j0 hj hf)
    have a4 : fb_sm (fun k => (fun i => fb_ct (fun k => Li' (2 ^ i - 1 + k)) (2 ^ i)) (j0 + 1 + k)) (9 - j0) = fb_sm (fun k => (fun i => fb_ct (fun k => Li (2 ^ i - 1 + k)) (2 ^ i)) (j0 + 1 + k)) (9 - j0) := fb_sm_cong (fun i hi => fb_ct_cong (Lgt (j0 + 1 + i) (by omega) (by omega)))
    have b1 : nr Li' (fun i => 2 ^ i) 10 = fb_sm (fun i => fb_ct (fun k => Li' (2 ^ i - 1 + k)) (2 ^ i)) 10 := rfl
    have b2 : nr Li (fun i => 2 ^ i) 10 = fb_sm (fun i => fb_ct (fun k => Li (2 ^ i - 1 + k)) (2 ^ i)) 10 := rfl
    rw [e1, b1, s1, a1, a4]
    rw [h5, e2, b2, s2]
    dsimp only
    rw [a2, a3]
    omega
  · have s1 := sm3 (ln_ Th') hj
    have s2 := sm3 (ln_ Th) hj
    have a1 : fb_sm (ln_ Th') j0 = 0 := sm_0 (fun i hi => ln_f (Tlt i hi))
    have a2 : fb_sm (ln_ Th) j0 = 2 ^ j0 - 1 := by
      rw [← sm_pow]
      exact fb_sm_cong (fun i hi => ln_t (hall i hi))
    have a4 : fb_sm (fun k => ln_ Th' (j0 + 1 + k)) (9 - j0) = fb_sm (fun k => ln_ Th (j0 + 1 + k)) (9 - j0) := fb_sm_cong (fun i hi => by
      show (if Th' (j0 + 1 + i) then 2 ^ (j0 + 1 + i) else 0) = (if Th (j0 + 1 + i) then 2 ^ (j0 + 1 + i) else 0)
      rw [Tgt (j0 + 1 + i) (by omega)])
    rw [s1, a1, ln_t Teq, a4]
    rw [s2, a2, ln_f hf] at h6
    have := Nat.two_pow_pos j0
    omega
/-- one is taken out -/
theorem rel_kill (h : rel0 cp Ar De Ln Va Li Th sz dd) {v : Int32} {p0 : Nat} (hp : fnd Ar (fun p => !De p) Ln v 10 0 = some p0) : 1 ≤ sz ∧ rel0 cp Ar (va_up De p0 true) Ln Va (va_up Li p0 false) Th (sz - 1) (dd + 1) := by
  have hr := h
  obtain ⟨h1, h2, h3, h4, h5, h6, h7, h8⟩ := h
  obtain ⟨j, k, hj, hk, e, hl⟩ := fnd_at hp
  have hj : j < 10 := by omega
  have hL := rel_len hr j hj
  have hpw := rr_pow hj
  have hl2 : Li p0 = true := by
    have := (rel_at hr j hj k hk).2
    rw [← e] at this
    rw [← this]
    exact hl
  have hu := fb_ct_upd Li false (i := p0) (n := 1023) (by omega)
  rw [hl2, if_pos rfl, if_neg (by decide), ← h5] at hu
  refine ⟨by omega, h1, fun i hi ht k hk => ?_, fun i hi ht k hk => ?_, h4, ?_, by omega, by omega, h8⟩
  · have := h2 i hi ht k hk
    refine ⟨this.1, ?_⟩
    by_cases z : 2 ^ i - 1 + k = p0
    · rw [z, up_s, up_s]; rfl
    · rw [up_n z, up_n z]; exact this.2
  · by_cases z : 2 ^ i - 1 + k = p0
    · rw [z, up_s]
    · rw [up_n z]; exact h3 i hi ht k hk
  · show sz - 1 = fb_ct (fun q => if q = p0 then false else Li q) 1023
    omega
/-- all is made anew -/
theorem rel_build (h : rel0 cp Ar De Ln Va Li Th sz dd) {g g' : Nat → Int32} {A' : Nat → Int32} {D' : Nat → Bool} {L' : Nat → Nat} {V' : Nat → Int32} {Li' Th' : Nat → Bool}
    (hg : srt g sz) (hc : ∀ v : Int32, fb_ct (fun q => decide (g q ≤ v)) sz = nr (leq Ar (fun p => !De p) v) Ln 10) (hB : rbX g sz 0 A' D' L') (hg' : srt g' sz) (hc' : ∀ v : Int32, fb_ct (fun q => decide (g' q ≤ v)) sz = fb_ct (leq Va Li v) 1023) (hB' : rbM g' sz 0 V' Li' Th') : rel cp A' D' L' V' Li' Th' sz 0 := by
  have hr := h
  obtain ⟨h1, h2, h3, h4, h5, h6, h7, h8⟩ := h
  have hu := srt_uniq hg hg' (fun v => by rw [hc v, hc' v]; exact rel_leq hr v)
  have T : ∀ i, i < 10 → Th' i = bt sz i := fun i hi => (hB' i hi (Nat.zero_le _)).1
  have hln : ∀ i, i < 10 → ln_ Th' i = (fun i => if bt sz i then 2 ^ i else 0) i := fun i hi => by
    show (if Th' i then 2 ^ i else 0) = (if bt sz i then 2 ^ i else 0)
    rw [T i hi]
  have hsum := bits_10 (n := sz) (by omega)
  refine ⟨⟨fun i hi => ?_, fun i hi ht k hk => ?_, fun i hi ht k hk => ?_, fun i hi ht => ?_, ?_, ?_, h7, h8⟩, Nat.zero_le _⟩
  · rw [((hB i hi).2 (Nat.zero_le _)).1, hln i hi]
  · rw [T i hi] at ht
    have a := ((hB i hi).2 (Nat.zero_le _)).2 ht k hk
    have b := (hB' i hi (Nat.zero_le _)).2 k hk
    have ho := off_bit ht
    rw [a.1, a.2, b.1, b.2 ht, hu _ (by omega), ht]
    exact ⟨rfl, rfl⟩
  · rw [T i hi] at ht
    rw [((hB' i hi (Nat.zero_le _)).2 k hk).1, ht]
  · rw [T i hi] at ht
    have ho := off_bit ht
    refine fun k hk => ?_
    show V' (2 ^ i - 1 + k) ≤ V' (2 ^ i - 1 + (k + 1))
    rw [((hB' i hi (Nat.zero_le _)).2 k (by omega)).2 ht, ((hB' i hi (Nat.zero_le _)).2 (k + 1) hk).2 ht]
    exact hg' (off sz i + k) (by omega)
  · have e1 : fb_ct Li' 1023 = nr Li' (fun i => 2 ^ i) 10 := nr_all Li' 10
    rw [e1]
    have e2 : nr Li' (fun i => 2 ^ i) 10 = fb_sm (fun i => if bt sz i then 2 ^ i else 0) 10 := fb_sm_cong (fun i hi => by
      show fb_ct (fun k => Li' (2 ^ i - 1 + k)) (2 ^ i) = (if bt sz i then 2 ^ i else 0)
      cases hb : bt sz i with
      | true =>
        rw [if_pos rfl]
        exact fb_ct_all.mpr (fun k hk => by rw [((hB' i hi (Nat.zero_le _)).2 k hk).1, hb])
      | false =>
        rw [if_neg (by decide)]
        exact fb_ct_zero.mpr (fun k hk => by rw [((hB' i hi (Nat.zero_le _)).2 k hk).1, hb]))
    rw [e2, hsum]
  · rw [fb_sm_cong hln, hsum]
    rfl
/-- at the start -/
theorem rel_new {cp : Nat} (h : cp ≤ 256) : rel cp (fun _ => 0) (fun _ => false) (fun _ => 0) (fun _ => 0) (fun _ => false) (fun _ => false) 0 0 :=
  ⟨⟨fun i _ => rfl, fun i _ ht => (by cases ht), fun i _ _ k _ => rfl, fun i _ ht => (by cases ht), (fb_ct_zero.mpr (fun _ _ => rfl)).symm, (sm_0 (fun _ _ => rfl)).symm, Nat.zero_le _, h⟩, Nat.zero_le _⟩
theorem rel_cells (h : rel cp Ar De Ln Va Li Th sz dd) {k r1 r2 : Int32} (h1 : (k = -1 → r1 = nI (sz + dd - sz)) ∧ (k ≠ -1 → (k < 0 ∨ nI 10 ≤ k) → r1 = nI 0) ∧ (∀ j, j < 10 → k = nI j → r1 = nI (Ln j))) (h2 : (k = -1 → r2 = nI dd) ∧ (k ≠ -1 → (k < 0 ∨ nI 10 ≤ k) → r2 = nI 0) ∧ (∀ j, j < 10 → k = nI j → r2 = nI (if Th j then 2 ^ j else 0))) : r1 = r2 := by
  by_cases e : k = -1
  · rw [h1.1 e, h2.1 e, Nat.add_sub_cancel_left]
  · rcases pk_ix k (n := 10) (by decide) with q | q | ⟨j, hj, q⟩
    · rw [h1.2.1 e (Or.inl q), h2.2.1 e (Or.inl q)]
    · rw [h1.2.1 e (Or.inr q), h2.2.1 e (Or.inr q)]
    · rw [h1.2.2 j hj q, h2.2.2 j hj q, h.1.1 j hj]
theorem rel_cell (h : rel cp Ar De Ln Va Li Th sz dd) {k k2 r1 r2 : Int32} (h1 : ((k < 0 ∨ nI 10 ≤ k ∨ k2 < 0) → r1 = nI 0) ∧ (∀ j q, j < 10 → q < 2147483648 → k = nI j → k2 = nI q → r1 = if q < Ln j then Ar (2 ^ j - 1 + q) else nI 0)) (h2 : ((k < 0 ∨ nI 10 ≤ k ∨ k2 < 0) → r2 = nI 0) ∧ (∀ j q, j < 10 → q < 2147483648 → k = nI j → k2 = nI q → r2 = if q < (if Th j then 2 ^ j else 0) then Va (2 ^ j - 1 + q) else nI 0)) : r1 = r2 := by
  rcases pk_ix k (n := 10) (by decide) with q | q | ⟨j, hj, q⟩
  · rw [h1.1 (Or.inl q), h2.1 (Or.inl q)]
  · rw [h1.1 (Or.inr (Or.inl q)), h2.1 (Or.inr (Or.inl q))]
  · by_cases e : k2 < 0
    · rw [h1.1 (Or.inr (Or.inr e)), h2.1 (Or.inr (Or.inr e))]
    · obtain ⟨n, hn, en⟩ := nI_of e
      rw [h1.2 j n hj hn q en, h2.2 j n hj hn q en]
      by_cases z : n < Ln j
      · rw [if_pos z, (rel_at h.1 j hj n z).1]
        rw [h.1.1 j hj] at z
        rw [if_pos z]
      · rw [if_neg z]
        rw [h.1.1 j hj] at z
        rw [if_neg z]
end Rel
end
section
/-! the constructors, and the law's own reading of its script -/
set_option maxRecDepth 100000
def capN (v : Int32) : Nat := if ¬ nI 1 ≤ v then 1 else if ¬ v ≤ nI 256 then 256 else v.toNatClampNeg
theorem capN_1 {v : Int32} (h : ¬ nI 1 ≤ v) : capN v = 1 := by unfold capN; rw [if_pos h]
theorem capN_2 {v : Int32} (h : nI 1 ≤ v) (h2 : ¬ v ≤ nI 256) : capN v = 256 := by unfold capN; rw [if_neg (fun q => q h), if_pos h2]
theorem capN_3 {v : Int32} (h : nI 1 ≤ v) (h2 : v ≤ nI 256) : v = nI (capN v) ∧ capN v ≤ 256 := by
  have e : capN v = v.toNatClampNeg := by unfold capN; rw [if_neg (fun q => q h), if_neg (fun q => q h2)]
  have h0 : ¬ v < 0 := by
    rw [Int32.le_iff_toInt_le, nI_toInt (by decide)] at h
    rw [Int32.lt_iff_toInt_lt, Int32.toInt_zero]
    omega
  obtain ⟨j, hj, ev⟩ := nI_of h0
  rw [e, ev, nI_clamp hj]
  rw [ev] at h2
  exact ⟨rfl, (nI_leI hj (by decide)).mp h2⟩
theorem capN_le (v : Int32) : capN v ≤ 256 := by
  by_cases h : nI 1 ≤ v
  · by_cases h2 : v ≤ nI 256
    · exact (capN_3 h h2).2
    · rw [capN_2 h h2]; decide
  · rw [capN_1 h]; decide
set_option maxHeartbeats 4000000 in
set_option maxRecDepth 100000 in
theorem metX1_init (l : Launch) (G : va_G) (h0 sz : Nat) (v : Int32) : Met l yX1_init (ws_ yX1_init cX1_init 2 none) ({ frames := 1, cells := 5, slots := 4106, locals := 40 }) (va_Pc [.ref h0, .int v] (fun U => U.heap.size = sz ∧ va_P G clR [(h0, .inr (0, [.null, .null, .null, .null, .null, .int 0, .int 0, .int 0, .int 0, .int 0]))] U.heap ∧ va_K G clR [] U ∧ va_D (fun _ => True) [(h0, .inr (0, [.null, .null, .null, .null, .null, .int 0, .int 0, .int 0, .int 0, .int 0]))])) (va_Qv (fun u : (Nat → Nat) × (Nat → ClassId) => u.1 0 = h0) (fun u t => va_P G clR (WX u.1 u.2 (capN v) (fun _ => 0) (fun _ => false) (fun _ => 0) (fun _ => 0) (fun _ => false) 0 0 0 0) t.heap ∧ va_K G clR (tyX u.2) t ∧ va_D (va_A [(h0, .inr (0, [.null, .null, .null, .null, .null, .int 0, .int 0, .int 0, .int 0, .int 0]))] sz) (WX u.1 u.2 (capN v) (fun _ => 0) (fun _ => false) (fun _ => 0) (fun _ => 0) (fun _ => false) 0 0 0 0)) (va_A [(h0, .inr (0, [.null, .null, .null, .null, .null, .int 0, .int 0, .int 0, .int 0, .int 0]))] sz)) 5 4106 (va_A [(h0, .inr (0, [.null, .null, .null, .null, .null, .int 0, .int 0, .int 0, .int 0, .int 0]))] sz) := by
  refine Met.ofW (cc := cX1_init) (maxL := 2) (ret := none) (by decide) rfl ?_
  intro p e s m args below meth c s₁ B hml hv
  obtain ⟨rfl, hsz, hP, hK, hD0⟩ := hv
  have hx := B.exec
  have hb := B.bytes
  have hr := B.returns
  have hts := atoms_spec (ws := ws_ yX1_init cX1_init 2 none) B.pre
  have hts : ∀ w ∈ lw_all, w.before _ s = true := fun w h => hts w (List.mem_cons_of_mem _ h)
  have hown : s.vm.findClass RX1 = some m.cls := findClass_of_methodNamed B.named
  have hlocks := B.notSynchronized
  have hin : meth.name = "<init>" := (name_of_methodNamed B.named B.method).1
  subst hsz
  have hD := hD0.self (sz := s.heap.size)
  generalize hAe : va_A [(h0, .inr (0, [.null, .null, .null, .null, .null, .int 0, .int 0, .int 0, .int 0, .int 0]))] s.heap.size = A at hD ⊢
  have hA : ∀ q : Nat, s.heap.size ≤ q → A q := fun q h => by rw [← hAe]; exact Or.inr h
  have hS : va_S A s.heap s.heap [] := va_S.rf
  have hP : va_P G clR [(h0, .inr (0, [.null, .null, .null, .null, .null, .int 0, .int 0, .int 0, .int 0, .int 0]))] s.heap := hP
  have hl := lv_entry ([.ref h0, .int v]) (n := 2) (Nat.le_of_ble_eq_true rfl)
  rw [lg_entry_eq]
  generalize (lg_sl ([.ref h0, .int v]) ++ List.replicate (2 - (lg_sl ([.ref h0, .int v])).length) Slot.unset).toArray = ls at hl ⊢
  have hl : lv_has ls 2 [(0, .ref h0), (1, .int v)] := hl
  refine lv_aload_n hx hb dX1_init_0 rfl (lv_at hl 0 rfl) ?_
  refine W.objInit hx hb hown (hts _ q20) (hts _ q21) (hts _ q22) rfl (by rw [hml]; exact hl.1) rfl dX1_init_1 (Nat.le_of_ble_eq_true rfl) (Nat.le_of_ble_eq_true rfl) ?_
  refine W.eq (g2 := F0 m 4 ls []) rfl ?_
  refine lv_aload_n hx hb dX1_init_4 rfl (lv_at hl 0 rfl) ?_
  refine lv_sipush (v := nI 1024) hx hb dX1_init_5 (by decide +kernel) ?_
  refine va_newa (atype := .int) (ty := .int) (N' := 1024) (a0 := (1024, .inl (fun _ => 0))) hx hb (hts _ q54) rfl hK hP hD hS hA (fun _ => rfl) (by decide +kernel) (by decide +kernel) (by decide +kernel) (Nat.le_of_ble_eq_true rfl) (Nat.le_of_ble_eq_true rfl) dX1_init_8 (fun a1 c1 H hK hP hD hS => ?_)
  have hP : va_P G clR [(h0, .inr (0, [.null, .null, .null, .null, .null, .int 0, .int 0, .int 0, .int 0, .int 0])), (a1, .inl (c1, 1024, .inl (fun _ => 0)))] H := hP
  have hD : va_D A [(h0, .inr (0, [.null, .null, .null, .null, .null, .int 0, .int 0, .int 0, .int 0, .int 0])), (a1, .inl (c1, 1024, .inl (fun _ => 0)))] := hD
  refine W.widen (k := 1) (n := 1024) (Nat.le_of_ble_eq_true rfl) (Nat.le_of_ble_eq_true rfl) ?_
  refine va_putF (D := G) (ci := 0) (v := .ref a1) (ty := .array .int) (C := RX1) (T := TX1) (N := 10) hx hb hts in_X1 tyX1 tyX1_ok nmX1 hown hK hP hD hS 0 rfl rfl 0 (by decide) (hts _ q23) (fun _ h9 => h9) rfl hin rfl (by decide +kernel) rfl rfl (Nat.le_of_ble_eq_true rfl) dX1_init_10 (fun H locs hP hD hS => ?_)
  have hP : va_P G clR [(h0, .inr (0, [.ref a1, .null, .null, .null, .null, .int 0, .int 0, .int 0, .int 0, .int 0])), (a1, .inl (c1, 1024, .inl (fun _ => 0)))] H := hP
  have hD : va_D A [(h0, .inr (0, [.ref a1, .null, .null, .null, .null, .int 0, .int 0, .int 0, .int 0, .int 0])), (a1, .inl (c1, 1024, .inl (fun _ => 0)))] := hD
  refine lv_aload_n hx hb dX1_init_13 rfl (lv_at hl 0 rfl) ?_
  refine lv_sipush (v := nI 1024) hx hb dX1_init_14 (by decide +kernel) ?_
  refine va_newa (atype := .boolean) (ty := .boolean) (N' := 1024) (a0 := (1024, .inl (zF (fun _ => false)))) hx hb (hts _ q55) rfl hK hP hD hS hA (fun _ => rfl) (by decide +kernel) (by decide +kernel) (by decide +kernel) (Nat.le_of_ble_eq_true rfl) (Nat.le_of_ble_eq_true rfl) dX1_init_17 (fun a2 c2 H hK hP hD hS => ?_)
  have hP : va_P G clR [(h0, .inr (0, [.ref a1, .null, .null, .null, .null, .int 0, .int 0, .int 0, .int 0, .int 0])), (a1, .inl (c1, 1024, .inl (fun _ => 0))), (a2, .inl (c2, 1024, .inl (zF (fun _ => false))))] H := hP
  have hD : va_D A [(h0, .inr (0, [.ref a1, .null, .null, .null, .null, .int 0, .int 0, .int 0, .int 0, .int 0])), (a1, .inl (c1, 1024, .inl (fun _ => 0))), (a2, .inl (c2, 1024, .inl (zF (fun _ => false))))] := hD
  refine W.widen (k := 2) (n := 2048) (Nat.le_of_ble_eq_true rfl) (Nat.le_of_ble_eq_true rfl) ?_
  refine va_putF (D := G) (ci := 0) (v := .ref a2) (ty := .array .boolean) (C := RX1) (T := TX1) (N := 10) hx hb hts in_X1 tyX1 tyX1_ok nmX1 hown hK hP hD hS 0 rfl rfl 1 (by decide) (hts _ q24) (fun _ h9 => h9) rfl hin rfl (by decide +kernel) rfl rfl (Nat.le_of_ble_eq_true rfl) dX1_init_19 (fun H locs hP hD hS => ?_)
  have hP : va_P G clR [(h0, .inr (0, [.ref a1, .ref a2, .null, .null, .null, .int 0, .int 0, .int 0, .int 0, .int 0])), (a1, .inl (c1, 1024, .inl (fun _ => 0))), (a2, .inl (c2, 1024, .inl (zF (fun _ => false))))] H := hP
  have hD : va_D A [(h0, .inr (0, [.ref a1, .ref a2, .null, .null, .null, .int 0, .int 0, .int 0, .int 0, .int 0])), (a1, .inl (c1, 1024, .inl (fun _ => 0))), (a2, .inl (c2, 1024, .inl (zF (fun _ => false))))] := hD
  refine lv_aload_n hx hb dX1_init_22 rfl (lv_at hl 0 rfl) ?_
  refine lv_bipush (v := nI 10) hx hb dX1_init_23 (by decide +kernel) ?_
  refine va_newa (atype := .int) (ty := .int) (N' := 10) (a0 := (10, .inl (nF (fun _ => 0)))) hx hb (hts _ q54) rfl hK hP hD hS hA (fun _ => rfl) (by decide +kernel) (by decide +kernel) (by decide +kernel) (Nat.le_of_ble_eq_true rfl) (Nat.le_of_ble_eq_true rfl) dX1_init_25 (fun a3 c3 H hK hP hD hS => ?_)
  have hP : va_P G clR [(h0, .inr (0, [.ref a1, .ref a2, .null, .null, .null, .int 0, .int 0, .int 0, .int 0, .int 0])), (a1, .inl (c1, 1024, .inl (fun _ => 0))), (a2, .inl (c2, 1024, .inl (zF (fun _ => false)))), (a3, .inl (c3, 10, .inl (nF (fun _ => 0))))] H := hP
  have hD : va_D A [(h0, .inr (0, [.ref a1, .ref a2, .null, .null, .null, .int 0, .int 0, .int 0, .int 0, .int 0])), (a1, .inl (c1, 1024, .inl (fun _ => 0))), (a2, .inl (c2, 1024, .inl (zF (fun _ => false)))), (a3, .inl (c3, 10, .inl (nF (fun _ => 0))))] := hD
  refine W.widen (k := 3) (n := 2058) (Nat.le_of_ble_eq_true rfl) (Nat.le_of_ble_eq_true rfl) ?_
  refine va_putF (D := G) (ci := 0) (v := .ref a3) (ty := .array .int) (C := RX1) (T := TX1) (N := 10) hx hb hts in_X1 tyX1 tyX1_ok nmX1 hown hK hP hD hS 0 rfl rfl 2 (by decide) (hts _ q25) (fun _ h9 => h9) rfl hin rfl (by decide +kernel) rfl rfl (Nat.le_of_ble_eq_true rfl) dX1_init_27 (fun H locs hP hD hS => ?_)
  have hP : va_P G clR [(h0, .inr (0, [.ref a1, .ref a2, .ref a3, .null, .null, .int 0, .int 0, .int 0, .int 0, .int 0])), (a1, .inl (c1, 1024, .inl (fun _ => 0))), (a2, .inl (c2, 1024, .inl (zF (fun _ => false)))), (a3, .inl (c3, 10, .inl (nF (fun _ => 0))))] H := hP
  have hD : va_D A [(h0, .inr (0, [.ref a1, .ref a2, .ref a3, .null, .null, .int 0, .int 0, .int 0, .int 0, .int 0])), (a1, .inl (c1, 1024, .inl (fun _ => 0))), (a2, .inl (c2, 1024, .inl (zF (fun _ => false)))), (a3, .inl (c3, 10, .inl (nF (fun _ => 0))))] := hD
  refine lv_aload_n hx hb dX1_init_30 rfl (lv_at hl 0 rfl) ?_
  refine lv_sipush (v := nI 1024) hx hb dX1_init_31 (by decide +kernel) ?_
  refine va_newa (atype := .int) (ty := .int) (N' := 1024) (a0 := (1024, .inl (fun _ => 0))) hx hb (hts _ q54) rfl hK hP hD hS hA (fun _ => rfl) (by decide +kernel) (by decide +kernel) (by decide +kernel) (Nat.le_of_ble_eq_true rfl) (Nat.le_of_ble_eq_true rfl) dX1_init_34 (fun a4 c4 H hK hP hD hS => ?_)
  have hP : va_P G clR [(h0, .inr (0, [.ref a1, .ref a2, .ref a3, .null, .null, .int 0, .int 0, .int 0, .int 0, .int 0])), (a1, .inl (c1, 1024, .inl (fun _ => 0))), (a2, .inl (c2, 1024, .inl (zF (fun _ => false)))), (a3, .inl (c3, 10, .inl (nF (fun _ => 0)))), (a4, .inl (c4, 1024, .inl (fun _ => 0)))] H := hP
  have hD : va_D A [(h0, .inr (0, [.ref a1, .ref a2, .ref a3, .null, .null, .int 0, .int 0, .int 0, .int 0, .int 0])), (a1, .inl (c1, 1024, .inl (fun _ => 0))), (a2, .inl (c2, 1024, .inl (zF (fun _ => false)))), (a3, .inl (c3, 10, .inl (nF (fun _ => 0)))), (a4, .inl (c4, 1024, .inl (fun _ => 0)))] := hD
  refine W.widen (k := 4) (n := 3082) (Nat.le_of_ble_eq_true rfl) (Nat.le_of_ble_eq_true rfl) ?_
  refine va_putF (D := G) (ci := 0) (v := .ref a4) (ty := .array .int) (C := RX1) (T := TX1) (N := 10) hx hb hts in_X1 tyX1 tyX1_ok nmX1 hown hK hP hD hS 0 rfl rfl 3 (by decide) (hts _ q26) (fun _ h9 => h9) rfl hin rfl (by decide +kernel) rfl rfl (Nat.le_of_ble_eq_true rfl) dX1_init_36 (fun H locs hP hD hS => ?_)
  have hP : va_P G clR [(h0, .inr (0, [.ref a1, .ref a2, .ref a3, .ref a4, .null, .int 0, .int 0, .int 0, .int 0, .int 0])), (a1, .inl (c1, 1024, .inl (fun _ => 0))), (a2, .inl (c2, 1024, .inl (zF (fun _ => false)))), (a3, .inl (c3, 10, .inl (nF (fun _ => 0)))), (a4, .inl (c4, 1024, .inl (fun _ => 0)))] H := hP
  have hD : va_D A [(h0, .inr (0, [.ref a1, .ref a2, .ref a3, .ref a4, .null, .int 0, .int 0, .int 0, .int 0, .int 0])), (a1, .inl (c1, 1024, .inl (fun _ => 0))), (a2, .inl (c2, 1024, .inl (zF (fun _ => false)))), (a3, .inl (c3, 10, .inl (nF (fun _ => 0)))), (a4, .inl (c4, 1024, .inl (fun _ => 0)))] := hD
  refine lv_aload_n hx hb dX1_init_39 rfl (lv_at hl 0 rfl) ?_
  refine lv_sipush (v := nI 1024) hx hb dX1_init_40 (by decide +kernel) ?_
  refine va_newa (atype := .boolean) (ty := .boolean) (N' := 1024) (a0 := (1024, .inl (zF (fun _ => false)))) hx hb (hts _ q55) rfl hK hP hD hS hA (fun _ => rfl) (by decide +kernel) (by decide +kernel) (by decide +kernel) (Nat.le_of_ble_eq_true rfl) (Nat.le_of_ble_eq_true rfl) dX1_init_43 (fun a5 c5 H hK hP hD hS => ?_)
  have hP : va_P G clR [(h0, .inr (0, [.ref a1, .ref a2, .ref a3, .ref a4, .null, .int 0, .int 0, .int 0, .int 0, .int 0])), (a1, .inl (c1, 1024, .inl (fun _ => 0))), (a2, .inl (c2, 1024, .inl (zF (fun _ => false)))), (a3, .inl (c3, 10, .inl (nF (fun _ => 0)))), (a4, .inl (c4, 1024, .inl (fun _ => 0))), (a5, .inl (c5, 1024, .inl (zF (fun _ => false))))] H := hP
  have hD : va_D A [(h0, .inr (0, [.ref a1, .ref a2, .ref a3, .ref a4, .null, .int 0, .int 0, .int 0, .int 0, .int 0])), (a1, .inl (c1, 1024, .inl (fun _ => 0))), (a2, .inl (c2, 1024, .inl (zF (fun _ => false)))), (a3, .inl (c3, 10, .inl (nF (fun _ => 0)))), (a4, .inl (c4, 1024, .inl (fun _ => 0))), (a5, .inl (c5, 1024, .inl (zF (fun _ => false))))] := hD
  refine W.widen (k := 5) (n := 4106) (Nat.le_of_ble_eq_true rfl) (Nat.le_of_ble_eq_true rfl) ?_
  refine va_putF (D := G) (ci := 0) (v := .ref a5) (ty := .array .boolean) (C := RX1) (T := TX1) (N := 10) hx hb hts in_X1 tyX1 tyX1_ok nmX1 hown hK hP hD hS 0 rfl rfl 4 (by decide) (hts _ q27) (fun _ h9 => h9) rfl hin rfl (by decide +kernel) rfl rfl (Nat.le_of_ble_eq_true rfl) dX1_init_45 (fun H locs hP hD hS => ?_)
  have hP : va_P G clR [(h0, .inr (0, [.ref a1, .ref a2, .ref a3, .ref a4, .ref a5, .int 0, .int 0, .int 0, .int 0, .int 0])), (a1, .inl (c1, 1024, .inl (fun _ => 0))), (a2, .inl (c2, 1024, .inl (zF (fun _ => false)))), (a3, .inl (c3, 10, .inl (nF (fun _ => 0)))), (a4, .inl (c4, 1024, .inl (fun _ => 0))), (a5, .inl (c5, 1024, .inl (zF (fun _ => false))))] H := hP
  have hD : va_D A [(h0, .inr (0, [.ref a1, .ref a2, .ref a3, .ref a4, .ref a5, .int 0, .int 0, .int 0, .int 0, .int 0])), (a1, .inl (c1, 1024, .inl (fun _ => 0))), (a2, .inl (c2, 1024, .inl (zF (fun _ => false)))), (a3, .inl (c3, 10, .inl (nF (fun _ => 0)))), (a4, .inl (c4, 1024, .inl (fun _ => 0))), (a5, .inl (c5, 1024, .inl (zF (fun _ => false))))] := hD
  refine lv_aload_n hx hb dX1_init_48 rfl (lv_at hl 0 rfl) ?_
  have fin : ∀ cv : Int32, cv = nI (capN v) → W p l e (headSpec (ws_ yX1_init cX1_init 2 none) ({ frames := 1, cells := 5, slots := 4106, locals := 40 })).room s m ([.ref h0, .int v] : List Value).toArray below meth c H locs 5 4106 (MQ below (va_Qv (fun u : (Nat → Nat) × (Nat → ClassId) => u.1 0 = h0) (fun u t => va_P G clR (WX u.1 u.2 (capN v) (fun _ => 0) (fun _ => false) (fun _ => 0) (fun _ => 0) (fun _ => false) 0 0 0 0) t.heap ∧ va_K G clR (tyX u.2) t ∧ va_D A (WX u.1 u.2 (capN v) (fun _ => 0) (fun _ => false) (fun _ => 0) (fun _ => 0) (fun _ => false) 0 0 0 0)) A) ([.ref h0, .int v] : List Value).toArray s 5 4106 A) (F0 m 72 ls [.int cv, .ref h0]) := by
    intro cv ecv
    subst ecv
    refine va_putF (D := G) (ci := 0) (v := .int (nI (capN v))) (ty := .int) (C := RX1) (T := TX1) (N := 10) hx hb hts in_X1 tyX1 tyX1_ok nmX1 hown hK hP hD hS 0 rfl rfl 5 (by decide) (hts _ q28) (fun _ h9 => h9) rfl hin rfl (by decide +kernel) rfl rfl (Nat.le_of_ble_eq_true rfl) dX1_init_72 (fun H locs hP hD hS => ?_)
    have hP9 : va_P G clR (WX (fun k => ([h0, a1, a2, a3, a4, a5] : List Nat).getD k h0) (fun k => ([c1, c1, c2, c3, c4, c5] : List ClassId).getD k c1) (capN v) (fun _ => 0) (fun _ => false) (fun _ => 0) (fun _ => 0) (fun _ => false) 0 0 0 0) H := hP
    have hD9 : va_D A (WX (fun k => ([h0, a1, a2, a3, a4, a5] : List Nat).getD k h0) (fun k => ([c1, c1, c2, c3, c4, c5] : List ClassId).getD k c1) (capN v) (fun _ => 0) (fun _ => false) (fun _ => 0) (fun _ => 0) (fun _ => false) 0 0 0 0) := hD
    have hK9 : va_K G clR (tyX (fun k => ([c1, c1, c2, c3, c4, c5] : List ClassId).getD k c1)) s := hK
    exact W.vret hx hb hr (fun t ht hW => ⟨⟨((fun k => ([h0, a1, a2, a3, a4, a5] : List Nat).getD k h0), (fun k => ([c1, c1, c2, c3, c4, c5] : List ClassId).getD k c1)), rfl, rfl, by rw [ht]; exact hP9, va_K.moved hW.alike hK9, hD9⟩, hS.F ht⟩) hS.2.2 dX1_init_75
  refine lv_iload_n hx hb dX1_init_49 rfl (lv_at hl 1 rfl) ?_
  refine lv_iconst (v := nI 1) hx hb dX1_init_50 (by decide +kernel) ?_
  refine lv_icmp_ge (tgt := 58) hx hb dX1_init_51 (by decide) (fun c1 => ?_) (fun c1 => ?_)
  · refine lv_iload_n hx hb dX1_init_58 rfl (lv_at hl 1 rfl) ?_
    refine lv_sipush (v := nI 256) hx hb dX1_init_59 (by decide +kernel) ?_
    refine lv_icmp_le (tgt := 71) hx hb dX1_init_62 (by decide) (fun c2 => ?_) (fun c2 => ?_)
    · refine lv_iload_n hx hb dX1_init_71 rfl (lv_at hl 1 rfl) ?_
      exact fin v (capN_3 c1 c2).1
    · refine lv_sipush (v := nI 256) hx hb dX1_init_65 (by decide +kernel) ?_
      refine lv_goto (tgt := 72) hx hb dX1_init_68 (by decide) ?_
      exact fin _ (by rw [capN_2 c1 c2])
  · refine lv_iconst (v := nI 1) hx hb dX1_init_54 (by decide +kernel) ?_
    refine lv_goto (tgt := 72) hx hb dX1_init_55 (by decide) ?_
    exact fin _ (by rw [capN_1 c1])
set_option maxHeartbeats 4000000 in
set_option maxRecDepth 100000 in
theorem metX2_init (l : Launch) (G : va_G) (h0 sz : Nat) (v : Int32) : Met l yX2_init (ws_ yX2_init cX2_init 2 none) ({ frames := 1, cells := 7, slots := 6154, locals := 40 }) (va_Pc [.ref h0, .int v] (fun U => U.heap.size = sz ∧ va_P G clR [(h0, .inr (1, [.int 0, .null, .null, .null, .null, .null, .null, .null, .int 0, .int 0, .int 0, .int 0]))] U.heap ∧ va_K G clR [] U ∧ va_D (fun _ => True) [(h0, .inr (1, [.int 0, .null, .null, .null, .null, .null, .null, .null, .int 0, .int 0, .int 0, .int 0]))])) (va_Qv (fun u : (Nat → Nat) × (Nat → ClassId) => u.1 0 = h0) (fun u t => va_P G clR (WM u.1 u.2 (capN v) (fun _ => 0) (fun _ => false) (fun _ => false) (fun _ => 0) (fun _ => false) (fun _ => 0) (fun _ => false) 0 0 0 0) t.heap ∧ va_K G clR (tyM u.2) t ∧ va_D (va_A [(h0, .inr (1, [.int 0, .null, .null, .null, .null, .null, .null, .null, .int 0, .int 0, .int 0, .int 0]))] sz) (WM u.1 u.2 (capN v) (fun _ => 0) (fun _ => false) (fun _ => false) (fun _ => 0) (fun _ => false) (fun _ => 0) (fun _ => false) 0 0 0 0)) (va_A [(h0, .inr (1, [.int 0, .null, .null, .null, .null, .null, .null, .null, .int 0, .int 0, .int 0, .int 0]))] sz)) 7 6154 (va_A [(h0, .inr (1, [.int 0, .null, .null, .null, .null, .null, .null, .null, .int 0, .int 0, .int 0, .int 0]))] sz) := by
  refine Met.ofW (cc := cX2_init) (maxL := 2) (ret := none) (by decide) rfl ?_
  intro p e s m args below meth c s₁ B hml hv
  obtain ⟨rfl, hsz, hP, hK, hD0⟩ := hv
  have hx := B.exec
  have hb := B.bytes
  have hr := B.returns
  have hts := atoms_spec (ws := ws_ yX2_init cX2_init 2 none) B.pre
  have hts : ∀ w ∈ lw_all, w.before _ s = true := fun w h => hts w (List.mem_cons_of_mem _ h)
  have hown : s.vm.findClass RX2 = some m.cls := findClass_of_methodNamed B.named
  have hlocks := B.notSynchronized
  have hin : meth.name = "<init>" := (name_of_methodNamed B.named B.method).1
  subst hsz
  have hD := hD0.self (sz := s.heap.size)
  generalize hAe : va_A [(h0, .inr (1, [.int 0, .null, .null, .null, .null, .null, .null, .null, .int 0, .int 0, .int 0, .int 0]))] s.heap.size = A at hD ⊢
  have hA : ∀ q : Nat, s.heap.size ≤ q → A q := fun q h => by rw [← hAe]; exact Or.inr h
  have hS : va_S A s.heap s.heap [] := va_S.rf
  have hP : va_P G clR [(h0, .inr (1, [.int 0, .null, .null, .null, .null, .null, .null, .null, .int 0, .int 0, .int 0, .int 0]))] s.heap := hP
  have hl := lv_entry ([.ref h0, .int v]) (n := 2) (Nat.le_of_ble_eq_true rfl)
  rw [lg_entry_eq]
  generalize (lg_sl ([.ref h0, .int v]) ++ List.replicate (2 - (lg_sl ([.ref h0, .int v])).length) Slot.unset).toArray = ls at hl ⊢
  have hl : lv_has ls 2 [(0, .ref h0), (1, .int v)] := hl
  refine lv_aload_n hx hb dX2_init_0 rfl (lv_at hl 0 rfl) ?_
  refine W.objInit hx hb hown (hts _ q158) (hts _ q21) (hts _ q22) rfl (by rw [hml]; exact hl.1) rfl dX2_init_1 (Nat.le_of_ble_eq_true rfl) (Nat.le_of_ble_eq_true rfl) ?_
  refine W.eq (g2 := F0 m 4 ls []) rfl ?_
  refine lv_aload_n hx hb dX2_init_4 rfl (lv_at hl 0 rfl) ?_
  refine lv_sipush (v := nI 1024) hx hb dX2_init_5 (by decide +kernel) ?_
  refine va_newa (atype := .int) (ty := .int) (N' := 1024) (a0 := (1024, .inl (fun _ => 0))) hx hb (hts _ q54) rfl hK hP hD hS hA (fun _ => rfl) (by decide +kernel) (by decide +kernel) (by decide +kernel) (Nat.le_of_ble_eq_true rfl) (Nat.le_of_ble_eq_true rfl) dX2_init_8 (fun a1 c1 H hK hP hD hS => ?_)
  have hP : va_P G clR [(h0, .inr (1, [.int 0, .null, .null, .null, .null, .null, .null, .null, .int 0, .int 0, .int 0, .int 0])), (a1, .inl (c1, 1024, .inl (fun _ => 0)))] H := hP
  have hD : va_D A [(h0, .inr (1, [.int 0, .null, .null, .null, .null, .null, .null, .null, .int 0, .int 0, .int 0, .int 0])), (a1, .inl (c1, 1024, .inl (fun _ => 0)))] := hD
  refine W.widen (k := 1) (n := 1024) (Nat.le_of_ble_eq_true rfl) (Nat.le_of_ble_eq_true rfl) ?_
  refine va_putF (D := G) (ci := 1) (v := .ref a1) (ty := .array .int) (C := RX2) (T := TX2) (N := 12) hx hb hts in_X2 tyX2 tyX2_ok nmX2 hown hK hP hD hS 0 rfl rfl 1 (by decide) (hts _ q160) (fun _ h9 => h9) rfl hin rfl (by decide +kernel) rfl rfl (Nat.le_of_ble_eq_true rfl) dX2_init_10 (fun H locs hP hD hS => ?_)
  have hP : va_P G clR [(h0, .inr (1, [.int 0, .ref a1, .null, .null, .null, .null, .null, .null, .int 0, .int 0, .int 0, .int 0])), (a1, .inl (c1, 1024, .inl (fun _ => 0)))] H := hP
  have hD : va_D A [(h0, .inr (1, [.int 0, .ref a1, .null, .null, .null, .null, .null, .null, .int 0, .int 0, .int 0, .int 0])), (a1, .inl (c1, 1024, .inl (fun _ => 0)))] := hD
  refine lv_aload_n hx hb dX2_init_13 rfl (lv_at hl 0 rfl) ?_
  refine lv_sipush (v := nI 1024) hx hb dX2_init_14 (by decide +kernel) ?_
  refine va_newa (atype := .boolean) (ty := .boolean) (N' := 1024) (a0 := (1024, .inl (zF (fun _ => false)))) hx hb (hts _ q55) rfl hK hP hD hS hA (fun _ => rfl) (by decide +kernel) (by decide +kernel) (by decide +kernel) (Nat.le_of_ble_eq_true rfl) (Nat.le_of_ble_eq_true rfl) dX2_init_17 (fun a2 c2 H hK hP hD hS => ?_)
  have hP : va_P G clR [(h0, .inr (1, [.int 0, .ref a1, .null, .null, .null, .null, .null, .null, .int 0, .int 0, .int 0, .int 0])), (a1, .inl (c1, 1024, .inl (fun _ => 0))), (a2, .inl (c2, 1024, .inl (zF (fun _ => false))))] H := hP
  have hD : va_D A [(h0, .inr (1, [.int 0, .ref a1, .null, .null, .null, .null, .null, .null, .int 0, .int 0, .int 0, .int 0])), (a1, .inl (c1, 1024, .inl (fun _ => 0))), (a2, .inl (c2, 1024, .inl (zF (fun _ => false))))] := hD
  refine W.widen (k := 2) (n := 2048) (Nat.le_of_ble_eq_true rfl) (Nat.le_of_ble_eq_true rfl) ?_
  refine va_putF (D := G) (ci := 1) (v := .ref a2) (ty := .array .boolean) (C := RX2) (T := TX2) (N := 12) hx hb hts in_X2 tyX2 tyX2_ok nmX2 hown hK hP hD hS 0 rfl rfl 2 (by decide) (hts _ q161) (fun _ h9 => h9) rfl hin rfl (by decide +kernel) rfl rfl (Nat.le_of_ble_eq_true rfl) dX2_init_19 (fun H locs hP hD hS => ?_)
  have hP : va_P G clR [(h0, .inr (1, [.int 0, .ref a1, .ref a2, .null, .null, .null, .null, .null, .int 0, .int 0, .int 0, .int 0])), (a1, .inl (c1, 1024, .inl (fun _ => 0))), (a2, .inl (c2, 1024, .inl (zF (fun _ => false))))] H := hP
  have hD : va_D A [(h0, .inr (1, [.int 0, .ref a1, .ref a2, .null, .null, .null, .null, .null, .int 0, .int 0, .int 0, .int 0])), (a1, .inl (c1, 1024, .inl (fun _ => 0))), (a2, .inl (c2, 1024, .inl (zF (fun _ => false))))] := hD
  refine lv_aload_n hx hb dX2_init_22 rfl (lv_at hl 0 rfl) ?_
  refine lv_bipush (v := nI 10) hx hb dX2_init_23 (by decide +kernel) ?_
  refine va_newa (atype := .boolean) (ty := .boolean) (N' := 10) (a0 := (10, .inl (zF (fun _ => false)))) hx hb (hts _ q55) rfl hK hP hD hS hA (fun _ => rfl) (by decide +kernel) (by decide +kernel) (by decide +kernel) (Nat.le_of_ble_eq_true rfl) (Nat.le_of_ble_eq_true rfl) dX2_init_25 (fun a3 c3 H hK hP hD hS => ?_)
  have hP : va_P G clR [(h0, .inr (1, [.int 0, .ref a1, .ref a2, .null, .null, .null, .null, .null, .int 0, .int 0, .int 0, .int 0])), (a1, .inl (c1, 1024, .inl (fun _ => 0))), (a2, .inl (c2, 1024, .inl (zF (fun _ => false)))), (a3, .inl (c3, 10, .inl (zF (fun _ => false))))] H := hP
  have hD : va_D A [(h0, .inr (1, [.int 0, .ref a1, .ref a2, .null, .null, .null, .null, .null, .int 0, .int 0, .int 0, .int 0])), (a1, .inl (c1, 1024, .inl (fun _ => 0))), (a2, .inl (c2, 1024, .inl (zF (fun _ => false)))), (a3, .inl (c3, 10, .inl (zF (fun _ => false))))] := hD
  refine W.widen (k := 3) (n := 2058) (Nat.le_of_ble_eq_true rfl) (Nat.le_of_ble_eq_true rfl) ?_
  refine va_putF (D := G) (ci := 1) (v := .ref a3) (ty := .array .boolean) (C := RX2) (T := TX2) (N := 12) hx hb hts in_X2 tyX2 tyX2_ok nmX2 hown hK hP hD hS 0 rfl rfl 3 (by decide) (hts _ q162) (fun _ h9 => h9) rfl hin rfl (by decide +kernel) rfl rfl (Nat.le_of_ble_eq_true rfl) dX2_init_27 (fun H locs hP hD hS => ?_)
  have hP : va_P G clR [(h0, .inr (1, [.int 0, .ref a1, .ref a2, .ref a3, .null, .null, .null, .null, .int 0, .int 0, .int 0, .int 0])), (a1, .inl (c1, 1024, .inl (fun _ => 0))), (a2, .inl (c2, 1024, .inl (zF (fun _ => false)))), (a3, .inl (c3, 10, .inl (zF (fun _ => false))))] H := hP
  have hD : va_D A [(h0, .inr (1, [.int 0, .ref a1, .ref a2, .ref a3, .null, .null, .null, .null, .int 0, .int 0, .int 0, .int 0])), (a1, .inl (c1, 1024, .inl (fun _ => 0))), (a2, .inl (c2, 1024, .inl (zF (fun _ => false)))), (a3, .inl (c3, 10, .inl (zF (fun _ => false))))] := hD
  refine lv_aload_n hx hb dX2_init_30 rfl (lv_at hl 0 rfl) ?_
  refine lv_sipush (v := nI 1024) hx hb dX2_init_31 (by decide +kernel) ?_
  refine va_newa (atype := .int) (ty := .int) (N' := 1024) (a0 := (1024, .inl (fun _ => 0))) hx hb (hts _ q54) rfl hK hP hD hS hA (fun _ => rfl) (by decide +kernel) (by decide +kernel) (by decide +kernel) (Nat.le_of_ble_eq_true rfl) (Nat.le_of_ble_eq_true rfl) dX2_init_34 (fun a4 c4 H hK hP hD hS => ?_)
  have hP : va_P G clR [(h0, .inr (1, [.int 0, .ref a1, .ref a2, .ref a3, .null, .null, .null, .null, .int 0, .int 0, .int 0, .int 0])), (a1, .inl (c1, 1024, .inl (fun _ => 0))), (a2, .inl (c2, 1024, .inl (zF (fun _ => false)))), (a3, .inl (c3, 10, .inl (zF (fun _ => false)))), (a4, .inl (c4, 1024, .inl (fun _ => 0)))] H := hP
  have hD : va_D A [(h0, .inr (1, [.int 0, .ref a1, .ref a2, .ref a3, .null, .null, .null, .null, .int 0, .int 0, .int 0, .int 0])), (a1, .inl (c1, 1024, .inl (fun _ => 0))), (a2, .inl (c2, 1024, .inl (zF (fun _ => false)))), (a3, .inl (c3, 10, .inl (zF (fun _ => false)))), (a4, .inl (c4, 1024, .inl (fun _ => 0)))] := hD
  refine W.widen (k := 4) (n := 3082) (Nat.le_of_ble_eq_true rfl) (Nat.le_of_ble_eq_true rfl) ?_
  refine va_putF (D := G) (ci := 1) (v := .ref a4) (ty := .array .int) (C := RX2) (T := TX2) (N := 12) hx hb hts in_X2 tyX2 tyX2_ok nmX2 hown hK hP hD hS 0 rfl rfl 4 (by decide) (hts _ q163) (fun _ h9 => h9) rfl hin rfl (by decide +kernel) rfl rfl (Nat.le_of_ble_eq_true rfl) dX2_init_36 (fun H locs hP hD hS => ?_)
  have hP : va_P G clR [(h0, .inr (1, [.int 0, .ref a1, .ref a2, .ref a3, .ref a4, .null, .null, .null, .int 0, .int 0, .int 0, .int 0])), (a1, .inl (c1, 1024, .inl (fun _ => 0))), (a2, .inl (c2, 1024, .inl (zF (fun _ => false)))), (a3, .inl (c3, 10, .inl (zF (fun _ => false)))), (a4, .inl (c4, 1024, .inl (fun _ => 0)))] H := hP
  have hD : va_D A [(h0, .inr (1, [.int 0, .ref a1, .ref a2, .ref a3, .ref a4, .null, .null, .null, .int 0, .int 0, .int 0, .int 0])), (a1, .inl (c1, 1024, .inl (fun _ => 0))), (a2, .inl (c2, 1024, .inl (zF (fun _ => false)))), (a3, .inl (c3, 10, .inl (zF (fun _ => false)))), (a4, .inl (c4, 1024, .inl (fun _ => 0)))] := hD
  refine lv_aload_n hx hb dX2_init_39 rfl (lv_at hl 0 rfl) ?_
  refine lv_sipush (v := nI 1024) hx hb dX2_init_40 (by decide +kernel) ?_
  refine va_newa (atype := .boolean) (ty := .boolean) (N' := 1024) (a0 := (1024, .inl (zF (fun _ => false)))) hx hb (hts _ q55) rfl hK hP hD hS hA (fun _ => rfl) (by decide +kernel) (by decide +kernel) (by decide +kernel) (Nat.le_of_ble_eq_true rfl) (Nat.le_of_ble_eq_true rfl) dX2_init_43 (fun a5 c5 H hK hP hD hS => ?_)
  have hP : va_P G clR [(h0, .inr (1, [.int 0, .ref a1, .ref a2, .ref a3, .ref a4, .null, .null, .null, .int 0, .int 0, .int 0, .int 0])), (a1, .inl (c1, 1024, .inl (fun _ => 0))), (a2, .inl (c2, 1024, .inl (zF (fun _ => false)))), (a3, .inl (c3, 10, .inl (zF (fun _ => false)))), (a4, .inl (c4, 1024, .inl (fun _ => 0))), (a5, .inl (c5, 1024, .inl (zF (fun _ => false))))] H := hP
  have hD : va_D A [(h0, .inr (1, [.int 0, .ref a1, .ref a2, .ref a3, .ref a4, .null, .null, .null, .int 0, .int 0, .int 0, .int 0])), (a1, .inl (c1, 1024, .inl (fun _ => 0))), (a2, .inl (c2, 1024, .inl (zF (fun _ => false)))), (a3, .inl (c3, 10, .inl (zF (fun _ => false)))), (a4, .inl (c4, 1024, .inl (fun _ => 0))), (a5, .inl (c5, 1024, .inl (zF (fun _ => false))))] := hD
  refine W.widen (k := 5) (n := 4106) (Nat.le_of_ble_eq_true rfl) (Nat.le_of_ble_eq_true rfl) ?_
  refine va_putF (D := G) (ci := 1) (v := .ref a5) (ty := .array .boolean) (C := RX2) (T := TX2) (N := 12) hx hb hts in_X2 tyX2 tyX2_ok nmX2 hown hK hP hD hS 0 rfl rfl 5 (by decide) (hts _ q164) (fun _ h9 => h9) rfl hin rfl (by decide +kernel) rfl rfl (Nat.le_of_ble_eq_true rfl) dX2_init_45 (fun H locs hP hD hS => ?_)
  have hP : va_P G clR [(h0, .inr (1, [.int 0, .ref a1, .ref a2, .ref a3, .ref a4, .ref a5, .null, .null, .int 0, .int 0, .int 0, .int 0])), (a1, .inl (c1, 1024, .inl (fun _ => 0))), (a2, .inl (c2, 1024, .inl (zF (fun _ => false)))), (a3, .inl (c3, 10, .inl (zF (fun _ => false)))), (a4, .inl (c4, 1024, .inl (fun _ => 0))), (a5, .inl (c5, 1024, .inl (zF (fun _ => false))))] H := hP
  have hD : va_D A [(h0, .inr (1, [.int 0, .ref a1, .ref a2, .ref a3, .ref a4, .ref a5, .null, .null, .int 0, .int 0, .int 0, .int 0])), (a1, .inl (c1, 1024, .inl (fun _ => 0))), (a2, .inl (c2, 1024, .inl (zF (fun _ => false)))), (a3, .inl (c3, 10, .inl (zF (fun _ => false)))), (a4, .inl (c4, 1024, .inl (fun _ => 0))), (a5, .inl (c5, 1024, .inl (zF (fun _ => false))))] := hD
  refine lv_aload_n hx hb dX2_init_48 rfl (lv_at hl 0 rfl) ?_
  refine lv_sipush (v := nI 1024) hx hb dX2_init_49 (by decide +kernel) ?_
  refine va_newa (atype := .int) (ty := .int) (N' := 1024) (a0 := (1024, .inl (fun _ => 0))) hx hb (hts _ q54) rfl hK hP hD hS hA (fun _ => rfl) (by decide +kernel) (by decide +kernel) (by decide +kernel) (Nat.le_of_ble_eq_true rfl) (Nat.le_of_ble_eq_true rfl) dX2_init_52 (fun a6 c6 H hK hP hD hS => ?_)
  have hP : va_P G clR [(h0, .inr (1, [.int 0, .ref a1, .ref a2, .ref a3, .ref a4, .ref a5, .null, .null, .int 0, .int 0, .int 0, .int 0])), (a1, .inl (c1, 1024, .inl (fun _ => 0))), (a2, .inl (c2, 1024, .inl (zF (fun _ => false)))), (a3, .inl (c3, 10, .inl (zF (fun _ => false)))), (a4, .inl (c4, 1024, .inl (fun _ => 0))), (a5, .inl (c5, 1024, .inl (zF (fun _ => false)))), (a6, .inl (c6, 1024, .inl (fun _ => 0)))] H := hP
  have hD : va_D A [(h0, .inr (1, [.int 0, .ref a1, .ref a2, .ref a3, .ref a4, .ref a5, .null, .null, .int 0, .int 0, .int 0, .int 0])), (a1, .inl (c1, 1024, .inl (fun _ => 0))), (a2, .inl (c2, 1024, .inl (zF (fun _ => false)))), (a3, .inl (c3, 10, .inl (zF (fun _ => false)))), (a4, .inl (c4, 1024, .inl (fun _ => 0))), (a5, .inl (c5, 1024, .inl (zF (fun _ => false)))), (a6, .inl (c6, 1024, .inl (fun _ => 0)))] := hD
  refine W.widen (k := 6) (n := 5130) (Nat.le_of_ble_eq_true rfl) (Nat.le_of_ble_eq_true rfl) ?_
  refine va_putF (D := G) (ci := 1) (v := .ref a6) (ty := .array .int) (C := RX2) (T := TX2) (N := 12) hx hb hts in_X2 tyX2 tyX2_ok nmX2 hown hK hP hD hS 0 rfl rfl 6 (by decide) (hts _ q165) (fun _ h9 => h9) rfl hin rfl (by decide +kernel) rfl rfl (Nat.le_of_ble_eq_true rfl) dX2_init_54 (fun H locs hP hD hS => ?_)
  have hP : va_P G clR [(h0, .inr (1, [.int 0, .ref a1, .ref a2, .ref a3, .ref a4, .ref a5, .ref a6, .null, .int 0, .int 0, .int 0, .int 0])), (a1, .inl (c1, 1024, .inl (fun _ => 0))), (a2, .inl (c2, 1024, .inl (zF (fun _ => false)))), (a3, .inl (c3, 10, .inl (zF (fun _ => false)))), (a4, .inl (c4, 1024, .inl (fun _ => 0))), (a5, .inl (c5, 1024, .inl (zF (fun _ => false)))), (a6, .inl (c6, 1024, .inl (fun _ => 0)))] H := hP
  have hD : va_D A [(h0, .inr (1, [.int 0, .ref a1, .ref a2, .ref a3, .ref a4, .ref a5, .ref a6, .null, .int 0, .int 0, .int 0, .int 0])), (a1, .inl (c1, 1024, .inl (fun _ => 0))), (a2, .inl (c2, 1024, .inl (zF (fun _ => false)))), (a3, .inl (c3, 10, .inl (zF (fun _ => false)))), (a4, .inl (c4, 1024, .inl (fun _ => 0))), (a5, .inl (c5, 1024, .inl (zF (fun _ => false)))), (a6, .inl (c6, 1024, .inl (fun _ => 0)))] := hD
  refine lv_aload_n hx hb dX2_init_57 rfl (lv_at hl 0 rfl) ?_
  refine lv_sipush (v := nI 1024) hx hb dX2_init_58 (by decide +kernel) ?_
  refine va_newa (atype := .boolean) (ty := .boolean) (N' := 1024) (a0 := (1024, .inl (zF (fun _ => false)))) hx hb (hts _ q55) rfl hK hP hD hS hA (fun _ => rfl) (by decide +kernel) (by decide +kernel) (by decide +kernel) (Nat.le_of_ble_eq_true rfl) (Nat.le_of_ble_eq_true rfl) dX2_init_61 (fun a7 c7 H hK hP hD hS => ?_)
  have hP : va_P G clR [(h0, .inr (1, [.int 0, .ref a1, .ref a2, .ref a3, .ref a4, .ref a5, .ref a6, .null, .int 0, .int 0, .int 0, .int 0])), (a1, .inl (c1, 1024, .inl (fun _ => 0))), (a2, .inl (c2, 1024, .inl (zF (fun _ => false)))), (a3, .inl (c3, 10, .inl (zF (fun _ => false)))), (a4, .inl (c4, 1024, .inl (fun _ => 0))), (a5, .inl (c5, 1024, .inl (zF (fun _ => false)))), (a6, .inl (c6, 1024, .inl (fun _ => 0))), (a7, .inl (c7, 1024, .inl (zF (fun _ => false))))] H := hP
  have hD : va_D A [(h0, .inr (1, [.int 0, .ref a1, .ref a2, .ref a3, .ref a4, .ref a5, .ref a6, .null, .int 0, .int 0, .int 0, .int 0])), (a1, .inl (c1, 1024, .inl (fun _ => 0))), (a2, .inl (c2, 1024, .inl (zF (fun _ => false)))), (a3, .inl (c3, 10, .inl (zF (fun _ => false)))), (a4, .inl (c4, 1024, .inl (fun _ => 0))), (a5, .inl (c5, 1024, .inl (zF (fun _ => false)))), (a6, .inl (c6, 1024, .inl (fun _ => 0))), (a7, .inl (c7, 1024, .inl (zF (fun _ => false))))] := hD
  refine W.widen (k := 7) (n := 6154) (Nat.le_of_ble_eq_true rfl) (Nat.le_of_ble_eq_true rfl) ?_
  refine va_putF (D := G) (ci := 1) (v := .ref a7) (ty := .array .boolean) (C := RX2) (T := TX2) (N := 12) hx hb hts in_X2 tyX2 tyX2_ok nmX2 hown hK hP hD hS 0 rfl rfl 7 (by decide) (hts _ q166) (fun _ h9 => h9) rfl hin rfl (by decide +kernel) rfl rfl (Nat.le_of_ble_eq_true rfl) dX2_init_63 (fun H locs hP hD hS => ?_)
  have hP : va_P G clR [(h0, .inr (1, [.int 0, .ref a1, .ref a2, .ref a3, .ref a4, .ref a5, .ref a6, .ref a7, .int 0, .int 0, .int 0, .int 0])), (a1, .inl (c1, 1024, .inl (fun _ => 0))), (a2, .inl (c2, 1024, .inl (zF (fun _ => false)))), (a3, .inl (c3, 10, .inl (zF (fun _ => false)))), (a4, .inl (c4, 1024, .inl (fun _ => 0))), (a5, .inl (c5, 1024, .inl (zF (fun _ => false)))), (a6, .inl (c6, 1024, .inl (fun _ => 0))), (a7, .inl (c7, 1024, .inl (zF (fun _ => false))))] H := hP
  have hD : va_D A [(h0, .inr (1, [.int 0, .ref a1, .ref a2, .ref a3, .ref a4, .ref a5, .ref a6, .ref a7, .int 0, .int 0, .int 0, .int 0])), (a1, .inl (c1, 1024, .inl (fun _ => 0))), (a2, .inl (c2, 1024, .inl (zF (fun _ => false)))), (a3, .inl (c3, 10, .inl (zF (fun _ => false)))), (a4, .inl (c4, 1024, .inl (fun _ => 0))), (a5, .inl (c5, 1024, .inl (zF (fun _ => false)))), (a6, .inl (c6, 1024, .inl (fun _ => 0))), (a7, .inl (c7, 1024, .inl (zF (fun _ => false))))] := hD
  refine lv_aload_n hx hb dX2_init_66 rfl (lv_at hl 0 rfl) ?_
  have fin : ∀ cv : Int32, cv = nI (capN v) → W p l e (headSpec (ws_ yX2_init cX2_init 2 none) ({ frames := 1, cells := 7, slots := 6154, locals := 40 })).room s m ([.ref h0, .int v] : List Value).toArray below meth c H locs 7 6154 (MQ below (va_Qv (fun u : (Nat → Nat) × (Nat → ClassId) => u.1 0 = h0) (fun u t => va_P G clR (WM u.1 u.2 (capN v) (fun _ => 0) (fun _ => false) (fun _ => false) (fun _ => 0) (fun _ => false) (fun _ => 0) (fun _ => false) 0 0 0 0) t.heap ∧ va_K G clR (tyM u.2) t ∧ va_D A (WM u.1 u.2 (capN v) (fun _ => 0) (fun _ => false) (fun _ => false) (fun _ => 0) (fun _ => false) (fun _ => 0) (fun _ => false) 0 0 0 0)) A) ([.ref h0, .int v] : List Value).toArray s 7 6154 A) (F0 m 90 ls [.int cv, .ref h0]) := by
    intro cv ecv
    subst ecv
    refine va_putF (D := G) (ci := 1) (v := .int (nI (capN v))) (ty := .int) (C := RX2) (T := TX2) (N := 12) hx hb hts in_X2 tyX2 tyX2_ok nmX2 hown hK hP hD hS 0 rfl rfl 0 (by decide) (hts _ q159) (fun _ h9 => h9) rfl hin rfl (by decide +kernel) rfl rfl (Nat.le_of_ble_eq_true rfl) dX2_init_90 (fun H locs hP hD hS => ?_)
    have hP9 : va_P G clR (WM (fun k => ([h0, a1, a2, a3, a4, a5, a6, a7] : List Nat).getD k h0) (fun k => ([c1, c1, c2, c3, c4, c5, c6, c7] : List ClassId).getD k c1) (capN v) (fun _ => 0) (fun _ => false) (fun _ => false) (fun _ => 0) (fun _ => false) (fun _ => 0) (fun _ => false) 0 0 0 0) H := hP
    have hD9 : va_D A (WM (fun k => ([h0, a1, a2, a3, a4, a5, a6, a7] : List Nat).getD k h0) (fun k => ([c1, c1, c2, c3, c4, c5, c6, c7] : List ClassId).getD k c1) (capN v) (fun _ => 0) (fun _ => false) (fun _ => false) (fun _ => 0) (fun _ => false) (fun _ => 0) (fun _ => false) 0 0 0 0) := hD
    have hK9 : va_K G clR (tyM (fun k => ([c1, c1, c2, c3, c4, c5, c6, c7] : List ClassId).getD k c1)) s := hK
    exact W.vret hx hb hr (fun t ht hW => ⟨⟨((fun k => ([h0, a1, a2, a3, a4, a5, a6, a7] : List Nat).getD k h0), (fun k => ([c1, c1, c2, c3, c4, c5, c6, c7] : List ClassId).getD k c1)), rfl, rfl, by rw [ht]; exact hP9, va_K.moved hW.alike hK9, hD9⟩, hS.F ht⟩) hS.2.2 dX2_init_93
  refine lv_iload_n hx hb dX2_init_67 rfl (lv_at hl 1 rfl) ?_
  refine lv_iconst (v := nI 1) hx hb dX2_init_68 (by decide +kernel) ?_
  refine lv_icmp_ge (tgt := 76) hx hb dX2_init_69 (by decide) (fun c1 => ?_) (fun c1 => ?_)
  · refine lv_iload_n hx hb dX2_init_76 rfl (lv_at hl 1 rfl) ?_
    refine lv_sipush (v := nI 256) hx hb dX2_init_77 (by decide +kernel) ?_
    refine lv_icmp_le (tgt := 89) hx hb dX2_init_80 (by decide) (fun c2 => ?_) (fun c2 => ?_)
    · refine lv_iload_n hx hb dX2_init_89 rfl (lv_at hl 1 rfl) ?_
      exact fin v (capN_3 c1 c2).1
    · refine lv_sipush (v := nI 256) hx hb dX2_init_83 (by decide +kernel) ?_
      refine lv_goto (tgt := 90) hx hb dX2_init_86 (by decide) ?_
      exact fin _ (by rw [capN_2 c1 c2])
  · refine lv_iconst (v := nI 1) hx hb dX2_init_72 (by decide +kernel) ?_
    refine lv_goto (tgt := 90) hx hb dX2_init_73 (by decide) ?_
    exact fin _ (by rw [capN_1 c1])
set_option maxHeartbeats 4000000 in
set_option maxRecDepth 100000 in
theorem metX0_cell (l : Launch) (b L : Nat) (xs : Nat → Int32) (hL : L ≤ 193) : Met l yX0_cell (ws_ yX0_cell cX0_cell 2 (some .int)) rq0 (va_Pc [.ref b, .int (nI 0)] (fun U => va_X b L xs U U.heap)) (QcRead (if 0 < L then xs 0 else nI 0)) 0 0 (fun _ => False) := by
  refine Met.ofW (cc := cX0_cell) (maxL := 2) (ret := some .int) (by decide) rfl ?_
  intro p e s m args below meth c s₁ B hml hv
  obtain ⟨rfl, hX⟩ := hv
  have hx := B.exec
  have hb := B.bytes
  have hlocks := B.notSynchronized
  have hbl : b < s.heap.size := by
    obtain ⟨scr, h1, -⟩ := hX
    exact (Array.getElem?_eq_some_iff.mp h1).1
  have hS : va_S (fun _ => False) s.heap s.heap [] := va_S.rf
  have hl := lv_entry [.ref b, .int (nI 0)] (n := 2) (Nat.le_of_ble_eq_true rfl)
  rw [lg_entry_eq]
  generalize (lg_sl ([.ref b, .int (nI 0)]) ++ List.replicate (2 - (lg_sl ([.ref b, .int (nI 0)])).length) Slot.unset).toArray = ls at hl ⊢
  have hl : lv_has ls 2 [(0, .ref b), (1, .int (nI 0))] := hl
  refine lv_iload_n hx hb dX0_cell_0 rfl (lv_at hl 1 rfl) ?_
  refine lv_aload_n hx hb dX0_cell_1 rfl (lv_at hl 0 rfl) ?_
  refine va_slen (A := fun _ => False) hx hb hX hbl (fun h => h) hS dX0_cell_2 ?_
  refine rr_icmp_ge (a := 0) (b := L) (tgt := 12) hx hb dX0_cell_3 (by decide) (by decide) (by omega) (fun c1 => ?_) (fun c1 => ?_)
  · refine lv_iconst (v := nI 0) hx hb dX0_cell_12 (by decide +kernel) ?_
    exact W.iret hx hb B.returns (fun t ht hW => ⟨by rw [if_neg (Nat.not_lt.mpr c1)], ht⟩) (fun q h => by cases h) dX0_cell_13
  · refine lv_aload_n hx hb dX0_cell_6 rfl (lv_at hl 0 rfl) ?_
    refine lv_iload_n hx hb dX0_cell_7 rfl (lv_at hl 1 rfl) ?_
    refine va_sld (A := fun _ => False) hx hb hX hbl (fun h => h) hS (vp_in_nI c1 (by omega)) dX0_cell_8 ?_
    refine lv_goto (tgt := 13) hx hb dX0_cell_9 (by decide) ?_
    exact W.iret hx hb B.returns (fun t ht hW => ⟨by rw [if_pos c1, nI_clamp (by decide)], ht⟩) (fun q h => by cases h) dX0_cell_13
end
section
/-! THE CLAIM OUT OF ONE WALK OF THE LAW'S BODY. Your part is whole_start (and what it stands on); all else here is the same for every law, but numbers. -/
def R_law : String := "RankRunsLaw"
def lw_P (b : Addr) (xs : List Int32) (args : Array Value) (s : State) : Prop := args = #[.ref b] ∧ s.IntsAt b xs ∧ xs.length ≤ 193 ∧ (Jvm.Cond.and given_1 narrow_1).before args s = true
def lw_Q (_ : Array Value) (s : State) (o : Outcome) (t : State) : Prop := o = .returned (some (.int 1)) ∧ Framed s o t [] 600000 7290000
def lw_Z (below : List Frame) (a : Array Value) (s : State) : State → Prop := fun t => ∃ o, t.status = .running ∧ Ended t below o ∧ lw_Q a s o t
/-- the law's own end, with 1 on the stack, nothing written that was there before, its room as the claim has it -/
theorem lw_ret {p : Program} {l : Launch} {e : Env} {s : State} {m : MethodId} {below : List Frame} {meth : Method} {c : Code} {b : Nat} (hx : p.tables.exec = Jvm.exec) (hb : c.code = code) (hr : meth.sig.returnType = ret) (hlocks : meth.locks = false) {pc : Nat} {H : Heap} {ls : Array Slot} (hdg : decode code pc = .ok (.ireturn, 1)) : W p l e room_1 s m #[Value.ref b] below meth c H [] 600000 7290000 (lw_Z below #[Value.ref b] s) (F0 m pc ls [.int 1]) := by
  intro T hT X
  obtain ⟨fs, hret, hrun, hended, hW, hframe⟩ := X.leave (v := some (.int 1)) (hlocks := hlocks) (fun h => by rw [hr] at h; cases h)
  have hmeth' : T.vm.method? m = some meth := X.method'
  refine ⟨T.setFrames fs, ?_, .returned (some (.int 1)), hrun, hended, rfl, ⟨_, rfl⟩, hW, hframe⟩
  jvm_step X.here [X.here.top, hx, hb, hdg, hmeth', hr, ret, narrow_b1]
  (try refine ⟨rfl, ?_⟩); (try refine ⟨rfl, ?_⟩)
  first | (intro acts; rw [hret _ acts rfl rfl rfl]) | rw [hret _ _ rfl rfl rfl]
  exact Steps.refl _
/-- what holds at the law's entry: the machine, the code, the tables' words (any of lw_tbl by 'hts w (by decide +kernel)'), the script of L ints xs at the cell b, what the Statement gives of the start (any of its parts by flat_of_before) -/
def lw_At (p : Program) (s : State) (m : MethodId) (meth : Method) (c : Code) (b L : Nat) (xs : Nat → Int32) : Prop :=
  p.tables.exec = Jvm.exec ∧ c.code = code ∧ meth.sig.returnType = ret ∧ c.maxLocals = 4 ∧ s.vm.findClass R_law = some m.cls ∧ (∀ w ∈ lw_tbl, w.before #[Value.ref b] s = true) ∧ va_X b L xs s s.heap ∧ b < s.heap.size ∧ meth.locks = false ∧ (Jvm.Cond.and given_1 narrow_1).before #[Value.ref b] s = true
end
section
/-! the law: a case a call -/
set_option maxRecDepth 100000
def lc_C (p : Program) (s : State) (m : MethodId) (c : Code) (b L : Nat) (xs : Nat → Int32) (G : va_G) (ca ca' : Nat → ClassId) (i : Nat) : Prop :=
  p.tables.exec = Jvm.exec ∧ c.code = cL_law ∧ c.maxLocals = 4 ∧ s.vm.findClass RX0 = some m.cls ∧ (∀ w ∈ lw_all, w.before #[Value.ref b] s = true) ∧ va_X b L xs s s.heap ∧ b < s.heap.size ∧ va_K G clR (tyX ca) s ∧ va_K G clR (tyM ca') s ∧ i + 3 ≤ L ∧ L ≤ 193
def lc_N (p : Program) (l : Launch) (e : Env) (s : State) (m : MethodId) (below : List Frame) (meth : Method) (c : Code) (b : Nat) (G : va_G) (ad : Nat → Nat) (ca : Nat → ClassId) (ad' : Nat → Nat) (ca' : Nat → ClassId) (cp : Nat) (Q : State → Prop) (i : Nat) : Prop :=
  ∀ (Ar : Nat → Int32) (De : Nat → Bool) (Ln : Nat → Nat) (Tm : Nat → Int32) (Td : Nat → Bool) (Va : Nat → Int32) (Li Th : Nat → Bool) (Ca : Nat → Int32) (Cl : Nat → Bool) (Sp : Nat → Int32) (Sl : Nat → Bool) (sz dd mv pb : Nat), rel cp Ar De Ln Va Li Th sz dd → ∀ (H : Heap) (locs : List Loc), va_P G clR (WX ad ca cp Ar De Ln Tm Td sz (sz + dd) pb mv ++ WM ad' ca' cp Va Li Th Ca Cl Sp Sl sz dd mv pb) H → va_D (fun q : Nat => s.heap.size ≤ q) (WX ad ca cp Ar De Ln Tm Td sz (sz + dd) pb mv ++ WM ad' ca' cp Va Li Th Ca Cl Sp Sl sz dd mv pb) → va_S (fun q : Nat => s.heap.size ≤ q) s.heap H locs → ∀ ls : Array Slot, lv_has ls 4 [(0, .ref b), (1, .ref (ad 0)), (2, .ref (ad' 0)), (3, .int (nI i))] → W p l e room_1 s m #[Value.ref b] below meth c H locs 14 10282 Q (F0 m 441 ls [])
theorem cw_calliR {p : Program} {l : Launch} {e : Env} {R : Room} {s : State} {m : MethodId} {args : Array Value} {below : List Frame} {meth : Method} {c : Code} {H : Heap} {locs : List Loc} {cells slots : Nat} {Q : State → Prop} {cc : ByteArray} {pc : Nat} {ls : Array Slot} {rest st : List Value} {D : va_G} {cl : List vw_C} {A : Nat → Prop} {tysc : List (ClassId × FieldType)} {w wr : va_W} {H0 : Heap} {y : MethodName} {bytes : ByteArray} {maxL nL n index : Nat} {ret : Option FieldType} {ws : List Cond} {rm : Room} {Ts : List Cond} {own C : String} {b : Nat} {As : List Value} {S : Type} {post : Int32 → S → Prop} {wf : S → va_W} (F : CallFix p m c cc nL s args Ts own) (hM : CI l y ws rm D cl tysc w (.ref b :: As) post wf) (cw : CallW R s args own C index y bytes maxL ret ws rm 0 0 n) (hK : va_K D cl tysc s) (hP : va_P D cl (wr ++ w) H) (hD : va_D A (wr ++ w)) (hS : va_S A H0 H locs) (hA : ∀ q, H0.size ≤ q → A q) {ci : Nat} {fs : List Value} {T : u_T} {N : Nat} (he : w[0]? = some (b, .inr (ci, fs))) (hc : cl[ci]? = some (C, T, N))
    (hn : As.length = n) (hsize : ls.size = nL) (hstack : st = As.reverse ++ .ref b :: rest) (hW : (rest.map fun v => v.category).sum ≤ 8) (hdg : decode cc pc = .ok (.invokevirtual index, 3)) (hf : cells ≤ R.cells ∧ slots ≤ R.slots)
    (kk : ∀ (r : Int32) (u : S) (H1 : Heap) (locs1 : List Loc), post r u → va_P D cl (wr ++ wf u) H1 → va_D A (wr ++ wf u) → va_S A H0 H1 locs1 → W p l e R s m args below meth c H1 locs1 cells slots Q (F0 m (pc + 3) ls (.int r :: rest))) : W p l e R s m args below meth c H locs cells slots Q (F0 m pc ls st) :=
  cw_calli F hM cw hK (cw_swap hP hD).1 (cw_swap hP hD).2 hS hA he hc hn hsize hstack hW hdg hf (fun r u H1 locs1 hpo hP2 hD2 hS1 => kk r u H1 locs1 hpo (cw_swap hP2 hD2).1 (cw_swap hP2 hD2).2 hS1)
theorem lc_sld {p : Program} {l : Launch} {e : Env} {R : Room} {s : State} {m : MethodId} {args : Array Value} {below : List Frame} {meth : Method} {c : Code} {H : Heap} {locs : List Loc} {cells slots : Nat} {Q : State → Prop} {cc : ByteArray} {pc : Nat} {ls : Array Slot} {rest : List Value} {b L : Nat} {xs : Nat → Int32} (hx : p.tables.exec = Jvm.exec) (hb : c.code = cc) (hX : va_X b L xs s s.heap) (hbl : b < s.heap.size) (hS : va_S (fun q : Nat => s.heap.size ≤ q) s.heap H locs) {k : Nat} (hk : k < L) (hL : L ≤ 193) (hd : decode cc pc = .ok (.iaload, 1)) (kk : W p l e R s m args below meth c H locs cells slots Q (F0 m (pc + 1) ls (.int (xs k) :: rest))) : W p l e R s m args below meth c H locs cells slots Q (F0 m pc ls (.int (nI k) :: .ref b :: rest)) :=
  va_sld hx hb hX hbl (Nat.not_le.mpr hbl) hS (vp_in_nI hk (by omega)) hd (by rw [nI_clamp (by omega)]; exact kk)
set_option maxHeartbeats 4000000 in
set_option maxRecDepth 100000 in
theorem lc_count {p : Program} {l : Launch} {e : Env} {s : State} {m : MethodId} {below : List Frame} {meth : Method} {c : Code} {b L : Nat} {xs : Nat → Int32} {G : va_G} {ad : Nat → Nat} {ca : Nat → ClassId} {ad' : Nat → Nat} {ca' : Nat → ClassId} {cp : Nat} {Q : State → Prop} {i : Nat} (C : lc_C p s m c b L xs G ca ca' i) (next : lc_N p l e s m below meth c b G ad ca ad' ca' cp Q i) {Ar : Nat → Int32} {De : Nat → Bool} {Ln : Nat → Nat} {Tm : Nat → Int32} {Td : Nat → Bool} {Va : Nat → Int32} {Li Th : Nat → Bool} {Ca : Nat → Int32} {Cl : Nat → Bool} {Sp : Nat → Int32} {Sl : Nat → Bool} {sz dd mv pb : Nat} (hR : rel cp Ar De Ln Va Li Th sz dd) {H : Heap} {locs : List Loc} (hP : va_P G clR (WX ad ca cp Ar De Ln Tm Td sz (sz + dd) pb mv ++ WM ad' ca' cp Va Li Th Ca Cl Sp Sl sz dd mv pb) H) (hD : va_D (fun q : Nat => s.heap.size ≤ q) (WX ad ca cp Ar De Ln Tm Td sz (sz + dd) pb mv ++ WM ad' ca' cp Va Li Th Ca Cl Sp Sl sz dd mv pb)) (hS : va_S (fun q : Nat => s.heap.size ≤ q) s.heap H locs) {ls : Array Slot} (hl : lv_has ls 4 [(0, .ref b), (1, .ref (ad 0)), (2, .ref (ad' 0)), (3, .int (nI i))]) : W p l e room_1 s m #[Value.ref b] below meth c H locs 14 10282 Q (F0 m 162 ls []) := by
  obtain ⟨hx, hb, hml, hown, hts, hX, hbl, hKx, hKm, hi, hL⟩ := C
  have hA : ∀ q : Nat, s.heap.size ≤ q → (fun q : Nat => s.heap.size ≤ q) q := fun _ h => h
  have hLn := rel_len hR.1
  have eB := rel_b hR.1
  refine lv_aload_n hx hb dL_law_162 rfl (lv_at hl 1 rfl) ?_
  refine lv_aload_n hx hb dL_law_163 rfl (lv_at hl 0 rfl) ?_
  refine lv_iload_n hx hb dL_law_164 rfl (lv_at hl 3 rfl) ?_
  refine lv_iconst (v := nI 1) hx hb dL_law_165 (by decide +kernel) ?_
  refine rr_nadd hx hb dL_law_166 ?_
  refine lc_sld hx hb hX hbl hS (by omega) hL dL_law_167 ?_
  refine cw_calli (w := WX ad ca cp Ar De Ln Tm Td sz (sz + dd) pb mv) (wr := WM ad' ca' cp Va Li Th Ca Cl Sp Sl sz dd mv pb) (C := RX1) (As := [.int (xs (i + 1))]) (rest := []) ⟨hx, hb, hml, hown, hts⟩ (metX1_count l G ad ca cp Ar De Ln Tm Td sz (sz + dd) pb mv (xs (i + 1)) hLn) (cwV 1 hts (lw_V q88 q89 q90 q13 q91) rfl rfl rfl (by decide +kernel) ⟨by decide, by decide⟩) hKx hP hD hS hA rfl rfl rfl hl.1 rfl (Nat.le_of_ble_eq_true rfl) dL_law_168 ⟨Nat.le_of_ble_eq_true rfl, Nat.le_of_ble_eq_true rfl⟩ (fun r1 _ H locs hpo1 hP hD hS => ?_)
  have hP : va_P G clR (WX ad ca cp Ar De Ln Tm Td sz (sz + dd) (0 + (bX Ar De Ln (xs (i + 1)).toInt64).2 + (bX Ar De Ln ((xs (i + 1)).toInt64 + 1)).2) mv ++ WM ad' ca' cp Va Li Th Ca Cl Sp Sl sz dd mv pb) H := hP
  have hD : va_D (fun q : Nat => s.heap.size ≤ q) (WX ad ca cp Ar De Ln Tm Td sz (sz + dd) (0 + (bX Ar De Ln (xs (i + 1)).toInt64).2 + (bX Ar De Ln ((xs (i + 1)).toInt64 + 1)).2) mv ++ WM ad' ca' cp Va Li Th Ca Cl Sp Sl sz dd mv pb) := hD
  rw [eB] at hpo1 hP hD
  refine lv_aload_n hx hb dL_law_171 rfl (lv_at hl 2 rfl) ?_
  refine lv_aload_n hx hb dL_law_172 rfl (lv_at hl 0 rfl) ?_
  refine lv_iload_n hx hb dL_law_173 rfl (lv_at hl 3 rfl) ?_
  refine lv_iconst (v := nI 1) hx hb dL_law_174 (by decide +kernel) ?_
  refine rr_nadd hx hb dL_law_175 ?_
  refine lc_sld hx hb hX hbl hS (by omega) hL dL_law_176 ?_
  refine cw_calliR (w := WM ad' ca' cp Va Li Th Ca Cl Sp Sl sz dd mv pb) (wr := WX ad ca cp Ar De Ln Tm Td sz (sz + dd) (0 + (bM Va Li Th (xs (i + 1)).toInt64).2 + (bM Va Li Th ((xs (i + 1)).toInt64 + 1)).2) mv) (C := RX2) (As := [.int (xs (i + 1))]) (rest := [.int r1]) ⟨hx, hb, hml, hown, hts⟩ (metX2_count l G ad' ca' cp Va Li Th Ca Cl Sp Sl sz dd mv pb (xs (i + 1))) (cwV 1 hts (lw_V q221 q222 q223 q14 q224) rfl rfl rfl (by decide +kernel) ⟨by decide, by decide⟩) hKm hP hD hS hA rfl rfl rfl hl.1 rfl (Nat.le_of_ble_eq_true rfl) dL_law_177 ⟨Nat.le_of_ble_eq_true rfl, Nat.le_of_ble_eq_true rfl⟩ (fun r2 _ H locs hpo2 hP hD hS => ?_)
  have hP : va_P G clR (WX ad ca cp Ar De Ln Tm Td sz (sz + dd) (0 + (bM Va Li Th (xs (i + 1)).toInt64).2 + (bM Va Li Th ((xs (i + 1)).toInt64 + 1)).2) mv ++ WM ad' ca' cp Va Li Th Ca Cl Sp Sl sz dd mv (0 + (bM Va Li Th (xs (i + 1)).toInt64).2 + (bM Va Li Th ((xs (i + 1)).toInt64 + 1)).2)) H := hP
  have hD : va_D (fun q : Nat => s.heap.size ≤ q) (WX ad ca cp Ar De Ln Tm Td sz (sz + dd) (0 + (bM Va Li Th (xs (i + 1)).toInt64).2 + (bM Va Li Th ((xs (i + 1)).toInt64 + 1)).2) mv ++ WM ad' ca' cp Va Li Th Ca Cl Sp Sl sz dd mv (0 + (bM Va Li Th (xs (i + 1)).toInt64).2 + (bM Va Li Th ((xs (i + 1)).toInt64 + 1)).2)) := hD
  refine lv_icmp_eq (tgt := 441) hx hb dL_law_180 (by decide) (fun _ => ?_) (fun c9 => absurd (hpo1.trans hpo2.symm) c9)
  exact next _ _ _ _ _ _ _ _ _ _ _ _ _ _ _ _ hR _ _ hP hD hS _ hl
set_option maxHeartbeats 4000000 in
set_option maxRecDepth 100000 in
theorem lc_rank {p : Program} {l : Launch} {e : Env} {s : State} {m : MethodId} {below : List Frame} {meth : Method} {c : Code} {b L : Nat} {xs : Nat → Int32} {G : va_G} {ad : Nat → Nat} {ca : Nat → ClassId} {ad' : Nat → Nat} {ca' : Nat → ClassId} {cp : Nat} {Q : State → Prop} {i : Nat} (C : lc_C p s m c b L xs G ca ca' i) (next : lc_N p l e s m below meth c b G ad ca ad' ca' cp Q i) {Ar : Nat → Int32} {De : Nat → Bool} {Ln : Nat → Nat} {Tm : Nat → Int32} {Td : Nat → Bool} {Va : Nat → Int32} {Li Th : Nat → Bool} {Ca : Nat → Int32} {Cl : Nat → Bool} {Sp : Nat → Int32} {Sl : Nat → Bool} {sz dd mv pb : Nat} (hR : rel cp Ar De Ln Va Li Th sz dd) {H : Heap} {locs : List Loc} (hP : va_P G clR (WX ad ca cp Ar De Ln Tm Td sz (sz + dd) pb mv ++ WM ad' ca' cp Va Li Th Ca Cl Sp Sl sz dd mv pb) H) (hD : va_D (fun q : Nat => s.heap.size ≤ q) (WX ad ca cp Ar De Ln Tm Td sz (sz + dd) pb mv ++ WM ad' ca' cp Va Li Th Ca Cl Sp Sl sz dd mv pb)) (hS : va_S (fun q : Nat => s.heap.size ≤ q) s.heap H locs) {ls : Array Slot} (hl : lv_has ls 4 [(0, .ref b), (1, .ref (ad 0)), (2, .ref (ad' 0)), (3, .int (nI i))]) : W p l e room_1 s m #[Value.ref b] below meth c H locs 14 10282 Q (F0 m 185 ls []) := by
  obtain ⟨hx, hb, hml, hown, hts, hX, hbl, hKx, hKm, hi, hL⟩ := C
  have hA : ∀ q : Nat, s.heap.size ≤ q → (fun q : Nat => s.heap.size ≤ q) q := fun _ h => h
  have hLn := rel_len hR.1
  have eB := rel_b hR.1
  refine lv_aload_n hx hb dL_law_185 rfl (lv_at hl 1 rfl) ?_
  refine lv_aload_n hx hb dL_law_186 rfl (lv_at hl 0 rfl) ?_
  refine lv_iload_n hx hb dL_law_187 rfl (lv_at hl 3 rfl) ?_
  refine lv_iconst (v := nI 1) hx hb dL_law_188 (by decide +kernel) ?_
  refine rr_nadd hx hb dL_law_189 ?_
  refine lc_sld hx hb hX hbl hS (by omega) hL dL_law_190 ?_
  refine cw_calli (w := WX ad ca cp Ar De Ln Tm Td sz (sz + dd) pb mv) (wr := WM ad' ca' cp Va Li Th Ca Cl Sp Sl sz dd mv pb) (C := RX1) (As := [.int (xs (i + 1))]) (rest := []) ⟨hx, hb, hml, hown, hts⟩ (metX1_rank l G ad ca cp Ar De Ln Tm Td sz (sz + dd) pb mv (xs (i + 1)) hLn) (cwV 1 hts (lw_V q104 q105 q106 q13 q107) rfl rfl rfl (by decide +kernel) ⟨by decide, by decide⟩) hKx hP hD hS hA rfl rfl rfl hl.1 rfl (Nat.le_of_ble_eq_true rfl) dL_law_191 ⟨Nat.le_of_ble_eq_true rfl, Nat.le_of_ble_eq_true rfl⟩ (fun r1 _ H locs hpo1 hP hD hS => ?_)
  have hP : va_P G clR (WX ad ca cp Ar De Ln Tm Td sz (sz + dd) (0 + (bX Ar De Ln (xs (i + 1)).toInt64).2) mv ++ WM ad' ca' cp Va Li Th Ca Cl Sp Sl sz dd mv pb) H := hP
  have hD : va_D (fun q : Nat => s.heap.size ≤ q) (WX ad ca cp Ar De Ln Tm Td sz (sz + dd) (0 + (bX Ar De Ln (xs (i + 1)).toInt64).2) mv ++ WM ad' ca' cp Va Li Th Ca Cl Sp Sl sz dd mv pb) := hD
  rw [eB] at hpo1 hP hD
  refine lv_aload_n hx hb dL_law_194 rfl (lv_at hl 2 rfl) ?_
  refine lv_aload_n hx hb dL_law_195 rfl (lv_at hl 0 rfl) ?_
  refine lv_iload_n hx hb dL_law_196 rfl (lv_at hl 3 rfl) ?_
  refine lv_iconst (v := nI 1) hx hb dL_law_197 (by decide +kernel) ?_
  refine rr_nadd hx hb dL_law_198 ?_
  refine lc_sld hx hb hX hbl hS (by omega) hL dL_law_199 ?_
  refine cw_calliR (w := WM ad' ca' cp Va Li Th Ca Cl Sp Sl sz dd mv pb) (wr := WX ad ca cp Ar De Ln Tm Td sz (sz + dd) (0 + (bM Va Li Th (xs (i + 1)).toInt64).2) mv) (C := RX2) (As := [.int (xs (i + 1))]) (rest := [.int r1]) ⟨hx, hb, hml, hown, hts⟩ (metX2_rank l G ad' ca' cp Va Li Th Ca Cl Sp Sl sz dd mv pb (xs (i + 1))) (cwV 1 hts (lw_V q229 q230 q231 q14 q232) rfl rfl rfl (by decide +kernel) ⟨by decide, by decide⟩) hKm hP hD hS hA rfl rfl rfl hl.1 rfl (Nat.le_of_ble_eq_true rfl) dL_law_200 ⟨Nat.le_of_ble_eq_true rfl, Nat.le_of_ble_eq_true rfl⟩ (fun r2 _ H locs hpo2 hP hD hS => ?_)
  have hP : va_P G clR (WX ad ca cp Ar De Ln Tm Td sz (sz + dd) (0 + (bM Va Li Th (xs (i + 1)).toInt64).2) mv ++ WM ad' ca' cp Va Li Th Ca Cl Sp Sl sz dd mv (0 + (bM Va Li Th (xs (i + 1)).toInt64).2)) H := hP
  have hD : va_D (fun q : Nat => s.heap.size ≤ q) (WX ad ca cp Ar De Ln Tm Td sz (sz + dd) (0 + (bM Va Li Th (xs (i + 1)).toInt64).2) mv ++ WM ad' ca' cp Va Li Th Ca Cl Sp Sl sz dd mv (0 + (bM Va Li Th (xs (i + 1)).toInt64).2)) := hD
  refine lv_icmp_eq (tgt := 441) hx hb dL_law_203 (by decide) (fun _ => ?_) (fun c9 => absurd (hpo1.trans hpo2.symm) c9)
  exact next _ _ _ _ _ _ _ _ _ _ _ _ _ _ _ _ hR _ _ hP hD hS _ hl
set_option maxHeartbeats 4000000 in
set_option maxRecDepth 100000 in
theorem lc_pred {p : Program} {l : Launch} {e : Env} {s : State} {m : MethodId} {below : List Frame} {meth : Method} {c : Code} {b L : Nat} {xs : Nat → Int32} {G : va_G} {ad : Nat → Nat} {ca : Nat → ClassId} {ad' : Nat → Nat} {ca' : Nat → ClassId} {cp : Nat} {Q : State → Prop} {i : Nat} (C : lc_C p s m c b L xs G ca ca' i) (next : lc_N p l e s m below meth c b G ad ca ad' ca' cp Q i) {Ar : Nat → Int32} {De : Nat → Bool} {Ln : Nat → Nat} {Tm : Nat → Int32} {Td : Nat → Bool} {Va : Nat → Int32} {Li Th : Nat → Bool} {Ca : Nat → Int32} {Cl : Nat → Bool} {Sp : Nat → Int32} {Sl : Nat → Bool} {sz dd mv pb : Nat} (hR : rel cp Ar De Ln Va Li Th sz dd) {H : Heap} {locs : List Loc} (hP : va_P G clR (WX ad ca cp Ar De Ln Tm Td sz (sz + dd) pb mv ++ WM ad' ca' cp Va Li Th Ca Cl Sp Sl sz dd mv pb) H) (hD : va_D (fun q : Nat => s.heap.size ≤ q) (WX ad ca cp Ar De Ln Tm Td sz (sz + dd) pb mv ++ WM ad' ca' cp Va Li Th Ca Cl Sp Sl sz dd mv pb)) (hS : va_S (fun q : Nat => s.heap.size ≤ q) s.heap H locs) {ls : Array Slot} (hl : lv_has ls 4 [(0, .ref b), (1, .ref (ad 0)), (2, .ref (ad' 0)), (3, .int (nI i))]) : W p l e room_1 s m #[Value.ref b] below meth c H locs 14 10282 Q (F0 m 254 ls []) := by
  obtain ⟨hx, hb, hml, hown, hts, hX, hbl, hKx, hKm, hi, hL⟩ := C
  have hA : ∀ q : Nat, s.heap.size ≤ q → (fun q : Nat => s.heap.size ≤ q) q := fun _ h => h
  have hLn := rel_len hR.1
  have eB := rel_b hR.1
  refine lv_aload_n hx hb dL_law_254 rfl (lv_at hl 1 rfl) ?_
  refine lv_aload_n hx hb dL_law_255 rfl (lv_at hl 0 rfl) ?_
  refine lv_iload_n hx hb dL_law_256 rfl (lv_at hl 3 rfl) ?_
  refine lv_iconst (v := nI 1) hx hb dL_law_257 (by decide +kernel) ?_
  refine rr_nadd hx hb dL_law_258 ?_
  refine lc_sld hx hb hX hbl hS (by omega) hL dL_law_259 ?_
  refine cw_calli (w := WX ad ca cp Ar De Ln Tm Td sz (sz + dd) pb mv) (wr := WM ad' ca' cp Va Li Th Ca Cl Sp Sl sz dd mv pb) (C := RX1) (As := [.int (xs (i + 1))]) (rest := []) ⟨hx, hb, hml, hown, hts⟩ (metX1_pred l G ad ca cp Ar De Ln Tm Td sz (sz + dd) pb mv (xs (i + 1)) hLn) (cwV 1 hts (lw_V q118 q119 q120 q13 q121) rfl rfl rfl (by decide +kernel) ⟨by decide, by decide⟩) hKx hP hD hS hA rfl rfl rfl hl.1 rfl (Nat.le_of_ble_eq_true rfl) dL_law_260 ⟨Nat.le_of_ble_eq_true rfl, Nat.le_of_ble_eq_true rfl⟩ (fun r1 _ H locs hpo1 hP hD hS => ?_)
  have hP : va_P G clR (WX ad ca cp Ar De Ln Tm Td sz (sz + dd) (0 + (bX Ar De Ln (xs (i + 1)).toInt64).2) mv ++ WM ad' ca' cp Va Li Th Ca Cl Sp Sl sz dd mv pb) H := hP
  have hD : va_D (fun q : Nat => s.heap.size ≤ q) (WX ad ca cp Ar De Ln Tm Td sz (sz + dd) (0 + (bX Ar De Ln (xs (i + 1)).toInt64).2) mv ++ WM ad' ca' cp Va Li Th Ca Cl Sp Sl sz dd mv pb) := hD
  rw [eB] at hpo1 hP hD
  refine lv_aload_n hx hb dL_law_263 rfl (lv_at hl 2 rfl) ?_
  refine lv_aload_n hx hb dL_law_264 rfl (lv_at hl 0 rfl) ?_
  refine lv_iload_n hx hb dL_law_265 rfl (lv_at hl 3 rfl) ?_
  refine lv_iconst (v := nI 1) hx hb dL_law_266 (by decide +kernel) ?_
  refine rr_nadd hx hb dL_law_267 ?_
  refine lc_sld hx hb hX hbl hS (by omega) hL dL_law_268 ?_
  refine cw_calliR (w := WM ad' ca' cp Va Li Th Ca Cl Sp Sl sz dd mv pb) (wr := WX ad ca cp Ar De Ln Tm Td sz (sz + dd) (0 + (bM Va Li Th (xs (i + 1)).toInt64).2) mv) (C := RX2) (As := [.int (xs (i + 1))]) (rest := [.int r1]) ⟨hx, hb, hml, hown, hts⟩ (metX2_pred l G ad' ca' cp Va Li Th Ca Cl Sp Sl sz dd mv pb (xs (i + 1))) (cwV 1 hts (lw_V q247 q248 q249 q14 q250) rfl rfl rfl (by decide +kernel) ⟨by decide, by decide⟩) hKm hP hD hS hA rfl rfl rfl hl.1 rfl (Nat.le_of_ble_eq_true rfl) dL_law_269 ⟨Nat.le_of_ble_eq_true rfl, Nat.le_of_ble_eq_true rfl⟩ (fun r2 _ H locs hpo2 hP hD hS => ?_)
  have hP : va_P G clR (WX ad ca cp Ar De Ln Tm Td sz (sz + dd) (0 + (bM Va Li Th (xs (i + 1)).toInt64).2) mv ++ WM ad' ca' cp Va Li Th Ca Cl Sp Sl sz dd mv (0 + (bM Va Li Th (xs (i + 1)).toInt64).2)) H := hP
  have hD : va_D (fun q : Nat => s.heap.size ≤ q) (WX ad ca cp Ar De Ln Tm Td sz (sz + dd) (0 + (bM Va Li Th (xs (i + 1)).toInt64).2) mv ++ WM ad' ca' cp Va Li Th Ca Cl Sp Sl sz dd mv (0 + (bM Va Li Th (xs (i + 1)).toInt64).2)) := hD
  refine lv_icmp_eq (tgt := 441) hx hb dL_law_272 (by decide) (fun _ => ?_) (fun c9 => absurd (hpo1.trans hpo2.symm) c9)
  exact next _ _ _ _ _ _ _ _ _ _ _ _ _ _ _ _ hR _ _ hP hD hS _ hl
set_option maxHeartbeats 4000000 in
set_option maxRecDepth 100000 in
theorem lc_succ {p : Program} {l : Launch} {e : Env} {s : State} {m : MethodId} {below : List Frame} {meth : Method} {c : Code} {b L : Nat} {xs : Nat → Int32} {G : va_G} {ad : Nat → Nat} {ca : Nat → ClassId} {ad' : Nat → Nat} {ca' : Nat → ClassId} {cp : Nat} {Q : State → Prop} {i : Nat} (C : lc_C p s m c b L xs G ca ca' i) (next : lc_N p l e s m below meth c b G ad ca ad' ca' cp Q i) {Ar : Nat → Int32} {De : Nat → Bool} {Ln : Nat → Nat} {Tm : Nat → Int32} {Td : Nat → Bool} {Va : Nat → Int32} {Li Th : Nat → Bool} {Ca : Nat → Int32} {Cl : Nat → Bool} {Sp : Nat → Int32} {Sl : Nat → Bool} {sz dd mv pb : Nat} (hR : rel cp Ar De Ln Va Li Th sz dd) {H : Heap} {locs : List Loc} (hP : va_P G clR (WX ad ca cp Ar De Ln Tm Td sz (sz + dd) pb mv ++ WM ad' ca' cp Va Li Th Ca Cl Sp Sl sz dd mv pb) H) (hD : va_D (fun q : Nat => s.heap.size ≤ q) (WX ad ca cp Ar De Ln Tm Td sz (sz + dd) pb mv ++ WM ad' ca' cp Va Li Th Ca Cl Sp Sl sz dd mv pb)) (hS : va_S (fun q : Nat => s.heap.size ≤ q) s.heap H locs) {ls : Array Slot} (hl : lv_has ls 4 [(0, .ref b), (1, .ref (ad 0)), (2, .ref (ad' 0)), (3, .int (nI i))]) : W p l e room_1 s m #[Value.ref b] below meth c H locs 14 10282 Q (F0 m 277 ls []) := by
  obtain ⟨hx, hb, hml, hown, hts, hX, hbl, hKx, hKm, hi, hL⟩ := C
  have hA : ∀ q : Nat, s.heap.size ≤ q → (fun q : Nat => s.heap.size ≤ q) q := fun _ h => h
  have hLn := rel_len hR.1
  have eB := rel_b hR.1
  have h256 := hR.1.2.2.2.2.2.2.1
  have h256b := hR.1.2.2.2.2.2.2.2
  have hbf : (bX Ar De Ln ((xs (i + 1)).toInt64 + 1)).1 < 2147483648 := Nat.lt_of_le_of_lt (bel_le Ar (fun p => !De p) Ln ((xs (i + 1)).toInt64 + 1) 10 hLn) (by decide)
  refine lv_aload_n hx hb dL_law_277 rfl (lv_at hl 1 rfl) ?_
  refine lv_aload_n hx hb dL_law_278 rfl (lv_at hl 0 rfl) ?_
  refine lv_iload_n hx hb dL_law_279 rfl (lv_at hl 3 rfl) ?_
  refine lv_iconst (v := nI 1) hx hb dL_law_280 (by decide +kernel) ?_
  refine rr_nadd hx hb dL_law_281 ?_
  refine lc_sld hx hb hX hbl hS (by omega) hL dL_law_282 ?_
  refine cw_calli (w := WX ad ca cp Ar De Ln Tm Td sz (sz + dd) pb mv) (wr := WM ad' ca' cp Va Li Th Ca Cl Sp Sl sz dd mv pb) (C := RX1) (As := [.int (xs (i + 1))]) (rest := []) ⟨hx, hb, hml, hown, hts⟩ (metX1_succ l G ad ca cp Ar De Ln Tm Td sz (sz + dd) pb mv (xs (i + 1)) hLn (by omega) hbf) (cwV 1 hts (lw_V q122 q123 q124 q13 q125) rfl rfl rfl (by decide +kernel) ⟨by decide, by decide⟩) hKx hP hD hS hA rfl rfl rfl hl.1 rfl (Nat.le_of_ble_eq_true rfl) dL_law_283 ⟨Nat.le_of_ble_eq_true rfl, Nat.le_of_ble_eq_true rfl⟩ (fun r1 _ H locs hpo1 hP hD hS => ?_)
  have hP : va_P G clR (WX ad ca cp Ar De Ln Tm Td sz (sz + dd) (0 + (bX Ar De Ln ((xs (i + 1)).toInt64 + 1)).2) mv ++ WM ad' ca' cp Va Li Th Ca Cl Sp Sl sz dd mv pb) H := hP
  have hD : va_D (fun q : Nat => s.heap.size ≤ q) (WX ad ca cp Ar De Ln Tm Td sz (sz + dd) (0 + (bX Ar De Ln ((xs (i + 1)).toInt64 + 1)).2) mv ++ WM ad' ca' cp Va Li Th Ca Cl Sp Sl sz dd mv pb) := hD
  rw [eB] at hpo1 hP hD
  refine lv_aload_n hx hb dL_law_286 rfl (lv_at hl 2 rfl) ?_
  refine lv_aload_n hx hb dL_law_287 rfl (lv_at hl 0 rfl) ?_
  refine lv_iload_n hx hb dL_law_288 rfl (lv_at hl 3 rfl) ?_
  refine lv_iconst (v := nI 1) hx hb dL_law_289 (by decide +kernel) ?_
  refine rr_nadd hx hb dL_law_290 ?_
  refine lc_sld hx hb hX hbl hS (by omega) hL dL_law_291 ?_
  refine cw_calliR (w := WM ad' ca' cp Va Li Th Ca Cl Sp Sl sz dd mv pb) (wr := WX ad ca cp Ar De Ln Tm Td sz (sz + dd) (0 + (bM Va Li Th ((xs (i + 1)).toInt64 + 1)).2) mv) (C := RX2) (As := [.int (xs (i + 1))]) (rest := [.int r1]) ⟨hx, hb, hml, hown, hts⟩ (metX2_succ l G ad' ca' cp Va Li Th Ca Cl Sp Sl sz dd mv pb (xs (i + 1)) (by omega) (by rw [← eB]; exact hbf)) (cwV 1 hts (lw_V q251 q252 q253 q14 q254) rfl rfl rfl (by decide +kernel) ⟨by decide, by decide⟩) hKm hP hD hS hA rfl rfl rfl hl.1 rfl (Nat.le_of_ble_eq_true rfl) dL_law_292 ⟨Nat.le_of_ble_eq_true rfl, Nat.le_of_ble_eq_true rfl⟩ (fun r2 _ H locs hpo2 hP hD hS => ?_)
  have hP : va_P G clR (WX ad ca cp Ar De Ln Tm Td sz (sz + dd) (0 + (bM Va Li Th ((xs (i + 1)).toInt64 + 1)).2) mv ++ WM ad' ca' cp Va Li Th Ca Cl Sp Sl sz dd mv (0 + (bM Va Li Th ((xs (i + 1)).toInt64 + 1)).2)) H := hP
  have hD : va_D (fun q : Nat => s.heap.size ≤ q) (WX ad ca cp Ar De Ln Tm Td sz (sz + dd) (0 + (bM Va Li Th ((xs (i + 1)).toInt64 + 1)).2) mv ++ WM ad' ca' cp Va Li Th Ca Cl Sp Sl sz dd mv (0 + (bM Va Li Th ((xs (i + 1)).toInt64 + 1)).2)) := hD
  refine lv_icmp_eq (tgt := 441) hx hb dL_law_295 (by decide) (fun _ => ?_) (fun c9 => absurd (hpo1.trans hpo2.symm) c9)
  exact next _ _ _ _ _ _ _ _ _ _ _ _ _ _ _ _ hR _ _ hP hD hS _ hl
set_option maxHeartbeats 4000000 in
set_option maxRecDepth 100000 in
theorem lc_has {p : Program} {l : Launch} {e : Env} {s : State} {m : MethodId} {below : List Frame} {meth : Method} {c : Code} {b L : Nat} {xs : Nat → Int32} {G : va_G} {ad : Nat → Nat} {ca : Nat → ClassId} {ad' : Nat → Nat} {ca' : Nat → ClassId} {cp : Nat} {Q : State → Prop} {i : Nat} (C : lc_C p s m c b L xs G ca ca' i) (next : lc_N p l e s m below meth c b G ad ca ad' ca' cp Q i) {Ar : Nat → Int32} {De : Nat → Bool} {Ln : Nat → Nat} {Tm : Nat → Int32} {Td : Nat → Bool} {Va : Nat → Int32} {Li Th : Nat → Bool} {Ca : Nat → Int32} {Cl : Nat → Bool} {Sp : Nat → Int32} {Sl : Nat → Bool} {sz dd mv pb : Nat} (hR : rel cp Ar De Ln Va Li Th sz dd) {H : Heap} {locs : List Loc} (hP : va_P G clR (WX ad ca cp Ar De Ln Tm Td sz (sz + dd) pb mv ++ WM ad' ca' cp Va Li Th Ca Cl Sp Sl sz dd mv pb) H) (hD : va_D (fun q : Nat => s.heap.size ≤ q) (WX ad ca cp Ar De Ln Tm Td sz (sz + dd) pb mv ++ WM ad' ca' cp Va Li Th Ca Cl Sp Sl sz dd mv pb)) (hS : va_S (fun q : Nat => s.heap.size ≤ q) s.heap H locs) {ls : Array Slot} (hl : lv_has ls 4 [(0, .ref b), (1, .ref (ad 0)), (2, .ref (ad' 0)), (3, .int (nI i))]) : W p l e room_1 s m #[Value.ref b] below meth c H locs 14 10282 Q (F0 m 231 ls []) := by
  obtain ⟨hx, hb, hml, hown, hts, hX, hbl, hKx, hKm, hi, hL⟩ := C
  have hA : ∀ q : Nat, s.heap.size ≤ q → (fun q : Nat => s.heap.size ≤ q) q := fun _ h => h
  have hLn := rel_len hR.1
  refine lv_aload_n hx hb dL_law_231 rfl (lv_at hl 1 rfl) ?_
  refine lv_aload_n hx hb dL_law_232 rfl (lv_at hl 0 rfl) ?_
  refine lv_iload_n hx hb dL_law_233 rfl (lv_at hl 3 rfl) ?_
  refine lv_iconst (v := nI 1) hx hb dL_law_234 (by decide +kernel) ?_
  refine rr_nadd hx hb dL_law_235 ?_
  refine lc_sld hx hb hX hbl hS (by omega) hL dL_law_236 ?_
  refine cw_calli (w := WX ad ca cp Ar De Ln Tm Td sz (sz + dd) pb mv) (wr := WM ad' ca' cp Va Li Th Ca Cl Sp Sl sz dd mv pb) (C := RX1) (As := [.int (xs (i + 1))]) (rest := []) ⟨hx, hb, hml, hown, hts⟩ (metX1_has l G ad ca cp Ar De Ln Tm Td sz (sz + dd) pb mv (xs (i + 1))) (cwV 1 hts (lw_V q114 q115 q116 q13 q117) rfl rfl rfl (by decide +kernel) ⟨by decide, by decide⟩) hKx hP hD hS hA rfl rfl rfl hl.1 rfl (Nat.le_of_ble_eq_true rfl) dL_law_237 ⟨Nat.le_of_ble_eq_true rfl, Nat.le_of_ble_eq_true rfl⟩ (fun r1 _ H locs hpo1 hP hD hS => ?_)
  have hP : va_P G clR (WX ad ca cp Ar De Ln Tm Td sz (sz + dd) 0 mv ++ WM ad' ca' cp Va Li Th Ca Cl Sp Sl sz dd mv pb) H := hP
  have hD : va_D (fun q : Nat => s.heap.size ≤ q) (WX ad ca cp Ar De Ln Tm Td sz (sz + dd) 0 mv ++ WM ad' ca' cp Va Li Th Ca Cl Sp Sl sz dd mv pb) := hD
  refine lv_aload_n hx hb dL_law_240 rfl (lv_at hl 2 rfl) ?_
  refine lv_aload_n hx hb dL_law_241 rfl (lv_at hl 0 rfl) ?_
  refine lv_iload_n hx hb dL_law_242 rfl (lv_at hl 3 rfl) ?_
  refine lv_iconst (v := nI 1) hx hb dL_law_243 (by decide +kernel) ?_
  refine rr_nadd hx hb dL_law_244 ?_
  refine lc_sld hx hb hX hbl hS (by omega) hL dL_law_245 ?_
  refine cw_calliR (w := WM ad' ca' cp Va Li Th Ca Cl Sp Sl sz dd mv pb) (wr := WX ad ca cp Ar De Ln Tm Td sz (sz + dd) 0 mv) (C := RX2) (As := [.int (xs (i + 1))]) (rest := [.int r1]) ⟨hx, hb, hml, hown, hts⟩ (metX2_has l G ad' ca' cp Va Li Th Ca Cl Sp Sl sz dd mv pb (xs (i + 1))) (cwV 1 hts (lw_V q243 q244 q245 q14 q246) rfl rfl rfl (by decide +kernel) ⟨by decide, by decide⟩) hKm hP hD hS hA rfl rfl rfl hl.1 rfl (Nat.le_of_ble_eq_true rfl) dL_law_246 ⟨Nat.le_of_ble_eq_true rfl, Nat.le_of_ble_eq_true rfl⟩ (fun r2 _ H locs hpo2 hP hD hS => ?_)
  have hP : va_P G clR (WX ad ca cp Ar De Ln Tm Td sz (sz + dd) 0 mv ++ WM ad' ca' cp Va Li Th Ca Cl Sp Sl sz dd mv 0) H := hP
  have hD : va_D (fun q : Nat => s.heap.size ≤ q) (WX ad ca cp Ar De Ln Tm Td sz (sz + dd) 0 mv ++ WM ad' ca' cp Va Li Th Ca Cl Sp Sl sz dd mv 0) := hD
  refine lv_icmp_eq (tgt := 441) hx hb dL_law_249 (by decide) (fun _ => ?_) (fun c9 => absurd (hpo1.trans hpo2.symm) c9)
  exact next _ _ _ _ _ _ _ _ _ _ _ _ _ _ _ _ hR _ _ hP hD hS _ hl
set_option maxHeartbeats 4000000 in
set_option maxRecDepth 100000 in
theorem lc_size {p : Program} {l : Launch} {e : Env} {s : State} {m : MethodId} {below : List Frame} {meth : Method} {c : Code} {b L : Nat} {xs : Nat → Int32} {G : va_G} {ad : Nat → Nat} {ca : Nat → ClassId} {ad' : Nat → Nat} {ca' : Nat → ClassId} {cp : Nat} {Q : State → Prop} {i : Nat} (C : lc_C p s m c b L xs G ca ca' i) (next : lc_N p l e s m below meth c b G ad ca ad' ca' cp Q i) {Ar : Nat → Int32} {De : Nat → Bool} {Ln : Nat → Nat} {Tm : Nat → Int32} {Td : Nat → Bool} {Va : Nat → Int32} {Li Th : Nat → Bool} {Ca : Nat → Int32} {Cl : Nat → Bool} {Sp : Nat → Int32} {Sl : Nat → Bool} {sz dd mv pb : Nat} (hR : rel cp Ar De Ln Va Li Th sz dd) {H : Heap} {locs : List Loc} (hP : va_P G clR (WX ad ca cp Ar De Ln Tm Td sz (sz + dd) pb mv ++ WM ad' ca' cp Va Li Th Ca Cl Sp Sl sz dd mv pb) H) (hD : va_D (fun q : Nat => s.heap.size ≤ q) (WX ad ca cp Ar De Ln Tm Td sz (sz + dd) pb mv ++ WM ad' ca' cp Va Li Th Ca Cl Sp Sl sz dd mv pb)) (hS : va_S (fun q : Nat => s.heap.size ≤ q) s.heap H locs) {ls : Array Slot} (hl : lv_has ls 4 [(0, .ref b), (1, .ref (ad 0)), (2, .ref (ad' 0)), (3, .int (nI i))]) : W p l e room_1 s m #[Value.ref b] below meth c H locs 14 10282 Q (F0 m 333 ls []) := by
  obtain ⟨hx, hb, hml, hown, hts, hX, hbl, hKx, hKm, hi, hL⟩ := C
  have hA : ∀ q : Nat, s.heap.size ≤ q → (fun q : Nat => s.heap.size ≤ q) q := fun _ h => h
  have hLn := rel_len hR.1
  refine lv_aload_n hx hb dL_law_333 rfl (lv_at hl 1 rfl) ?_
  refine cw_calli (w := WX ad ca cp Ar De Ln Tm Td sz (sz + dd) pb mv) (wr := WM ad' ca' cp Va Li Th Ca Cl Sp Sl sz dd mv pb) (C := RX1) (As := []) (rest := []) ⟨hx, hb, hml, hown, hts⟩ (metX1_size l G ad ca cp Ar De Ln Tm Td sz (sz + dd) pb mv ) (cwV 0 hts (lw_V q130 q131 q132 q13 q133) rfl rfl rfl (by decide +kernel) ⟨by decide, by decide⟩) hKx hP hD hS hA rfl rfl rfl hl.1 rfl (Nat.le_of_ble_eq_true rfl) dL_law_334 ⟨Nat.le_of_ble_eq_true rfl, Nat.le_of_ble_eq_true rfl⟩ (fun r1 _ H locs hpo1 hP hD hS => ?_)
  have hP : va_P G clR (WX ad ca cp Ar De Ln Tm Td sz (sz + dd) pb mv ++ WM ad' ca' cp Va Li Th Ca Cl Sp Sl sz dd mv pb) H := hP
  have hD : va_D (fun q : Nat => s.heap.size ≤ q) (WX ad ca cp Ar De Ln Tm Td sz (sz + dd) pb mv ++ WM ad' ca' cp Va Li Th Ca Cl Sp Sl sz dd mv pb) := hD
  refine lv_aload_n hx hb dL_law_337 rfl (lv_at hl 2 rfl) ?_
  refine cw_calliR (w := WM ad' ca' cp Va Li Th Ca Cl Sp Sl sz dd mv pb) (wr := WX ad ca cp Ar De Ln Tm Td sz (sz + dd) pb mv) (C := RX2) (As := []) (rest := [.int r1]) ⟨hx, hb, hml, hown, hts⟩ (metX2_size l G ad' ca' cp Va Li Th Ca Cl Sp Sl sz dd mv pb ) (cwV 0 hts (lw_V q259 q260 q261 q14 q262) rfl rfl rfl (by decide +kernel) ⟨by decide, by decide⟩) hKm hP hD hS hA rfl rfl rfl hl.1 rfl (Nat.le_of_ble_eq_true rfl) dL_law_338 ⟨Nat.le_of_ble_eq_true rfl, Nat.le_of_ble_eq_true rfl⟩ (fun r2 _ H locs hpo2 hP hD hS => ?_)
  have hP : va_P G clR (WX ad ca cp Ar De Ln Tm Td sz (sz + dd) pb mv ++ WM ad' ca' cp Va Li Th Ca Cl Sp Sl sz dd mv pb) H := hP
  have hD : va_D (fun q : Nat => s.heap.size ≤ q) (WX ad ca cp Ar De Ln Tm Td sz (sz + dd) pb mv ++ WM ad' ca' cp Va Li Th Ca Cl Sp Sl sz dd mv pb) := hD
  refine lv_icmp_eq (tgt := 441) hx hb dL_law_341 (by decide) (fun _ => ?_) (fun c9 => absurd (hpo1.trans hpo2.symm) c9)
  exact next _ _ _ _ _ _ _ _ _ _ _ _ _ _ _ _ hR _ _ hP hD hS _ hl
set_option maxHeartbeats 4000000 in
set_option maxRecDepth 100000 in
theorem lc_movesMade {p : Program} {l : Launch} {e : Env} {s : State} {m : MethodId} {below : List Frame} {meth : Method} {c : Code} {b L : Nat} {xs : Nat → Int32} {G : va_G} {ad : Nat → Nat} {ca : Nat → ClassId} {ad' : Nat → Nat} {ca' : Nat → ClassId} {cp : Nat} {Q : State → Prop} {i : Nat} (C : lc_C p s m c b L xs G ca ca' i) (next : lc_N p l e s m below meth c b G ad ca ad' ca' cp Q i) {Ar : Nat → Int32} {De : Nat → Bool} {Ln : Nat → Nat} {Tm : Nat → Int32} {Td : Nat → Bool} {Va : Nat → Int32} {Li Th : Nat → Bool} {Ca : Nat → Int32} {Cl : Nat → Bool} {Sp : Nat → Int32} {Sl : Nat → Bool} {sz dd mv pb : Nat} (hR : rel cp Ar De Ln Va Li Th sz dd) {H : Heap} {locs : List Loc} (hP : va_P G clR (WX ad ca cp Ar De Ln Tm Td sz (sz + dd) pb mv ++ WM ad' ca' cp Va Li Th Ca Cl Sp Sl sz dd mv pb) H) (hD : va_D (fun q : Nat => s.heap.size ≤ q) (WX ad ca cp Ar De Ln Tm Td sz (sz + dd) pb mv ++ WM ad' ca' cp Va Li Th Ca Cl Sp Sl sz dd mv pb)) (hS : va_S (fun q : Nat => s.heap.size ≤ q) s.heap H locs) {ls : Array Slot} (hl : lv_has ls 4 [(0, .ref b), (1, .ref (ad 0)), (2, .ref (ad' 0)), (3, .int (nI i))]) : W p l e room_1 s m #[Value.ref b] below meth c H locs 14 10282 Q (F0 m 359 ls []) := by
  obtain ⟨hx, hb, hml, hown, hts, hX, hbl, hKx, hKm, hi, hL⟩ := C
  have hA : ∀ q : Nat, s.heap.size ≤ q → (fun q : Nat => s.heap.size ≤ q) q := fun _ h => h
  have hLn := rel_len hR.1
  refine lv_aload_n hx hb dL_law_359 rfl (lv_at hl 1 rfl) ?_
  refine cw_calli (w := WX ad ca cp Ar De Ln Tm Td sz (sz + dd) pb mv) (wr := WM ad' ca' cp Va Li Th Ca Cl Sp Sl sz dd mv pb) (C := RX1) (As := []) (rest := []) ⟨hx, hb, hml, hown, hts⟩ (metX1_movesMade l G ad ca cp Ar De Ln Tm Td sz (sz + dd) pb mv ) (cwV 0 hts (lw_V q134 q135 q136 q13 q137) rfl rfl rfl (by decide +kernel) ⟨by decide, by decide⟩) hKx hP hD hS hA rfl rfl rfl hl.1 rfl (Nat.le_of_ble_eq_true rfl) dL_law_360 ⟨Nat.le_of_ble_eq_true rfl, Nat.le_of_ble_eq_true rfl⟩ (fun r1 _ H locs hpo1 hP hD hS => ?_)
  have hP : va_P G clR (WX ad ca cp Ar De Ln Tm Td sz (sz + dd) pb mv ++ WM ad' ca' cp Va Li Th Ca Cl Sp Sl sz dd mv pb) H := hP
  have hD : va_D (fun q : Nat => s.heap.size ≤ q) (WX ad ca cp Ar De Ln Tm Td sz (sz + dd) pb mv ++ WM ad' ca' cp Va Li Th Ca Cl Sp Sl sz dd mv pb) := hD
  refine lv_aload_n hx hb dL_law_363 rfl (lv_at hl 2 rfl) ?_
  refine cw_calliR (w := WM ad' ca' cp Va Li Th Ca Cl Sp Sl sz dd mv pb) (wr := WX ad ca cp Ar De Ln Tm Td sz (sz + dd) pb mv) (C := RX2) (As := []) (rest := [.int r1]) ⟨hx, hb, hml, hown, hts⟩ (metX2_movesMade l G ad' ca' cp Va Li Th Ca Cl Sp Sl sz dd mv pb ) (cwV 0 hts (lw_V q267 q268 q269 q14 q270) rfl rfl rfl (by decide +kernel) ⟨by decide, by decide⟩) hKm hP hD hS hA rfl rfl rfl hl.1 rfl (Nat.le_of_ble_eq_true rfl) dL_law_364 ⟨Nat.le_of_ble_eq_true rfl, Nat.le_of_ble_eq_true rfl⟩ (fun r2 _ H locs hpo2 hP hD hS => ?_)
  have hP : va_P G clR (WX ad ca cp Ar De Ln Tm Td sz (sz + dd) pb mv ++ WM ad' ca' cp Va Li Th Ca Cl Sp Sl sz dd mv pb) H := hP
  have hD : va_D (fun q : Nat => s.heap.size ≤ q) (WX ad ca cp Ar De Ln Tm Td sz (sz + dd) pb mv ++ WM ad' ca' cp Va Li Th Ca Cl Sp Sl sz dd mv pb) := hD
  refine lv_icmp_eq (tgt := 441) hx hb dL_law_367 (by decide) (fun _ => ?_) (fun c9 => absurd (hpo1.trans hpo2.symm) c9)
  exact next _ _ _ _ _ _ _ _ _ _ _ _ _ _ _ _ hR _ _ hP hD hS _ hl
set_option maxHeartbeats 4000000 in
set_option maxRecDepth 100000 in
theorem lc_probesLast {p : Program} {l : Launch} {e : Env} {s : State} {m : MethodId} {below : List Frame} {meth : Method} {c : Code} {b L : Nat} {xs : Nat → Int32} {G : va_G} {ad : Nat → Nat} {ca : Nat → ClassId} {ad' : Nat → Nat} {ca' : Nat → ClassId} {cp : Nat} {Q : State → Prop} {i : Nat} (C : lc_C p s m c b L xs G ca ca' i) (next : lc_N p l e s m below meth c b G ad ca ad' ca' cp Q i) {Ar : Nat → Int32} {De : Nat → Bool} {Ln : Nat → Nat} {Tm : Nat → Int32} {Td : Nat → Bool} {Va : Nat → Int32} {Li Th : Nat → Bool} {Ca : Nat → Int32} {Cl : Nat → Bool} {Sp : Nat → Int32} {Sl : Nat → Bool} {sz dd mv pb : Nat} (hR : rel cp Ar De Ln Va Li Th sz dd) {H : Heap} {locs : List Loc} (hP : va_P G clR (WX ad ca cp Ar De Ln Tm Td sz (sz + dd) pb mv ++ WM ad' ca' cp Va Li Th Ca Cl Sp Sl sz dd mv pb) H) (hD : va_D (fun q : Nat => s.heap.size ≤ q) (WX ad ca cp Ar De Ln Tm Td sz (sz + dd) pb mv ++ WM ad' ca' cp Va Li Th Ca Cl Sp Sl sz dd mv pb)) (hS : va_S (fun q : Nat => s.heap.size ≤ q) s.heap H locs) {ls : Array Slot} (hl : lv_has ls 4 [(0, .ref b), (1, .ref (ad 0)), (2, .ref (ad' 0)), (3, .int (nI i))]) : W p l e room_1 s m #[Value.ref b] below meth c H locs 14 10282 Q (F0 m 372 ls []) := by
  obtain ⟨hx, hb, hml, hown, hts, hX, hbl, hKx, hKm, hi, hL⟩ := C
  have hA : ∀ q : Nat, s.heap.size ≤ q → (fun q : Nat => s.heap.size ≤ q) q := fun _ h => h
  have hLn := rel_len hR.1
  refine lv_aload_n hx hb dL_law_372 rfl (lv_at hl 1 rfl) ?_
  refine cw_calli (w := WX ad ca cp Ar De Ln Tm Td sz (sz + dd) pb mv) (wr := WM ad' ca' cp Va Li Th Ca Cl Sp Sl sz dd mv pb) (C := RX1) (As := []) (rest := []) ⟨hx, hb, hml, hown, hts⟩ (metX1_probesLast l G ad ca cp Ar De Ln Tm Td sz (sz + dd) pb mv ) (cwV 0 hts (lw_V q138 q139 q140 q13 q141) rfl rfl rfl (by decide +kernel) ⟨by decide, by decide⟩) hKx hP hD hS hA rfl rfl rfl hl.1 rfl (Nat.le_of_ble_eq_true rfl) dL_law_373 ⟨Nat.le_of_ble_eq_true rfl, Nat.le_of_ble_eq_true rfl⟩ (fun r1 _ H locs hpo1 hP hD hS => ?_)
  have hP : va_P G clR (WX ad ca cp Ar De Ln Tm Td sz (sz + dd) pb mv ++ WM ad' ca' cp Va Li Th Ca Cl Sp Sl sz dd mv pb) H := hP
  have hD : va_D (fun q : Nat => s.heap.size ≤ q) (WX ad ca cp Ar De Ln Tm Td sz (sz + dd) pb mv ++ WM ad' ca' cp Va Li Th Ca Cl Sp Sl sz dd mv pb) := hD
  refine lv_aload_n hx hb dL_law_376 rfl (lv_at hl 2 rfl) ?_
  refine cw_calliR (w := WM ad' ca' cp Va Li Th Ca Cl Sp Sl sz dd mv pb) (wr := WX ad ca cp Ar De Ln Tm Td sz (sz + dd) pb mv) (C := RX2) (As := []) (rest := [.int r1]) ⟨hx, hb, hml, hown, hts⟩ (metX2_probesLast l G ad' ca' cp Va Li Th Ca Cl Sp Sl sz dd mv pb ) (cwV 0 hts (lw_V q271 q272 q273 q14 q274) rfl rfl rfl (by decide +kernel) ⟨by decide, by decide⟩) hKm hP hD hS hA rfl rfl rfl hl.1 rfl (Nat.le_of_ble_eq_true rfl) dL_law_377 ⟨Nat.le_of_ble_eq_true rfl, Nat.le_of_ble_eq_true rfl⟩ (fun r2 _ H locs hpo2 hP hD hS => ?_)
  have hP : va_P G clR (WX ad ca cp Ar De Ln Tm Td sz (sz + dd) pb mv ++ WM ad' ca' cp Va Li Th Ca Cl Sp Sl sz dd mv pb) H := hP
  have hD : va_D (fun q : Nat => s.heap.size ≤ q) (WX ad ca cp Ar De Ln Tm Td sz (sz + dd) pb mv ++ WM ad' ca' cp Va Li Th Ca Cl Sp Sl sz dd mv pb) := hD
  refine lv_icmp_eq (tgt := 441) hx hb dL_law_380 (by decide) (fun _ => ?_) (fun c9 => absurd (hpo1.trans hpo2.symm) c9)
  exact next _ _ _ _ _ _ _ _ _ _ _ _ _ _ _ _ hR _ _ hP hD hS _ hl
set_option maxHeartbeats 4000000 in
set_option maxRecDepth 100000 in
theorem lc_cellsOf {p : Program} {l : Launch} {e : Env} {s : State} {m : MethodId} {below : List Frame} {meth : Method} {c : Code} {b L : Nat} {xs : Nat → Int32} {G : va_G} {ad : Nat → Nat} {ca : Nat → ClassId} {ad' : Nat → Nat} {ca' : Nat → ClassId} {cp : Nat} {Q : State → Prop} {i : Nat} (C : lc_C p s m c b L xs G ca ca' i) (next : lc_N p l e s m below meth c b G ad ca ad' ca' cp Q i) {Ar : Nat → Int32} {De : Nat → Bool} {Ln : Nat → Nat} {Tm : Nat → Int32} {Td : Nat → Bool} {Va : Nat → Int32} {Li Th : Nat → Bool} {Ca : Nat → Int32} {Cl : Nat → Bool} {Sp : Nat → Int32} {Sl : Nat → Bool} {sz dd mv pb : Nat} (hR : rel cp Ar De Ln Va Li Th sz dd) {H : Heap} {locs : List Loc} (hP : va_P G clR (WX ad ca cp Ar De Ln Tm Td sz (sz + dd) pb mv ++ WM ad' ca' cp Va Li Th Ca Cl Sp Sl sz dd mv pb) H) (hD : va_D (fun q : Nat => s.heap.size ≤ q) (WX ad ca cp Ar De Ln Tm Td sz (sz + dd) pb mv ++ WM ad' ca' cp Va Li Th Ca Cl Sp Sl sz dd mv pb)) (hS : va_S (fun q : Nat => s.heap.size ≤ q) s.heap H locs) {ls : Array Slot} (hl : lv_has ls 4 [(0, .ref b), (1, .ref (ad 0)), (2, .ref (ad' 0)), (3, .int (nI i))]) : W p l e room_1 s m #[Value.ref b] below meth c H locs 14 10282 Q (F0 m 385 ls []) := by
  obtain ⟨hx, hb, hml, hown, hts, hX, hbl, hKx, hKm, hi, hL⟩ := C
  have hA : ∀ q : Nat, s.heap.size ≤ q → (fun q : Nat => s.heap.size ≤ q) q := fun _ h => h
  have hLn := rel_len hR.1
  refine lv_aload_n hx hb dL_law_385 rfl (lv_at hl 1 rfl) ?_
  refine lv_aload_n hx hb dL_law_386 rfl (lv_at hl 0 rfl) ?_
  refine lv_iload_n hx hb dL_law_387 rfl (lv_at hl 3 rfl) ?_
  refine lv_iconst (v := nI 1) hx hb dL_law_388 (by decide +kernel) ?_
  refine rr_nadd hx hb dL_law_389 ?_
  refine lc_sld hx hb hX hbl hS (by omega) hL dL_law_390 ?_
  refine cw_calli (w := WX ad ca cp Ar De Ln Tm Td sz (sz + dd) pb mv) (wr := WM ad' ca' cp Va Li Th Ca Cl Sp Sl sz dd mv pb) (C := RX1) (As := [.int (xs (i + 1))]) (rest := []) ⟨hx, hb, hml, hown, hts⟩ (metX1_cellsOf l G ad ca cp Ar De Ln Tm Td sz (sz + dd) pb mv (xs (i + 1)) (Nat.le_add_right _ _)) (cwV 1 hts (lw_V q142 q143 q144 q13 q145) rfl rfl rfl (by decide +kernel) ⟨by decide, by decide⟩) hKx hP hD hS hA rfl rfl rfl hl.1 rfl (Nat.le_of_ble_eq_true rfl) dL_law_391 ⟨Nat.le_of_ble_eq_true rfl, Nat.le_of_ble_eq_true rfl⟩ (fun r1 _ H locs hpo1 hP hD hS => ?_)
  have hP : va_P G clR (WX ad ca cp Ar De Ln Tm Td sz (sz + dd) pb mv ++ WM ad' ca' cp Va Li Th Ca Cl Sp Sl sz dd mv pb) H := hP
  have hD : va_D (fun q : Nat => s.heap.size ≤ q) (WX ad ca cp Ar De Ln Tm Td sz (sz + dd) pb mv ++ WM ad' ca' cp Va Li Th Ca Cl Sp Sl sz dd mv pb) := hD
  refine lv_aload_n hx hb dL_law_394 rfl (lv_at hl 2 rfl) ?_
  refine lv_aload_n hx hb dL_law_395 rfl (lv_at hl 0 rfl) ?_
  refine lv_iload_n hx hb dL_law_396 rfl (lv_at hl 3 rfl) ?_
  refine lv_iconst (v := nI 1) hx hb dL_law_397 (by decide +kernel) ?_
  refine rr_nadd hx hb dL_law_398 ?_
  refine lc_sld hx hb hX hbl hS (by omega) hL dL_law_399 ?_
  refine cw_calliR (w := WM ad' ca' cp Va Li Th Ca Cl Sp Sl sz dd mv pb) (wr := WX ad ca cp Ar De Ln Tm Td sz (sz + dd) pb mv) (C := RX2) (As := [.int (xs (i + 1))]) (rest := [.int r1]) ⟨hx, hb, hml, hown, hts⟩ (metX2_cellsOf l G ad' ca' cp Va Li Th Ca Cl Sp Sl sz dd mv pb (xs (i + 1))) (cwV 1 hts (lw_V q275 q276 q277 q14 q278) rfl rfl rfl (by decide +kernel) ⟨by decide, by decide⟩) hKm hP hD hS hA rfl rfl rfl hl.1 rfl (Nat.le_of_ble_eq_true rfl) dL_law_400 ⟨Nat.le_of_ble_eq_true rfl, Nat.le_of_ble_eq_true rfl⟩ (fun r2 _ H locs hpo2 hP hD hS => ?_)
  have hP : va_P G clR (WX ad ca cp Ar De Ln Tm Td sz (sz + dd) pb mv ++ WM ad' ca' cp Va Li Th Ca Cl Sp Sl sz dd mv pb) H := hP
  have hD : va_D (fun q : Nat => s.heap.size ≤ q) (WX ad ca cp Ar De Ln Tm Td sz (sz + dd) pb mv ++ WM ad' ca' cp Va Li Th Ca Cl Sp Sl sz dd mv pb) := hD
  refine lv_icmp_eq (tgt := 441) hx hb dL_law_403 (by decide) (fun _ => ?_) (fun c9 => absurd (rel_cells hR hpo1 hpo2) c9)
  exact next _ _ _ _ _ _ _ _ _ _ _ _ _ _ _ _ hR _ _ hP hD hS _ hl
set_option maxHeartbeats 4000000 in
set_option maxRecDepth 100000 in
theorem lc_cell {p : Program} {l : Launch} {e : Env} {s : State} {m : MethodId} {below : List Frame} {meth : Method} {c : Code} {b L : Nat} {xs : Nat → Int32} {G : va_G} {ad : Nat → Nat} {ca : Nat → ClassId} {ad' : Nat → Nat} {ca' : Nat → ClassId} {cp : Nat} {Q : State → Prop} {i : Nat} (C : lc_C p s m c b L xs G ca ca' i) (next : lc_N p l e s m below meth c b G ad ca ad' ca' cp Q i) {Ar : Nat → Int32} {De : Nat → Bool} {Ln : Nat → Nat} {Tm : Nat → Int32} {Td : Nat → Bool} {Va : Nat → Int32} {Li Th : Nat → Bool} {Ca : Nat → Int32} {Cl : Nat → Bool} {Sp : Nat → Int32} {Sl : Nat → Bool} {sz dd mv pb : Nat} (hR : rel cp Ar De Ln Va Li Th sz dd) {H : Heap} {locs : List Loc} (hP : va_P G clR (WX ad ca cp Ar De Ln Tm Td sz (sz + dd) pb mv ++ WM ad' ca' cp Va Li Th Ca Cl Sp Sl sz dd mv pb) H) (hD : va_D (fun q : Nat => s.heap.size ≤ q) (WX ad ca cp Ar De Ln Tm Td sz (sz + dd) pb mv ++ WM ad' ca' cp Va Li Th Ca Cl Sp Sl sz dd mv pb)) (hS : va_S (fun q : Nat => s.heap.size ≤ q) s.heap H locs) {ls : Array Slot} (hl : lv_has ls 4 [(0, .ref b), (1, .ref (ad 0)), (2, .ref (ad' 0)), (3, .int (nI i))]) : W p l e room_1 s m #[Value.ref b] below meth c H locs 14 10282 Q (F0 m 408 ls []) := by
  obtain ⟨hx, hb, hml, hown, hts, hX, hbl, hKx, hKm, hi, hL⟩ := C
  have hA : ∀ q : Nat, s.heap.size ≤ q → (fun q : Nat => s.heap.size ≤ q) q := fun _ h => h
  have hLn := rel_len hR.1
  refine lv_aload_n hx hb dL_law_408 rfl (lv_at hl 1 rfl) ?_
  refine lv_aload_n hx hb dL_law_409 rfl (lv_at hl 0 rfl) ?_
  refine lv_iload_n hx hb dL_law_410 rfl (lv_at hl 3 rfl) ?_
  refine lv_iconst (v := nI 1) hx hb dL_law_411 (by decide +kernel) ?_
  refine rr_nadd hx hb dL_law_412 ?_
  refine lc_sld hx hb hX hbl hS (by omega) hL dL_law_413 ?_
  refine lv_aload_n hx hb dL_law_414 rfl (lv_at hl 0 rfl) ?_
  refine lv_iload_n hx hb dL_law_415 rfl (lv_at hl 3 rfl) ?_
  refine lv_iconst (v := nI 2) hx hb dL_law_416 (by decide +kernel) ?_
  refine rr_nadd hx hb dL_law_417 ?_
  refine lc_sld hx hb hX hbl hS (by omega) hL dL_law_418 ?_
  refine cw_calli (w := WX ad ca cp Ar De Ln Tm Td sz (sz + dd) pb mv) (wr := WM ad' ca' cp Va Li Th Ca Cl Sp Sl sz dd mv pb) (C := RX1) (As := [.int (xs (i + 1)), .int (xs (i + 2))]) (rest := []) ⟨hx, hb, hml, hown, hts⟩ (metX1_cell l G ad ca cp Ar De Ln Tm Td sz (sz + dd) pb mv (xs (i + 1)) (xs (i + 2)) hLn) (cwV 2 hts (lw_V q146 q147 q148 q13 q149) rfl rfl rfl (by decide +kernel) ⟨by decide, by decide⟩) hKx hP hD hS hA rfl rfl rfl hl.1 rfl (Nat.le_of_ble_eq_true rfl) dL_law_419 ⟨Nat.le_of_ble_eq_true rfl, Nat.le_of_ble_eq_true rfl⟩ (fun r1 _ H locs hpo1 hP hD hS => ?_)
  have hP : va_P G clR (WX ad ca cp Ar De Ln Tm Td sz (sz + dd) pb mv ++ WM ad' ca' cp Va Li Th Ca Cl Sp Sl sz dd mv pb) H := hP
  have hD : va_D (fun q : Nat => s.heap.size ≤ q) (WX ad ca cp Ar De Ln Tm Td sz (sz + dd) pb mv ++ WM ad' ca' cp Va Li Th Ca Cl Sp Sl sz dd mv pb) := hD
  refine lv_aload_n hx hb dL_law_422 rfl (lv_at hl 2 rfl) ?_
  refine lv_aload_n hx hb dL_law_423 rfl (lv_at hl 0 rfl) ?_
  refine lv_iload_n hx hb dL_law_424 rfl (lv_at hl 3 rfl) ?_
  refine lv_iconst (v := nI 1) hx hb dL_law_425 (by decide +kernel) ?_
  refine rr_nadd hx hb dL_law_426 ?_
  refine lc_sld hx hb hX hbl hS (by omega) hL dL_law_427 ?_
  refine lv_aload_n hx hb dL_law_428 rfl (lv_at hl 0 rfl) ?_
  refine lv_iload_n hx hb dL_law_429 rfl (lv_at hl 3 rfl) ?_
  refine lv_iconst (v := nI 2) hx hb dL_law_430 (by decide +kernel) ?_
  refine rr_nadd hx hb dL_law_431 ?_
  refine lc_sld hx hb hX hbl hS (by omega) hL dL_law_432 ?_
  refine cw_calliR (w := WM ad' ca' cp Va Li Th Ca Cl Sp Sl sz dd mv pb) (wr := WX ad ca cp Ar De Ln Tm Td sz (sz + dd) pb mv) (C := RX2) (As := [.int (xs (i + 1)), .int (xs (i + 2))]) (rest := [.int r1]) ⟨hx, hb, hml, hown, hts⟩ (metX2_cell l G ad' ca' cp Va Li Th Ca Cl Sp Sl sz dd mv pb (xs (i + 1)) (xs (i + 2))) (cwV 2 hts (lw_V q279 q280 q281 q14 q282) rfl rfl rfl (by decide +kernel) ⟨by decide, by decide⟩) hKm hP hD hS hA rfl rfl rfl hl.1 rfl (Nat.le_of_ble_eq_true rfl) dL_law_433 ⟨Nat.le_of_ble_eq_true rfl, Nat.le_of_ble_eq_true rfl⟩ (fun r2 _ H locs hpo2 hP hD hS => ?_)
  have hP : va_P G clR (WX ad ca cp Ar De Ln Tm Td sz (sz + dd) pb mv ++ WM ad' ca' cp Va Li Th Ca Cl Sp Sl sz dd mv pb) H := hP
  have hD : va_D (fun q : Nat => s.heap.size ≤ q) (WX ad ca cp Ar De Ln Tm Td sz (sz + dd) pb mv ++ WM ad' ca' cp Va Li Th Ca Cl Sp Sl sz dd mv pb) := hD
  refine lv_icmp_eq (tgt := 441) hx hb dL_law_436 (by decide) (fun _ => ?_) (fun c9 => absurd (rel_cell hR hpo1 hpo2) c9)
  exact next _ _ _ _ _ _ _ _ _ _ _ _ _ _ _ _ hR _ _ hP hD hS _ hl
set_option maxHeartbeats 4000000 in
set_option maxRecDepth 100000 in
theorem lc_select {p : Program} {l : Launch} {e : Env} {s : State} {m : MethodId} {below : List Frame} {meth : Method} {c : Code} {b L : Nat} {xs : Nat → Int32} {G : va_G} {ad : Nat → Nat} {ca : Nat → ClassId} {ad' : Nat → Nat} {ca' : Nat → ClassId} {cp : Nat} {Q : State → Prop} {i : Nat} (C : lc_C p s m c b L xs G ca ca' i) (next : lc_N p l e s m below meth c b G ad ca ad' ca' cp Q i) {Ar : Nat → Int32} {De : Nat → Bool} {Ln : Nat → Nat} {Tm : Nat → Int32} {Td : Nat → Bool} {Va : Nat → Int32} {Li Th : Nat → Bool} {Ca : Nat → Int32} {Cl : Nat → Bool} {Sp : Nat → Int32} {Sl : Nat → Bool} {sz dd mv pb : Nat} (hR : rel cp Ar De Ln Va Li Th sz dd) {H : Heap} {locs : List Loc} (hP : va_P G clR (WX ad ca cp Ar De Ln Tm Td sz (sz + dd) pb mv ++ WM ad' ca' cp Va Li Th Ca Cl Sp Sl sz dd mv pb) H) (hD : va_D (fun q : Nat => s.heap.size ≤ q) (WX ad ca cp Ar De Ln Tm Td sz (sz + dd) pb mv ++ WM ad' ca' cp Va Li Th Ca Cl Sp Sl sz dd mv pb)) (hS : va_S (fun q : Nat => s.heap.size ≤ q) s.heap H locs) {ls : Array Slot} (hl : lv_has ls 4 [(0, .ref b), (1, .ref (ad 0)), (2, .ref (ad' 0)), (3, .int (nI i))]) : W p l e room_1 s m #[Value.ref b] below meth c H locs 14 10282 Q (F0 m 208 ls []) := by
  obtain ⟨hx, hb, hml, hown, hts, hX, hbl, hKx, hKm, hi, hL⟩ := C
  have hA : ∀ q : Nat, s.heap.size ≤ q → (fun q : Nat => s.heap.size ≤ q) q := fun _ h => h
  have hLn := rel_len hR.1
  have eB := rel_b hR.1
  refine lv_aload_n hx hb dL_law_208 rfl (lv_at hl 1 rfl) ?_
  refine lv_aload_n hx hb dL_law_209 rfl (lv_at hl 0 rfl) ?_
  refine lv_iload_n hx hb dL_law_210 rfl (lv_at hl 3 rfl) ?_
  refine lv_iconst (v := nI 1) hx hb dL_law_211 (by decide +kernel) ?_
  refine rr_nadd hx hb dL_law_212 ?_
  refine lc_sld hx hb hX hbl hS (by omega) hL dL_law_213 ?_
  refine cw_calli (w := WX ad ca cp Ar De Ln Tm Td sz (sz + dd) pb mv) (wr := WM ad' ca' cp Va Li Th Ca Cl Sp Sl sz dd mv pb) (C := RX1) (As := [.int (xs (i + 1))]) (rest := []) ⟨hx, hb, hml, hown, hts⟩ (metX1_select l G ad ca cp Ar De Ln Tm Td sz (sz + dd) pb mv (xs (i + 1)) hLn) (cwV 1 hts (lw_V q108 q109 q110 q13 q111) rfl rfl rfl (by decide +kernel) ⟨by decide, by decide⟩) hKx hP hD hS hA rfl rfl rfl hl.1 rfl (Nat.le_of_ble_eq_true rfl) dL_law_214 ⟨Nat.le_of_ble_eq_true rfl, Nat.le_of_ble_eq_true rfl⟩ (fun r1 u1 H locs hpo1 hP hD hS => ?_)
  have hP : va_P G clR (WX ad ca cp Ar De Ln Tm Td sz (sz + dd) u1 mv ++ WM ad' ca' cp Va Li Th Ca Cl Sp Sl sz dd mv pb) H := hP
  have hD : va_D (fun q : Nat => s.heap.size ≤ q) (WX ad ca cp Ar De Ln Tm Td sz (sz + dd) u1 mv ++ WM ad' ca' cp Va Li Th Ca Cl Sp Sl sz dd mv pb) := hD
  rw [eB] at hpo1
  refine lv_aload_n hx hb dL_law_217 rfl (lv_at hl 2 rfl) ?_
  refine lv_aload_n hx hb dL_law_218 rfl (lv_at hl 0 rfl) ?_
  refine lv_iload_n hx hb dL_law_219 rfl (lv_at hl 3 rfl) ?_
  refine lv_iconst (v := nI 1) hx hb dL_law_220 (by decide +kernel) ?_
  refine rr_nadd hx hb dL_law_221 ?_
  refine lc_sld hx hb hX hbl hS (by omega) hL dL_law_222 ?_
  refine cw_calliR (w := WM ad' ca' cp Va Li Th Ca Cl Sp Sl sz dd mv pb) (wr := WX ad ca cp Ar De Ln Tm Td sz (sz + dd) u1 mv) (C := RX2) (As := [.int (xs (i + 1))]) (rest := [.int r1]) ⟨hx, hb, hml, hown, hts⟩ (metX2_select l G ad' ca' cp Va Li Th Ca Cl Sp Sl sz dd mv pb (xs (i + 1))) (cwV 1 hts (lw_V q233 q234 q235 q14 q236) rfl rfl rfl (by decide +kernel) ⟨by decide, by decide⟩) hKm hP hD hS hA rfl rfl rfl hl.1 rfl (Nat.le_of_ble_eq_true rfl) dL_law_223 ⟨Nat.le_of_ble_eq_true rfl, Nat.le_of_ble_eq_true rfl⟩ (fun r2 u2 H locs hpo2 hP hD hS => ?_)
  have hP : va_P G clR (WX ad ca cp Ar De Ln Tm Td sz (sz + dd) u1 mv ++ WM ad' ca' cp Va Li Th Ca Cl Sp Sl sz dd mv u2) H := hP
  have hD : va_D (fun q : Nat => s.heap.size ≤ q) (WX ad ca cp Ar De Ln Tm Td sz (sz + dd) u1 mv ++ WM ad' ca' cp Va Li Th Ca Cl Sp Sl sz dd mv u2) := hD
  have key : r1 = r2 ∧ u1 = u2 := by
    by_cases h : (¬ xs (i + 1) < 0 ∧ ¬ nI sz ≤ xs (i + 1))
    · exact ⟨(hpo1.1 h).1.trans (hpo2.1 h).1.symm, (hpo1.1 h).2.trans (hpo2.1 h).2.symm⟩
    · exact ⟨(hpo1.2 h).1.trans (hpo2.2 h).1.symm, (hpo1.2 h).2.trans (hpo2.2 h).2.symm⟩
  obtain ⟨k1, k2⟩ := key
  subst k2
  refine lv_icmp_eq (tgt := 441) hx hb dL_law_226 (by decide) (fun _ => ?_) (fun c9 => absurd k1 c9)
  exact next _ _ _ _ _ _ _ _ _ _ _ _ _ _ _ _ hR _ _ hP hD hS _ hl
set_option maxHeartbeats 4000000 in
set_option maxRecDepth 100000 in
theorem lc_rangeCount {p : Program} {l : Launch} {e : Env} {s : State} {m : MethodId} {below : List Frame} {meth : Method} {c : Code} {b L : Nat} {xs : Nat → Int32} {G : va_G} {ad : Nat → Nat} {ca : Nat → ClassId} {ad' : Nat → Nat} {ca' : Nat → ClassId} {cp : Nat} {Q : State → Prop} {i : Nat} (C : lc_C p s m c b L xs G ca ca' i) (next : lc_N p l e s m below meth c b G ad ca ad' ca' cp Q i) {Ar : Nat → Int32} {De : Nat → Bool} {Ln : Nat → Nat} {Tm : Nat → Int32} {Td : Nat → Bool} {Va : Nat → Int32} {Li Th : Nat → Bool} {Ca : Nat → Int32} {Cl : Nat → Bool} {Sp : Nat → Int32} {Sl : Nat → Bool} {sz dd mv pb : Nat} (hR : rel cp Ar De Ln Va Li Th sz dd) {H : Heap} {locs : List Loc} (hP : va_P G clR (WX ad ca cp Ar De Ln Tm Td sz (sz + dd) pb mv ++ WM ad' ca' cp Va Li Th Ca Cl Sp Sl sz dd mv pb) H) (hD : va_D (fun q : Nat => s.heap.size ≤ q) (WX ad ca cp Ar De Ln Tm Td sz (sz + dd) pb mv ++ WM ad' ca' cp Va Li Th Ca Cl Sp Sl sz dd mv pb)) (hS : va_S (fun q : Nat => s.heap.size ≤ q) s.heap H locs) {ls : Array Slot} (hl : lv_has ls 4 [(0, .ref b), (1, .ref (ad 0)), (2, .ref (ad' 0)), (3, .int (nI i))]) : W p l e room_1 s m #[Value.ref b] below meth c H locs 14 10282 Q (F0 m 300 ls []) := by
  obtain ⟨hx, hb, hml, hown, hts, hX, hbl, hKx, hKm, hi, hL⟩ := C
  have hA : ∀ q : Nat, s.heap.size ≤ q → (fun q : Nat => s.heap.size ≤ q) q := fun _ h => h
  have hLn := rel_len hR.1
  have eB := rel_b hR.1
  refine lv_aload_n hx hb dL_law_300 rfl (lv_at hl 1 rfl) ?_
  refine lv_aload_n hx hb dL_law_301 rfl (lv_at hl 0 rfl) ?_
  refine lv_iload_n hx hb dL_law_302 rfl (lv_at hl 3 rfl) ?_
  refine lv_iconst (v := nI 1) hx hb dL_law_303 (by decide +kernel) ?_
  refine rr_nadd hx hb dL_law_304 ?_
  refine lc_sld hx hb hX hbl hS (by omega) hL dL_law_305 ?_
  refine lv_aload_n hx hb dL_law_306 rfl (lv_at hl 0 rfl) ?_
  refine lv_iload_n hx hb dL_law_307 rfl (lv_at hl 3 rfl) ?_
  refine lv_iconst (v := nI 2) hx hb dL_law_308 (by decide +kernel) ?_
  refine rr_nadd hx hb dL_law_309 ?_
  refine lc_sld hx hb hX hbl hS (by omega) hL dL_law_310 ?_
  refine cw_calli (w := WX ad ca cp Ar De Ln Tm Td sz (sz + dd) pb mv) (wr := WM ad' ca' cp Va Li Th Ca Cl Sp Sl sz dd mv pb) (C := RX1) (As := [.int (xs (i + 1)), .int (xs (i + 2))]) (rest := []) ⟨hx, hb, hml, hown, hts⟩ (metX1_rangeCount l G ad ca cp Ar De Ln Tm Td sz (sz + dd) pb mv (xs (i + 1)) (xs (i + 2)) hLn) (cwV 2 hts (lw_V q126 q127 q128 q13 q129) rfl rfl rfl (by decide +kernel) ⟨by decide, by decide⟩) hKx hP hD hS hA rfl rfl rfl hl.1 rfl (Nat.le_of_ble_eq_true rfl) dL_law_311 ⟨Nat.le_of_ble_eq_true rfl, Nat.le_of_ble_eq_true rfl⟩ (fun r1 u1 H locs hpo1 hP hD hS => ?_)
  have hP : va_P G clR (WX ad ca cp Ar De Ln Tm Td sz (sz + dd) u1 mv ++ WM ad' ca' cp Va Li Th Ca Cl Sp Sl sz dd mv pb) H := hP
  have hD : va_D (fun q : Nat => s.heap.size ≤ q) (WX ad ca cp Ar De Ln Tm Td sz (sz + dd) u1 mv ++ WM ad' ca' cp Va Li Th Ca Cl Sp Sl sz dd mv pb) := hD
  rw [eB] at hpo1
  refine lv_aload_n hx hb dL_law_314 rfl (lv_at hl 2 rfl) ?_
  refine lv_aload_n hx hb dL_law_315 rfl (lv_at hl 0 rfl) ?_
  refine lv_iload_n hx hb dL_law_316 rfl (lv_at hl 3 rfl) ?_
  refine lv_iconst (v := nI 1) hx hb dL_law_317 (by decide +kernel) ?_
  refine rr_nadd hx hb dL_law_318 ?_
  refine lc_sld hx hb hX hbl hS (by omega) hL dL_law_319 ?_
  refine lv_aload_n hx hb dL_law_320 rfl (lv_at hl 0 rfl) ?_
  refine lv_iload_n hx hb dL_law_321 rfl (lv_at hl 3 rfl) ?_
  refine lv_iconst (v := nI 2) hx hb dL_law_322 (by decide +kernel) ?_
  refine rr_nadd hx hb dL_law_323 ?_
  refine lc_sld hx hb hX hbl hS (by omega) hL dL_law_324 ?_
  refine cw_calliR (w := WM ad' ca' cp Va Li Th Ca Cl Sp Sl sz dd mv pb) (wr := WX ad ca cp Ar De Ln Tm Td sz (sz + dd) u1 mv) (C := RX2) (As := [.int (xs (i + 1)), .int (xs (i + 2))]) (rest := [.int r1]) ⟨hx, hb, hml, hown, hts⟩ (metX2_rangeCount l G ad' ca' cp Va Li Th Ca Cl Sp Sl sz dd mv pb (xs (i + 1)) (xs (i + 2))) (cwV 2 hts (lw_V q255 q256 q257 q14 q258) rfl rfl rfl (by decide +kernel) ⟨by decide, by decide⟩) hKm hP hD hS hA rfl rfl rfl hl.1 rfl (Nat.le_of_ble_eq_true rfl) dL_law_325 ⟨Nat.le_of_ble_eq_true rfl, Nat.le_of_ble_eq_true rfl⟩ (fun r2 u2 H locs hpo2 hP hD hS => ?_)
  have hP : va_P G clR (WX ad ca cp Ar De Ln Tm Td sz (sz + dd) u1 mv ++ WM ad' ca' cp Va Li Th Ca Cl Sp Sl sz dd mv u2) H := hP
  have hD : va_D (fun q : Nat => s.heap.size ≤ q) (WX ad ca cp Ar De Ln Tm Td sz (sz + dd) u1 mv ++ WM ad' ca' cp Va Li Th Ca Cl Sp Sl sz dd mv u2) := hD
  have key : r1 = r2 ∧ u1 = u2 := by
    by_cases h : xs (i + 1) ≤ xs (i + 2)
    · exact ⟨(hpo1.1 h).1.trans (hpo2.1 h).1.symm, (hpo1.1 h).2.trans (hpo2.1 h).2.symm⟩
    · exact ⟨(hpo1.2 h).1.trans (hpo2.2 h).1.symm, (hpo1.2 h).2.trans (hpo2.2 h).2.symm⟩
  obtain ⟨k1, k2⟩ := key
  subst k2
  refine lv_icmp_eq (tgt := 441) hx hb dL_law_328 (by decide) (fun _ => ?_) (fun c9 => absurd k1 c9)
  exact next _ _ _ _ _ _ _ _ _ _ _ _ _ _ _ _ hR _ _ hP hD hS _ hl
set_option maxHeartbeats 4000000 in
set_option maxRecDepth 100000 in
theorem lc_insert {p : Program} {l : Launch} {e : Env} {s : State} {m : MethodId} {below : List Frame} {meth : Method} {c : Code} {b L : Nat} {xs : Nat → Int32} {G : va_G} {ad : Nat → Nat} {ca : Nat → ClassId} {ad' : Nat → Nat} {ca' : Nat → ClassId} {cp : Nat} {Q : State → Prop} {i : Nat} (C : lc_C p s m c b L xs G ca ca' i) (next : lc_N p l e s m below meth c b G ad ca ad' ca' cp Q i) {Ar : Nat → Int32} {De : Nat → Bool} {Ln : Nat → Nat} {Tm : Nat → Int32} {Td : Nat → Bool} {Va : Nat → Int32} {Li Th : Nat → Bool} {Ca : Nat → Int32} {Cl : Nat → Bool} {Sp : Nat → Int32} {Sl : Nat → Bool} {sz dd mv pb : Nat} (hR : rel cp Ar De Ln Va Li Th sz dd) {H : Heap} {locs : List Loc} (hP : va_P G clR (WX ad ca cp Ar De Ln Tm Td sz (sz + dd) pb mv ++ WM ad' ca' cp Va Li Th Ca Cl Sp Sl sz dd mv pb) H) (hD : va_D (fun q : Nat => s.heap.size ≤ q) (WX ad ca cp Ar De Ln Tm Td sz (sz + dd) pb mv ++ WM ad' ca' cp Va Li Th Ca Cl Sp Sl sz dd mv pb)) (hS : va_S (fun q : Nat => s.heap.size ≤ q) s.heap H locs) {ls : Array Slot} (hl : lv_has ls 4 [(0, .ref b), (1, .ref (ad 0)), (2, .ref (ad' 0)), (3, .int (nI i))]) : W p l e room_1 s m #[Value.ref b] below meth c H locs 14 10282 Q (F0 m 116 ls []) := by
  obtain ⟨hx, hb, hml, hown, hts, hX, hbl, hKx, hKm, hi, hL⟩ := C
  have hA : ∀ q : Nat, s.heap.size ≤ q → (fun q : Nat => s.heap.size ≤ q) q := fun _ h => h
  have hLn := rel_len hR.1
  have h5 := hR.1.2.2.2.2.2.2.1
  have h6 := hR.1.2.2.2.2.2.2.2
  by_cases hcp : sz = cp
  · refine lv_aload_n hx hb dL_law_116 rfl (lv_at hl 1 rfl) ?_
    refine lv_aload_n hx hb dL_law_117 rfl (lv_at hl 0 rfl) ?_
    refine lv_iload_n hx hb dL_law_118 rfl (lv_at hl 3 rfl) ?_
    refine lv_iconst (v := nI 1) hx hb dL_law_119 (by decide +kernel) ?_
    refine rr_nadd hx hb dL_law_120 ?_
    refine lc_sld hx hb hX hbl hS (by omega) hL dL_law_121 ?_
    refine cw_calli (w := WX ad ca cp Ar De Ln Tm Td sz (sz + dd) pb mv) (wr := WM ad' ca' cp Va Li Th Ca Cl Sp Sl sz dd mv pb) (C := RX1) (As := [.int (xs (i + 1))]) (rest := []) ⟨hx, hb, hml, hown, hts⟩ (metX1_insert_full l G ad ca cp Ar De Ln Tm Td sz (sz + dd) pb mv (xs (i + 1)) hcp) (cwV 1 hts (lw_V q56 q57 q58 q13 q59) rfl rfl rfl (by decide +kernel) ⟨by decide, by decide⟩) hKx hP hD hS hA rfl rfl rfl hl.1 rfl (Nat.le_of_ble_eq_true rfl) dL_law_122 ⟨Nat.le_of_ble_eq_true rfl, Nat.le_of_ble_eq_true rfl⟩ (fun r1 _ H locs hpo1 hP hD hS => ?_)
    have hP : va_P G clR (WX ad ca cp Ar De Ln Tm Td sz (sz + dd) pb mv ++ WM ad' ca' cp Va Li Th Ca Cl Sp Sl sz dd mv pb) H := hP
    have hD : va_D (fun q : Nat => s.heap.size ≤ q) (WX ad ca cp Ar De Ln Tm Td sz (sz + dd) pb mv ++ WM ad' ca' cp Va Li Th Ca Cl Sp Sl sz dd mv pb) := hD
    refine lv_aload_n hx hb dL_law_125 rfl (lv_at hl 2 rfl) ?_
    refine lv_aload_n hx hb dL_law_126 rfl (lv_at hl 0 rfl) ?_
    refine lv_iload_n hx hb dL_law_127 rfl (lv_at hl 3 rfl) ?_
    refine lv_iconst (v := nI 1) hx hb dL_law_128 (by decide +kernel) ?_
    refine rr_nadd hx hb dL_law_129 ?_
    refine lc_sld hx hb hX hbl hS (by omega) hL dL_law_130 ?_
    refine cw_calliR (w := WM ad' ca' cp Va Li Th Ca Cl Sp Sl sz dd mv pb) (wr := WX ad ca cp Ar De Ln Tm Td sz (sz + dd) pb mv) (C := RX2) (As := [.int (xs (i + 1))]) (rest := [.int r1]) ⟨hx, hb, hml, hown, hts⟩ (metX2_insert_full l G ad' ca' cp Va Li Th Ca Cl Sp Sl sz dd mv pb (xs (i + 1)) hcp) (cwV 1 hts (lw_V q196 q197 q198 q14 q199) rfl rfl rfl (by decide +kernel) ⟨by decide, by decide⟩) hKm hP hD hS hA rfl rfl rfl hl.1 rfl (Nat.le_of_ble_eq_true rfl) dL_law_131 ⟨Nat.le_of_ble_eq_true rfl, Nat.le_of_ble_eq_true rfl⟩ (fun r2 _ H locs hpo2 hP hD hS => ?_)
    have hP : va_P G clR (WX ad ca cp Ar De Ln Tm Td sz (sz + dd) pb mv ++ WM ad' ca' cp Va Li Th Ca Cl Sp Sl sz dd mv pb) H := hP
    have hD : va_D (fun q : Nat => s.heap.size ≤ q) (WX ad ca cp Ar De Ln Tm Td sz (sz + dd) pb mv ++ WM ad' ca' cp Va Li Th Ca Cl Sp Sl sz dd mv pb) := hD
    refine lv_icmp_eq (tgt := 441) hx hb dL_law_134 (by decide) (fun _ => ?_) (fun c9 => absurd (hpo1.trans hpo2.symm) c9)
    exact next _ _ _ _ _ _ _ _ _ _ _ _ _ _ _ _ hR _ _ hP hD hS _ hl
  · obtain ⟨j0, hj, hf, hall⟩ := rel_first hR
    refine lv_aload_n hx hb dL_law_116 rfl (lv_at hl 1 rfl) ?_
    refine lv_aload_n hx hb dL_law_117 rfl (lv_at hl 0 rfl) ?_
    refine lv_iload_n hx hb dL_law_118 rfl (lv_at hl 3 rfl) ?_
    refine lv_iconst (v := nI 1) hx hb dL_law_119 (by decide +kernel) ?_
    refine rr_nadd hx hb dL_law_120 ?_
    refine lc_sld hx hb hX hbl hS (by omega) hL dL_law_121 ?_
    refine cw_calli (w := WX ad ca cp Ar De Ln Tm Td sz (sz + dd) pb mv) (wr := WM ad' ca' cp Va Li Th Ca Cl Sp Sl sz dd mv pb) (C := RX1) (As := [.int (xs (i + 1))]) (rest := []) ⟨hx, hb, hml, hown, hts⟩ (metX1_insert l G ad ca cp Ar De Ln Tm Td sz (sz + dd) pb mv (xs (i + 1)) j0 hcp (by omega) (by omega) hj (by rw [hR.1.1 j0 hj]; exact ln_f hf) (fun i2 hi2 => by rw [hR.1.1 i2 (by omega)]; exact ln_t (hall i2 hi2))) (cwV 1 hts (lw_V q56 q57 q58 q13 q59) rfl rfl rfl (by decide +kernel) ⟨by decide, by decide⟩) hKx hP hD hS hA rfl rfl rfl hl.1 rfl (Nat.le_of_ble_eq_true rfl) dL_law_122 ⟨Nat.le_of_ble_eq_true rfl, Nat.le_of_ble_eq_true rfl⟩ (fun r1 u1 H locs hpo1 hP hD hS => ?_)
    have hP : va_P G clR (WX ad ca cp (fb_put Ar (fun k => (cas Ar (fun p => !De p) (xs (i + 1)) j0 k).1) (2 ^ j0 - 1) (2 ^ j0)) (fb_put De (fun k => !(cas Ar (fun p => !De p) (xs (i + 1)) j0 k).2) (2 ^ j0 - 1) (2 ^ j0)) (u1.1) (u1.2.1) (u1.2.2) (sz + 1) (sz + dd + 1) pb (mv + (2 ^ (j0 + 1) - 1)) ++ WM ad' ca' cp Va Li Th Ca Cl Sp Sl sz dd mv pb) H := hP
    have hD : va_D (fun q : Nat => s.heap.size ≤ q) (WX ad ca cp (fb_put Ar (fun k => (cas Ar (fun p => !De p) (xs (i + 1)) j0 k).1) (2 ^ j0 - 1) (2 ^ j0)) (fb_put De (fun k => !(cas Ar (fun p => !De p) (xs (i + 1)) j0 k).2) (2 ^ j0 - 1) (2 ^ j0)) (u1.1) (u1.2.1) (u1.2.2) (sz + 1) (sz + dd + 1) pb (mv + (2 ^ (j0 + 1) - 1)) ++ WM ad' ca' cp Va Li Th Ca Cl Sp Sl sz dd mv pb) := hD
    refine lv_aload_n hx hb dL_law_125 rfl (lv_at hl 2 rfl) ?_
    refine lv_aload_n hx hb dL_law_126 rfl (lv_at hl 0 rfl) ?_
    refine lv_iload_n hx hb dL_law_127 rfl (lv_at hl 3 rfl) ?_
    refine lv_iconst (v := nI 1) hx hb dL_law_128 (by decide +kernel) ?_
    refine rr_nadd hx hb dL_law_129 ?_
    refine lc_sld hx hb hX hbl hS (by omega) hL dL_law_130 ?_
    refine cw_calliR (w := WM ad' ca' cp Va Li Th Ca Cl Sp Sl sz dd mv pb) (wr := WX ad ca cp (fb_put Ar (fun k => (cas Ar (fun p => !De p) (xs (i + 1)) j0 k).1) (2 ^ j0 - 1) (2 ^ j0)) (fb_put De (fun k => !(cas Ar (fun p => !De p) (xs (i + 1)) j0 k).2) (2 ^ j0 - 1) (2 ^ j0)) (u1.1) (u1.2.1) (u1.2.2) (sz + 1) (sz + dd + 1) pb (mv + (2 ^ (j0 + 1) - 1))) (C := RX2) (As := [.int (xs (i + 1))]) (rest := [.int r1]) ⟨hx, hb, hml, hown, hts⟩ (metX2_insert l G ad' ca' cp Va Li Th Ca Cl Sp Sl sz dd mv pb (xs (i + 1)) j0 hcp (by omega) (by omega) hj hf hall (fun i2 hi2 => hR.1.2.2.2.1 i2 (by omega) (hall i2 hi2))) (cwV 1 hts (lw_V q196 q197 q198 q14 q199) rfl rfl rfl (by decide +kernel) ⟨by decide, by decide⟩) hKm hP hD hS hA rfl rfl rfl hl.1 rfl (Nat.le_of_ble_eq_true rfl) dL_law_131 ⟨Nat.le_of_ble_eq_true rfl, Nat.le_of_ble_eq_true rfl⟩ (fun r2 u2 H locs hpo2 hP hD hS => ?_)
    have hP : va_P G clR (WX ad ca cp (fb_put Ar (fun k => (cas Ar (fun p => !De p) (xs (i + 1)) j0 k).1) (2 ^ j0 - 1) (2 ^ j0)) (fb_put De (fun k => !(cas Ar (fun p => !De p) (xs (i + 1)) j0 k).2) (2 ^ j0 - 1) (2 ^ j0)) (u1.1) (u1.2.1) (u1.2.2) (sz + 1) (sz + dd + 1) pb (mv + (2 ^ (j0 + 1) - 1)) ++ WM ad' ca' cp (fb_put Va (fun k => (cas Va Li (xs (i + 1)) j0 k).1) (2 ^ j0 - 1) (2 ^ j0)) (u2.1) (u2.2.1) (u2.2.2.1) (u2.2.2.2.1) (u2.2.2.2.2.1) (u2.2.2.2.2.2) (sz + 1) dd (mv + (2 ^ (j0 + 1) - 1)) pb) H := hP
    have hD : va_D (fun q : Nat => s.heap.size ≤ q) (WX ad ca cp (fb_put Ar (fun k => (cas Ar (fun p => !De p) (xs (i + 1)) j0 k).1) (2 ^ j0 - 1) (2 ^ j0)) (fb_put De (fun k => !(cas Ar (fun p => !De p) (xs (i + 1)) j0 k).2) (2 ^ j0 - 1) (2 ^ j0)) (u1.1) (u1.2.1) (u1.2.2) (sz + 1) (sz + dd + 1) pb (mv + (2 ^ (j0 + 1) - 1)) ++ WM ad' ca' cp (fb_put Va (fun k => (cas Va Li (xs (i + 1)) j0 k).1) (2 ^ j0 - 1) (2 ^ j0)) (u2.1) (u2.2.1) (u2.2.2.1) (u2.2.2.2.1) (u2.2.2.2.2.1) (u2.2.2.2.2.2) (sz + 1) dd (mv + (2 ^ (j0 + 1) - 1)) pb) := hD
    rw [show sz + dd + 1 = sz + 1 + dd by omega] at hP hD
    refine lv_icmp_eq (tgt := 441) hx hb dL_law_134 (by decide) (fun _ => ?_) (fun c9 => absurd (hpo1.1.trans hpo2.1.symm) c9)
    exact next _ _ _ _ _ _ _ _ _ _ _ _ _ _ _ _ (rel_insert hR hj hf hall hcp hpo1.2 hpo2.2.1 hpo2.2.2) _ _ hP hD hS _ hl
set_option maxHeartbeats 4000000 in
set_option maxRecDepth 100000 in
theorem lc_remove {p : Program} {l : Launch} {e : Env} {s : State} {m : MethodId} {below : List Frame} {meth : Method} {c : Code} {b L : Nat} {xs : Nat → Int32} {G : va_G} {ad : Nat → Nat} {ca : Nat → ClassId} {ad' : Nat → Nat} {ca' : Nat → ClassId} {cp : Nat} {Q : State → Prop} {i : Nat} (C : lc_C p s m c b L xs G ca ca' i) (next : lc_N p l e s m below meth c b G ad ca ad' ca' cp Q i) {Ar : Nat → Int32} {De : Nat → Bool} {Ln : Nat → Nat} {Tm : Nat → Int32} {Td : Nat → Bool} {Va : Nat → Int32} {Li Th : Nat → Bool} {Ca : Nat → Int32} {Cl : Nat → Bool} {Sp : Nat → Int32} {Sl : Nat → Bool} {sz dd mv pb : Nat} (hR : rel cp Ar De Ln Va Li Th sz dd) {H : Heap} {locs : List Loc} (hP : va_P G clR (WX ad ca cp Ar De Ln Tm Td sz (sz + dd) pb mv ++ WM ad' ca' cp Va Li Th Ca Cl Sp Sl sz dd mv pb) H) (hD : va_D (fun q : Nat => s.heap.size ≤ q) (WX ad ca cp Ar De Ln Tm Td sz (sz + dd) pb mv ++ WM ad' ca' cp Va Li Th Ca Cl Sp Sl sz dd mv pb)) (hS : va_S (fun q : Nat => s.heap.size ≤ q) s.heap H locs) {ls : Array Slot} (hl : lv_has ls 4 [(0, .ref b), (1, .ref (ad 0)), (2, .ref (ad' 0)), (3, .int (nI i))]) : W p l e room_1 s m #[Value.ref b] below meth c H locs 14 10282 Q (F0 m 139 ls []) := by
  obtain ⟨hx, hb, hml, hown, hts, hX, hbl, hKx, hKm, hi, hL⟩ := C
  have hA : ∀ q : Nat, s.heap.size ≤ q → (fun q : Nat => s.heap.size ≤ q) q := fun _ h => h
  have hLn := rel_len hR.1
  have h4 := rel_nr hR.1
  have h7 := hR.1.2.2.2.2.1
  have h5 := hR.1.2.2.2.2.2.2.1
  have h6 := hR.1.2.2.2.2.2.2.2
  have h9 := hR.2
  have hfe := rel_fnd hR.1 (xs (i + 1))
  cases hfd : fnd Ar (fun p => !De p) Ln (xs (i + 1)) 10 0 with
  | none =>
    rw [hfd] at hfe
    refine lv_aload_n hx hb dL_law_139 rfl (lv_at hl 1 rfl) ?_
    refine lv_aload_n hx hb dL_law_140 rfl (lv_at hl 0 rfl) ?_
    refine lv_iload_n hx hb dL_law_141 rfl (lv_at hl 3 rfl) ?_
    refine lv_iconst (v := nI 1) hx hb dL_law_142 (by decide +kernel) ?_
    refine rr_nadd hx hb dL_law_143 ?_
    refine lc_sld hx hb hX hbl hS (by omega) hL dL_law_144 ?_
    refine cw_calli (w := WX ad ca cp Ar De Ln Tm Td sz (sz + dd) pb mv) (wr := WM ad' ca' cp Va Li Th Ca Cl Sp Sl sz dd mv pb) (C := RX1) (As := [.int (xs (i + 1))]) (rest := []) ⟨hx, hb, hml, hown, hts⟩ (metX1_remove_none l G ad ca cp Ar De Ln Tm Td sz (sz + dd) pb mv (xs (i + 1)) hLn h4 (Nat.le_add_right _ _) (by omega) hfd) (cwV 1 hts (lw_V q71 q72 q73 q13 q74) rfl rfl rfl (by decide +kernel) ⟨by decide, by decide⟩) hKx hP hD hS hA rfl rfl rfl hl.1 rfl (Nat.le_of_ble_eq_true rfl) dL_law_145 ⟨Nat.le_of_ble_eq_true rfl, Nat.le_of_ble_eq_true rfl⟩ (fun r1 _ H locs hpo1 hP hD hS => ?_)
    have hP : va_P G clR (WX ad ca cp Ar De Ln Tm Td sz (sz + dd) pb mv ++ WM ad' ca' cp Va Li Th Ca Cl Sp Sl sz dd mv pb) H := hP
    have hD : va_D (fun q : Nat => s.heap.size ≤ q) (WX ad ca cp Ar De Ln Tm Td sz (sz + dd) pb mv ++ WM ad' ca' cp Va Li Th Ca Cl Sp Sl sz dd mv pb) := hD
    refine lv_aload_n hx hb dL_law_148 rfl (lv_at hl 2 rfl) ?_
    refine lv_aload_n hx hb dL_law_149 rfl (lv_at hl 0 rfl) ?_
    refine lv_iload_n hx hb dL_law_150 rfl (lv_at hl 3 rfl) ?_
    refine lv_iconst (v := nI 1) hx hb dL_law_151 (by decide +kernel) ?_
    refine rr_nadd hx hb dL_law_152 ?_
    refine lc_sld hx hb hX hbl hS (by omega) hL dL_law_153 ?_
    refine cw_calliR (w := WM ad' ca' cp Va Li Th Ca Cl Sp Sl sz dd mv pb) (wr := WX ad ca cp Ar De Ln Tm Td sz (sz + dd) pb mv) (C := RX2) (As := [.int (xs (i + 1))]) (rest := [.int r1]) ⟨hx, hb, hml, hown, hts⟩ (metX2_remove_none l G ad' ca' cp Va Li Th Ca Cl Sp Sl sz dd mv pb (xs (i + 1)) h7 (by omega) hfe.symm) (cwV 1 hts (lw_V q211 q212 q213 q14 q214) rfl rfl rfl (by decide +kernel) ⟨by decide, by decide⟩) hKm hP hD hS hA rfl rfl rfl hl.1 rfl (Nat.le_of_ble_eq_true rfl) dL_law_154 ⟨Nat.le_of_ble_eq_true rfl, Nat.le_of_ble_eq_true rfl⟩ (fun r2 _ H locs hpo2 hP hD hS => ?_)
    have hP : va_P G clR (WX ad ca cp Ar De Ln Tm Td sz (sz + dd) pb mv ++ WM ad' ca' cp Va Li Th Ca Cl Sp Sl sz dd mv pb) H := hP
    have hD : va_D (fun q : Nat => s.heap.size ≤ q) (WX ad ca cp Ar De Ln Tm Td sz (sz + dd) pb mv ++ WM ad' ca' cp Va Li Th Ca Cl Sp Sl sz dd mv pb) := hD
    refine lv_icmp_eq (tgt := 441) hx hb dL_law_157 (by decide) (fun _ => ?_) (fun c9 => absurd (hpo1.trans hpo2.symm) c9)
    exact next _ _ _ _ _ _ _ _ _ _ _ _ _ _ _ _ hR _ _ hP hD hS _ hl
  | some p0 =>
    rw [hfd] at hfe
    obtain ⟨hs1, hR1⟩ := rel_kill hR.1 hfd
    by_cases hc : dd + 1 ≤ sz - 1
    · refine lv_aload_n hx hb dL_law_139 rfl (lv_at hl 1 rfl) ?_
      refine lv_aload_n hx hb dL_law_140 rfl (lv_at hl 0 rfl) ?_
      refine lv_iload_n hx hb dL_law_141 rfl (lv_at hl 3 rfl) ?_
      refine lv_iconst (v := nI 1) hx hb dL_law_142 (by decide +kernel) ?_
      refine rr_nadd hx hb dL_law_143 ?_
      refine lc_sld hx hb hX hbl hS (by omega) hL dL_law_144 ?_
      refine cw_calli (w := WX ad ca cp Ar De Ln Tm Td sz (sz + dd) pb mv) (wr := WM ad' ca' cp Va Li Th Ca Cl Sp Sl sz dd mv pb) (C := RX1) (As := [.int (xs (i + 1))]) (rest := []) ⟨hx, hb, hml, hown, hts⟩ (metX1_remove_some l G ad ca cp Ar De Ln Tm Td sz (sz + dd) pb mv (xs (i + 1)) p0 hLn h4 (Nat.le_add_right _ _) (by omega) hfd (by omega)) (cwV 1 hts (lw_V q71 q72 q73 q13 q74) rfl rfl rfl (by decide +kernel) ⟨by decide, by decide⟩) hKx hP hD hS hA rfl rfl rfl hl.1 rfl (Nat.le_of_ble_eq_true rfl) dL_law_145 ⟨Nat.le_of_ble_eq_true rfl, Nat.le_of_ble_eq_true rfl⟩ (fun r1 _ H locs hpo1 hP hD hS => ?_)
      have hP : va_P G clR (WX ad ca cp Ar (va_up De p0 true) Ln Tm Td (sz - 1) (sz + dd) pb mv ++ WM ad' ca' cp Va Li Th Ca Cl Sp Sl sz dd mv pb) H := hP
      have hD : va_D (fun q : Nat => s.heap.size ≤ q) (WX ad ca cp Ar (va_up De p0 true) Ln Tm Td (sz - 1) (sz + dd) pb mv ++ WM ad' ca' cp Va Li Th Ca Cl Sp Sl sz dd mv pb) := hD
      refine lv_aload_n hx hb dL_law_148 rfl (lv_at hl 2 rfl) ?_
      refine lv_aload_n hx hb dL_law_149 rfl (lv_at hl 0 rfl) ?_
      refine lv_iload_n hx hb dL_law_150 rfl (lv_at hl 3 rfl) ?_
      refine lv_iconst (v := nI 1) hx hb dL_law_151 (by decide +kernel) ?_
      refine rr_nadd hx hb dL_law_152 ?_
      refine lc_sld hx hb hX hbl hS (by omega) hL dL_law_153 ?_
      refine cw_calliR (w := WM ad' ca' cp Va Li Th Ca Cl Sp Sl sz dd mv pb) (wr := WX ad ca cp Ar (va_up De p0 true) Ln Tm Td (sz - 1) (sz + dd) pb mv) (C := RX2) (As := [.int (xs (i + 1))]) (rest := [.int r1]) ⟨hx, hb, hml, hown, hts⟩ (metX2_remove_some l G ad' ca' cp Va Li Th Ca Cl Sp Sl sz dd mv pb (xs (i + 1)) p0 h7 (by omega) hfe.symm hc) (cwV 1 hts (lw_V q211 q212 q213 q14 q214) rfl rfl rfl (by decide +kernel) ⟨by decide, by decide⟩) hKm hP hD hS hA rfl rfl rfl hl.1 rfl (Nat.le_of_ble_eq_true rfl) dL_law_154 ⟨Nat.le_of_ble_eq_true rfl, Nat.le_of_ble_eq_true rfl⟩ (fun r2 _ H locs hpo2 hP hD hS => ?_)
      have hP : va_P G clR (WX ad ca cp Ar (va_up De p0 true) Ln Tm Td (sz - 1) (sz + dd) pb mv ++ WM ad' ca' cp Va (va_up Li p0 false) Th Ca Cl Sp Sl (sz - 1) (dd + 1) mv pb) H := hP
      have hD : va_D (fun q : Nat => s.heap.size ≤ q) (WX ad ca cp Ar (va_up De p0 true) Ln Tm Td (sz - 1) (sz + dd) pb mv ++ WM ad' ca' cp Va (va_up Li p0 false) Th Ca Cl Sp Sl (sz - 1) (dd + 1) mv pb) := hD
      rw [show sz + dd = sz - 1 + (dd + 1) by omega] at hP hD
      refine lv_icmp_eq (tgt := 441) hx hb dL_law_157 (by decide) (fun _ => ?_) (fun c9 => absurd (hpo1.trans hpo2.symm) c9)
      exact next _ _ _ _ _ _ _ _ _ _ _ _ _ _ _ _ ⟨hR1, hc⟩ _ _ hP hD hS _ hl
    · refine lv_aload_n hx hb dL_law_139 rfl (lv_at hl 1 rfl) ?_
      refine lv_aload_n hx hb dL_law_140 rfl (lv_at hl 0 rfl) ?_
      refine lv_iload_n hx hb dL_law_141 rfl (lv_at hl 3 rfl) ?_
      refine lv_iconst (v := nI 1) hx hb dL_law_142 (by decide +kernel) ?_
      refine rr_nadd hx hb dL_law_143 ?_
      refine lc_sld hx hb hX hbl hS (by omega) hL dL_law_144 ?_
      refine cw_calli (w := WX ad ca cp Ar De Ln Tm Td sz (sz + dd) pb mv) (wr := WM ad' ca' cp Va Li Th Ca Cl Sp Sl sz dd mv pb) (C := RX1) (As := [.int (xs (i + 1))]) (rest := []) ⟨hx, hb, hml, hown, hts⟩ (metX1_remove_reb l G ad ca cp Ar De Ln Tm Td sz (sz + dd) pb mv (xs (i + 1)) p0 hLn h4 (Nat.le_add_right _ _) (by omega) hfd (by omega)) (cwV 1 hts (lw_V q71 q72 q73 q13 q74) rfl rfl rfl (by decide +kernel) ⟨by decide, by decide⟩) hKx hP hD hS hA rfl rfl rfl hl.1 rfl (Nat.le_of_ble_eq_true rfl) dL_law_145 ⟨Nat.le_of_ble_eq_true rfl, Nat.le_of_ble_eq_true rfl⟩ (fun r1 u1 H locs hpo1 hP hD hS => ?_)
      have hP : va_P G clR (WX ad ca cp (u1.1) (u1.2.1) (u1.2.2.1) (u1.2.2.2.1) (u1.2.2.2.2) (sz - 1) (sz - 1) pb (mv + (sz - 1)) ++ WM ad' ca' cp Va Li Th Ca Cl Sp Sl sz dd mv pb) H := hP
      have hD : va_D (fun q : Nat => s.heap.size ≤ q) (WX ad ca cp (u1.1) (u1.2.1) (u1.2.2.1) (u1.2.2.2.1) (u1.2.2.2.2) (sz - 1) (sz - 1) pb (mv + (sz - 1)) ++ WM ad' ca' cp Va Li Th Ca Cl Sp Sl sz dd mv pb) := hD
      refine lv_aload_n hx hb dL_law_148 rfl (lv_at hl 2 rfl) ?_
      refine lv_aload_n hx hb dL_law_149 rfl (lv_at hl 0 rfl) ?_
      refine lv_iload_n hx hb dL_law_150 rfl (lv_at hl 3 rfl) ?_
      refine lv_iconst (v := nI 1) hx hb dL_law_151 (by decide +kernel) ?_
      refine rr_nadd hx hb dL_law_152 ?_
      refine lc_sld hx hb hX hbl hS (by omega) hL dL_law_153 ?_
      refine cw_calliR (w := WM ad' ca' cp Va Li Th Ca Cl Sp Sl sz dd mv pb) (wr := WX ad ca cp (u1.1) (u1.2.1) (u1.2.2.1) (u1.2.2.2.1) (u1.2.2.2.2) (sz - 1) (sz - 1) pb (mv + (sz - 1))) (C := RX2) (As := [.int (xs (i + 1))]) (rest := [.int r1]) ⟨hx, hb, hml, hown, hts⟩ (metX2_remove_reb l G ad' ca' cp Va Li Th Ca Cl Sp Sl sz dd mv pb (xs (i + 1)) p0 h7 (by omega) hfe.symm hc) (cwV 1 hts (lw_V q211 q212 q213 q14 q214) rfl rfl rfl (by decide +kernel) ⟨by decide, by decide⟩) hKm hP hD hS hA rfl rfl rfl hl.1 rfl (Nat.le_of_ble_eq_true rfl) dL_law_154 ⟨Nat.le_of_ble_eq_true rfl, Nat.le_of_ble_eq_true rfl⟩ (fun r2 u2 H locs hpo2 hP hD hS => ?_)
      have hP : va_P G clR (WX ad ca cp (u1.1) (u1.2.1) (u1.2.2.1) (u1.2.2.2.1) (u1.2.2.2.2) (sz - 1) (sz - 1) pb (mv + (sz - 1)) ++ WM ad' ca' cp (u2.1) (u2.2.1) (u2.2.2.1) (u2.2.2.2) Cl Sp Sl (sz - 1) 0 (mv + (sz - 1)) pb) H := hP
      have hD : va_D (fun q : Nat => s.heap.size ≤ q) (WX ad ca cp (u1.1) (u1.2.1) (u1.2.2.1) (u1.2.2.2.1) (u1.2.2.2.2) (sz - 1) (sz - 1) pb (mv + (sz - 1)) ++ WM ad' ca' cp (u2.1) (u2.2.1) (u2.2.2.1) (u2.2.2.2) Cl Sp Sl (sz - 1) 0 (mv + (sz - 1)) pb) := hD
      obtain ⟨er1, g1, a1, a2, a3⟩ := hpo1
      obtain ⟨er2, g2, b1, b2, b3⟩ := hpo2
      refine lv_icmp_eq (tgt := 441) hx hb dL_law_157 (by decide) (fun _ => ?_) (fun c9 => absurd (er1.trans er2.symm) c9)
      exact next _ _ _ _ _ _ _ _ _ _ _ _ _ _ _ _ (rel_build hR1 a1 a2 a3 b1 b2 b3) _ _ hP hD hS _ hl
set_option maxHeartbeats 4000000 in
set_option maxRecDepth 100000 in
theorem lc_rebuild {p : Program} {l : Launch} {e : Env} {s : State} {m : MethodId} {below : List Frame} {meth : Method} {c : Code} {b L : Nat} {xs : Nat → Int32} {G : va_G} {ad : Nat → Nat} {ca : Nat → ClassId} {ad' : Nat → Nat} {ca' : Nat → ClassId} {cp : Nat} {Q : State → Prop} {i : Nat} (C : lc_C p s m c b L xs G ca ca' i) (next : lc_N p l e s m below meth c b G ad ca ad' ca' cp Q i) {Ar : Nat → Int32} {De : Nat → Bool} {Ln : Nat → Nat} {Tm : Nat → Int32} {Td : Nat → Bool} {Va : Nat → Int32} {Li Th : Nat → Bool} {Ca : Nat → Int32} {Cl : Nat → Bool} {Sp : Nat → Int32} {Sl : Nat → Bool} {sz dd mv pb : Nat} (hR : rel cp Ar De Ln Va Li Th sz dd) {H : Heap} {locs : List Loc} (hP : va_P G clR (WX ad ca cp Ar De Ln Tm Td sz (sz + dd) pb mv ++ WM ad' ca' cp Va Li Th Ca Cl Sp Sl sz dd mv pb) H) (hD : va_D (fun q : Nat => s.heap.size ≤ q) (WX ad ca cp Ar De Ln Tm Td sz (sz + dd) pb mv ++ WM ad' ca' cp Va Li Th Ca Cl Sp Sl sz dd mv pb)) (hS : va_S (fun q : Nat => s.heap.size ≤ q) s.heap H locs) {ls : Array Slot} (hl : lv_has ls 4 [(0, .ref b), (1, .ref (ad 0)), (2, .ref (ad' 0)), (3, .int (nI i))]) : W p l e room_1 s m #[Value.ref b] below meth c H locs 14 10282 Q (F0 m 346 ls []) := by
  obtain ⟨hx, hb, hml, hown, hts, hX, hbl, hKx, hKm, hi, hL⟩ := C
  have hA : ∀ q : Nat, s.heap.size ≤ q → (fun q : Nat => s.heap.size ≤ q) q := fun _ h => h
  have hLn := rel_len hR.1
  have h4 := rel_nr hR.1
  have h7 := hR.1.2.2.2.2.1
  refine lv_aload_n hx hb dL_law_346 rfl (lv_at hl 1 rfl) ?_
  refine cw_calli (w := WX ad ca cp Ar De Ln Tm Td sz (sz + dd) pb mv) (wr := WM ad' ca' cp Va Li Th Ca Cl Sp Sl sz dd mv pb) (C := RX1) (As := []) (rest := []) ⟨hx, hb, hml, hown, hts⟩ (metX1_rebuild l G ad ca cp Ar De Ln Tm Td sz (sz + dd) pb mv hLn h4 (Nat.le_add_right _ _)) (cwV 0 hts (lw_V q87 q80 q81 q13 q82) rfl rfl rfl (by decide +kernel) ⟨by decide, by decide⟩) hKx hP hD hS hA rfl rfl rfl hl.1 rfl (Nat.le_of_ble_eq_true rfl) dL_law_347 ⟨Nat.le_of_ble_eq_true rfl, Nat.le_of_ble_eq_true rfl⟩ (fun r1 u1 H locs hpo1 hP hD hS => ?_)
  have hP : va_P G clR (WX ad ca cp (u1.1) (u1.2.1) (u1.2.2.1) (u1.2.2.2.1) (u1.2.2.2.2) sz sz pb (mv + sz) ++ WM ad' ca' cp Va Li Th Ca Cl Sp Sl sz dd mv pb) H := hP
  have hD : va_D (fun q : Nat => s.heap.size ≤ q) (WX ad ca cp (u1.1) (u1.2.1) (u1.2.2.1) (u1.2.2.2.1) (u1.2.2.2.2) sz sz pb (mv + sz) ++ WM ad' ca' cp Va Li Th Ca Cl Sp Sl sz dd mv pb) := hD
  refine lv_aload_n hx hb dL_law_350 rfl (lv_at hl 2 rfl) ?_
  refine cw_calliR (w := WM ad' ca' cp Va Li Th Ca Cl Sp Sl sz dd mv pb) (wr := WX ad ca cp (u1.1) (u1.2.1) (u1.2.2.1) (u1.2.2.2.1) (u1.2.2.2.2) sz sz pb (mv + sz)) (C := RX2) (As := []) (rest := [.int r1]) ⟨hx, hb, hml, hown, hts⟩ (metX2_rebuild l G ad' ca' cp Va Li Th Ca Cl Sp Sl sz dd mv pb h7) (cwV 0 hts (lw_V q263 q264 q265 q14 q266) rfl rfl rfl (by decide +kernel) ⟨by decide, by decide⟩) hKm hP hD hS hA rfl rfl rfl hl.1 rfl (Nat.le_of_ble_eq_true rfl) dL_law_351 ⟨Nat.le_of_ble_eq_true rfl, Nat.le_of_ble_eq_true rfl⟩ (fun r2 u2 H locs hpo2 hP hD hS => ?_)
  have hP : va_P G clR (WX ad ca cp (u1.1) (u1.2.1) (u1.2.2.1) (u1.2.2.2.1) (u1.2.2.2.2) sz sz pb (mv + sz) ++ WM ad' ca' cp (u2.1) (u2.2.1) (u2.2.2.1) (u2.2.2.2) Cl Sp Sl sz 0 (mv + sz) pb) H := hP
  have hD : va_D (fun q : Nat => s.heap.size ≤ q) (WX ad ca cp (u1.1) (u1.2.1) (u1.2.2.1) (u1.2.2.2.1) (u1.2.2.2.2) sz sz pb (mv + sz) ++ WM ad' ca' cp (u2.1) (u2.2.1) (u2.2.2.1) (u2.2.2.2) Cl Sp Sl sz 0 (mv + sz) pb) := hD
  obtain ⟨er1, g1, a1, a2, a3⟩ := hpo1
  obtain ⟨er2, g2, b1, b2, b3⟩ := hpo2
  refine lv_icmp_eq (tgt := 441) hx hb dL_law_354 (by decide) (fun _ => ?_) (fun c9 => absurd (by rw [er1, er2, Nat.add_sub_cancel_left]) c9)
  exact next _ _ _ _ _ _ _ _ _ _ _ _ _ _ _ _ (rel_build hR.1 a1 a2 a3 b1 b2 b3) _ _ hP hD hS _ hl
end
section
/-! the law: its loop, its start -/
set_option maxRecDepth 100000
theorem rr_inc3 (n : Nat) : nI n + Int32.ofInt 3 = nI (n + 3) := by
  rw [show Int32.ofInt 3 = nI 3 from by decide +kernel]
  exact nI_add n 3
theorem law_gt {L i : Nat} (hL : L ≤ 193) (hi : i ≤ 400) : nI L - nI 3 < nI i ↔ L < i + 3 := by
  rw [Int32.lt_iff_toInt_lt, pk_sub_toInt (by omega) (by omega), nI_toInt (by omega)]
  omega
set_option maxHeartbeats 4000000 in
set_option maxRecDepth 100000 in
theorem law_loop {p : Program} {l : Launch} {e : Env} {s : State} {m : MethodId} {below : List Frame} {meth : Method} {c : Code} {b L : Nat} {xs : Nat → Int32} {G : va_G} {ad : Nat → Nat} {ca : Nat → ClassId} {ad' : Nat → Nat} {ca' : Nat → ClassId} {cp : Nat} (hx : p.tables.exec = Jvm.exec) (hb : c.code = cL_law) (hr : meth.sig.returnType = ret) (hlocks : meth.locks = false) (hml : c.maxLocals = 4) (hown : s.vm.findClass RX0 = some m.cls) (hts : ∀ w ∈ lw_all, w.before #[Value.ref b] s = true) (hX : va_X b L xs s s.heap) (hbl : b < s.heap.size) (hKx : va_K G clR (tyX ca) s) (hKm : va_K G clR (tyM ca') s) (hL : L ≤ 193) : ∀ (n i : Nat) (Ar : Nat → Int32) (De : Nat → Bool) (Ln : Nat → Nat) (Tm : Nat → Int32) (Td : Nat → Bool) (Va : Nat → Int32) (Li Th : Nat → Bool) (Ca : Nat → Int32) (Cl : Nat → Bool) (Sp : Nat → Int32) (Sl : Nat → Bool) (sz dd mv pb : Nat), L + 3 - i < n → i ≤ 200 → rel cp Ar De Ln Va Li Th sz dd → ∀ (H : Heap) (locs : List Loc), va_P G clR (WX ad ca cp Ar De Ln Tm Td sz (sz + dd) pb mv ++ WM ad' ca' cp Va Li Th Ca Cl Sp Sl sz dd mv pb) H → va_D (fun q : Nat => s.heap.size ≤ q) (WX ad ca cp Ar De Ln Tm Td sz (sz + dd) pb mv ++ WM ad' ca' cp Va Li Th Ca Cl Sp Sl sz dd mv pb) → va_S (fun q : Nat => s.heap.size ≤ q) s.heap H locs → ∀ ls : Array Slot, lv_has ls 4 [(0, .ref b), (1, .ref (ad 0)), (2, .ref (ad' 0)), (3, .int (nI i))] → W p l e room_1 s m #[Value.ref b] below meth c H locs 14 10282 (lw_Z below #[Value.ref b] s) (F0 m 28 ls []) := by
  intro n
  induction n with
  | zero =>
    intro i Ar De Ln Tm Td Va Li Th Ca Cl Sp Sl sz dd mv pb h1
    exact absurd h1 (Nat.not_lt_zero _)
  | succ n ih =>
    intro i Ar De Ln Tm Td Va Li Th Ca Cl Sp Sl sz dd mv pb h1 h200 hR H locs hP hD hS ls hl
    have hbA : ¬ (fun q : Nat => s.heap.size ≤ q) b := Nat.not_le.mpr hbl
    refine lv_iload_n hx hb dL_law_28 rfl (lv_at hl 3 rfl) ?_
    refine lv_aload_n hx hb dL_law_29 rfl (lv_at hl 0 rfl) ?_
    refine va_slen hx hb hX hbl hbA hS dL_law_30 ?_
    refine lv_iconst (v := nI 3) hx hb dL_law_31 (by decide +kernel) ?_
    refine lv_isub hx hb dL_law_32 ?_
    refine rr_eqi (y := nI L - nI 3) rfl ?_
    refine lv_icmp_gt (tgt := 447) hx hb dL_law_33 (by decide) (fun c1 => ?_) (fun c1 => ?_)
    · refine lv_iconst (v := 1) hx hb dL_law_447 (by decide +kernel) ?_
      refine va_forget (fun q hq => hS.2.2 q hq) ?_
      refine W.widen (k := 600000) (n := 7290000) (by decide) (by decide) ?_
      exact lw_ret hx hb hr hlocks dL_law_448
    · rw [law_gt hL (by omega)] at c1
      have hi : i + 3 ≤ L := by omega
      have C : lc_C p s m c b L xs G ca ca' i := ⟨hx, hb, hml, hown, hts, hX, hbl, hKx, hKm, hi, hL⟩
      have next : lc_N p l e s m below meth c b G ad ca ad' ca' cp (lw_Z below #[Value.ref b] s) i := by
        intro Ar De Ln Tm Td Va Li Th Ca Cl Sp Sl sz dd mv pb hR H locs hP hD hS ls hl
        refine lv_iinc (v := nI (i + 3)) (lv' := [(3, .int (nI (i + 3))), (0, .ref b), (1, .ref (ad 0)), (2, .ref (ad' 0))]) hx hb dL_law_441 hl (k := 3) rfl (rr_inc3 i) (by decide) rfl (fun ls hl => ?_)
        refine lv_goto (tgt := 28) hx hb dL_law_444 (by decide) ?_
        exact ih (i + 3) _ _ _ _ _ _ _ _ _ _ _ _ _ _ _ _ (by omega) (by omega) hR _ _ hP hD hS _ (lv_sub hl [1, 2, 3, 0] rfl)
      refine lv_aload_n hx hb dL_law_36 rfl (lv_at hl 0 rfl) ?_
      refine lv_iload_n hx hb dL_law_37 rfl (lv_at hl 3 rfl) ?_
      refine lc_sld hx hb hX hbl hS (by omega) hL dL_law_38 ?_
      refine lv_bipush (v := nI 15) hx hb dL_law_39 (by decide +kernel) ?_
      refine lv_iand hx hb dL_law_41 ?_
      obtain ⟨j, hj, ej⟩ := pk_andE (xs i) (m := nI 15) 4 (by decide +kernel)
      refine rr_eqi ej ?_
      match j, hj with
      | 0, _ =>
        refine lv_tableIn (x := nI 0) (off := 74) (tgt := 116) hx hb dL_law_42 (by decide +kernel) (by decide +kernel) (by decide +kernel) (by decide) ?_
        exact lc_insert C next hR hP hD hS hl
      | 1, _ =>
        refine lv_tableIn (x := nI 1) (off := 97) (tgt := 139) hx hb dL_law_42 (by decide +kernel) (by decide +kernel) (by decide +kernel) (by decide) ?_
        exact lc_remove C next hR hP hD hS hl
      | 2, _ =>
        refine lv_tableIn (x := nI 2) (off := 120) (tgt := 162) hx hb dL_law_42 (by decide +kernel) (by decide +kernel) (by decide +kernel) (by decide) ?_
        exact lc_count C next hR hP hD hS hl
      | 3, _ =>
        refine lv_tableIn (x := nI 3) (off := 143) (tgt := 185) hx hb dL_law_42 (by decide +kernel) (by decide +kernel) (by decide +kernel) (by decide) ?_
        exact lc_rank C next hR hP hD hS hl
      | 4, _ =>
        refine lv_tableIn (x := nI 4) (off := 166) (tgt := 208) hx hb dL_law_42 (by decide +kernel) (by decide +kernel) (by decide +kernel) (by decide) ?_
        exact lc_select C next hR hP hD hS hl
      | 5, _ =>
        refine lv_tableIn (x := nI 5) (off := 189) (tgt := 231) hx hb dL_law_42 (by decide +kernel) (by decide +kernel) (by decide +kernel) (by decide) ?_
        exact lc_has C next hR hP hD hS hl
      | 6, _ =>
        refine lv_tableIn (x := nI 6) (off := 212) (tgt := 254) hx hb dL_law_42 (by decide +kernel) (by decide +kernel) (by decide +kernel) (by decide) ?_
        exact lc_pred C next hR hP hD hS hl
      | 7, _ =>
        refine lv_tableIn (x := nI 7) (off := 235) (tgt := 277) hx hb dL_law_42 (by decide +kernel) (by decide +kernel) (by decide +kernel) (by decide) ?_
        exact lc_succ C next hR hP hD hS hl
      | 8, _ =>
        refine lv_tableIn (x := nI 8) (off := 258) (tgt := 300) hx hb dL_law_42 (by decide +kernel) (by decide +kernel) (by decide +kernel) (by decide) ?_
        exact lc_rangeCount C next hR hP hD hS hl
      | 9, _ =>
        refine lv_tableIn (x := nI 9) (off := 291) (tgt := 333) hx hb dL_law_42 (by decide +kernel) (by decide +kernel) (by decide +kernel) (by decide) ?_
        exact lc_size C next hR hP hD hS hl
      | 10, _ =>
        refine lv_tableIn (x := nI 10) (off := 304) (tgt := 346) hx hb dL_law_42 (by decide +kernel) (by decide +kernel) (by decide +kernel) (by decide) ?_
        exact lc_rebuild C next hR hP hD hS hl
      | 11, _ =>
        refine lv_tableIn (x := nI 11) (off := 317) (tgt := 359) hx hb dL_law_42 (by decide +kernel) (by decide +kernel) (by decide +kernel) (by decide) ?_
        exact lc_movesMade C next hR hP hD hS hl
      | 12, _ =>
        refine lv_tableIn (x := nI 12) (off := 330) (tgt := 372) hx hb dL_law_42 (by decide +kernel) (by decide +kernel) (by decide +kernel) (by decide) ?_
        exact lc_probesLast C next hR hP hD hS hl
      | 13, _ =>
        refine lv_tableIn (x := nI 13) (off := 343) (tgt := 385) hx hb dL_law_42 (by decide +kernel) (by decide +kernel) (by decide +kernel) (by decide) ?_
        exact lc_cellsOf C next hR hP hD hS hl
      | 14, _ =>
        refine lv_tableIn (x := nI 14) (off := 366) (tgt := 408) hx hb dL_law_42 (by decide +kernel) (by decide +kernel) (by decide +kernel) (by decide) ?_
        exact lc_cell C next hR hP hD hS hl
      | 15, _ =>
        refine lv_tableOut (x := nI 15) (tgt := 441) hx hb dL_law_42 (by decide +kernel) (by decide) ?_
        exact next _ _ _ _ _ _ _ _ _ _ _ _ _ _ _ _ hR _ _ hP hD hS _ hl
      | k + 16, h => exact absurd h (by omega)
set_option maxHeartbeats 4000000 in
set_option maxRecDepth 100000 in
theorem whole_start {p : Program} {e : Env} {s : State} {m : MethodId} {below : List Frame} {meth : Method} {c : Code} (l : Launch) {b L : Nat} {xs : Nat → Int32} (hL : L ≤ 193) (C0 : lw_At p s m meth c b L xs) : W p l e room_1 s m #[Value.ref b] below meth c s.heap [] 0 0 (lw_Z below #[Value.ref b] s) (entryFrame m ([Value.ref b] : List Value).toArray 4) := by
  obtain ⟨hx, hb, hr, hml, hown, hts0, hX, hbl, hlocks, hgv⟩ := id C0
  have hb : c.code = cL_law := hb
  have hown : s.vm.findClass RX0 = some m.cls := hown
  have hts : ∀ w ∈ lw_all, w.before #[Value.ref b] s = true := fun w h => hts0 w (lw_all_tbl h)
  have hA : ∀ q : Nat, s.heap.size ≤ q → (fun q : Nat => s.heap.size ≤ q) q := fun _ h => h
  have hbA : ¬ (fun q : Nat => s.heap.size ≤ q) b := Nat.not_le.mpr hbl
  obtain ⟨c0_, iS0, hKn0⟩ := u_known (C := RX1) (T := TX1) (N := 10) (n := 10) hts in_X1 (hts _ q16)
  obtain ⟨c1_, iS1, hKn1⟩ := u_known (C := RX2) (T := TX2) (N := 12) (n := 12) hts in_X2 (hts _ q154)
  obtain ⟨G, hKc⟩ : ∃ G : va_G, ∀ (k : Nat) (q : vw_C), clR[k]? = some q → u_Kn s q.1 q.2.1 q.2.2 (G.1 k) (G.2 k) := by
    refine ⟨(fun k => if k = 0 then c0_ else c1_, fun k => if k = 0 then iS0 else iS1), ?_⟩
    intro k q hq
    match k, hq with
    | 0, hq => cases hq; exact hKn0
    | 1, hq => cases hq; exact hKn1
    | k + 2, hq => simp [clR] at hq
  have hS : va_S (fun q : Nat => s.heap.size ≤ q) s.heap s.heap [] := va_S.rf
  have hK : va_K G clR [] s := ⟨hKc, fun k q h => by simp at h⟩
  have hP : va_P G clR [] s.heap := fun k q h => by simp at h
  have hD : va_D (fun q : Nat => s.heap.size ≤ q) [] := ⟨fun i j p q h => by simp at h, fun k q h => by simp at h⟩
  have hl := lv_entry ([.ref b]) (n := 4) (Nat.le_of_ble_eq_true rfl)
  rw [lg_entry_eq]
  generalize (lg_sl ([.ref b]) ++ List.replicate (4 - (lg_sl ([.ref b])).length) Slot.unset).toArray = ls at hl ⊢
  have hl : lv_has ls 4 [(0, .ref b)] := hl
  -- the class's object
  refine va_new (ci := 0) (fs := [.null, .null, .null, .null, .null, .int 0, .int 0, .int 0, .int 0, .int 0]) (C := RX1) (T := TX1) (N := 10) hx hb hts in_X1 tyX1 tyX1_ok hown (hts _ q15) (hts _ q16) (hts _ q13) hK hP hD hS hA rfl (fun j hj => by rcases (show j = 0 ∨ j = 1 ∨ j = 2 ∨ j = 3 ∨ j = 4 ∨ j = 5 ∨ j = 6 ∨ j = 7 ∨ j = 8 ∨ j = 9 by omega) with rfl | rfl | rfl | rfl | rfl | rfl | rfl | rfl | rfl | rfl <;> rfl) (Nat.le_of_ble_eq_true rfl) (Nat.le_of_ble_eq_true rfl) dL_law_0 (fun q0 H hP hD hS => ?_)
  have hP : va_P G clR [(q0, .inr (0, [.null, .null, .null, .null, .null, .int 0, .int 0, .int 0, .int 0, .int 0]))] H := hP
  have hD : va_D (fun q : Nat => s.heap.size ≤ q) [(q0, .inr (0, [.null, .null, .null, .null, .null, .int 0, .int 0, .int 0, .int 0, .int 0]))] := hD
  refine W.widen (k := 1) (n := 10) (Nat.le_of_ble_eq_true rfl) (Nat.le_of_ble_eq_true rfl) ?_
  refine lv_dup hx hb dL_law_3 rfl ?_
  refine lv_aload_n hx hb dL_law_4 rfl (lv_at hl 0 rfl) ?_
  refine lv_iconst (v := nI 0) hx hb dL_law_5 (by decide +kernel) ?_
  have hXU : ∀ {H : Heap} {locs : List Loc}, va_S (fun q : Nat => s.heap.size ≤ q) s.heap H locs → PreS s H (va_Pc [.ref b, .int (nI 0)] (fun U => va_X b L xs U U.heap)) [.ref b, .int (nI 0)] := fun {H locs} hS => ⟨fun a U g mk q => ⟨q.1, va_X.moved (u := U) (U := U.calling g mk a) (Vm.Alike.refl U.vm) q.2⟩, fun U hU hW => ⟨rfl, by show va_X b L xs U U.heap; rw [hU]; exact (hX.kept (hS.2.1 b hbl hbA)).moved hW.alike⟩⟩
  obtain ⟨v0, hv0⟩ : ∃ v0, (if 0 < L then xs 0 else nI 0) = v0 := ⟨_, rfl⟩
  have hcell := metX0_cell l b L xs hL
  rw [hv0] at hcell
  refine W.callR (W.runS (As := [.ref b, .int (nI 0)]) (rest := [.ref q0, .ref q0]) ⟨hx, hb, hml, hown, hts⟩ hcell (va_cwS 2 hts (lw_S q150 q151 q12 q152) rfl rfl rfl (by decide +kernel) ⟨by decide, by decide⟩) (hXU hS) rfl rfl hl.1 rfl (lv_room (Nat.le_of_ble_eq_true rfl)) dL_law_6 ⟨Nat.le_of_ble_eq_true rfl, Nat.le_of_ble_eq_true rfl⟩) ?_
  refine W.eq (g2 := F0 m 9 ls [.int v0, .ref q0, .ref q0]) rfl ?_
  have hFc := cw_free (w := [(q0, .inr (0, [.null, .null, .null, .null, .null, .int 0, .int 0, .int 0, .int 0, .int 0]))]) (wr := []) hD hS hA
  refine va_callv (va_runI (As := [.int v0]) (rest := [.ref q0]) ⟨hx, hb, hml, hown, hts⟩ (metX1_init l G q0 H.size v0) (cwI 1 hts (lw_meth q19) rfl rfl rfl (hts _ q13) (hts _ q17) (hts _ q18) rfl (by decide +kernel) ⟨by decide, by decide⟩) ⟨fun a U g mk q => by obtain ⟨q0, q1, qP, qK, qD⟩ := q; exact ⟨q0, q1, qP, va_K.moved (u := U) (U := U.calling g mk a) (Vm.Alike.refl U.vm) qK, qD⟩, fun U hU hW => ⟨rfl, by rw [hU], by rw [hU]; exact hP, va_K.moved hW.alike hK, hD.weaken (fun _ _ _ _ => trivial)⟩⟩ rfl rfl hl.1 rfl (lv_room (Nat.le_of_ble_eq_true rfl)) dL_law_9 ⟨Nat.le_of_ble_eq_true rfl, Nat.le_of_ble_eq_true rfl⟩) hS (fun q _ h => hFc q h) hFc (fun u t H1 locs ht hvm hw1 hB hz1 hk1 hS => ?_)
  obtain ⟨ad, ca⟩ := u
  have hw1 : ad 0 = q0 := hw1
  subst hw1
  obtain ⟨hP1, hK1, hD1⟩ := hB
  rw [ht] at hP1
  have hKx : va_K G clR (tyX ca) s := va_K.moved hvm.symm hK1
  obtain ⟨hP, hD⟩ := cw_side (w := [(ad 0, .inr (0, [.null, .null, .null, .null, .null, .int 0, .int 0, .int 0, .int 0, .int 0]))]) (wr := []) hP hD hk1 hFc hP1 hD1
  rw [List.append_nil] at hP hD
  have hP : va_P G clR (WX ad ca (capN v0) (fun _ => 0) (fun _ => false) (fun _ => 0) (fun _ => 0) (fun _ => false) 0 0 0 0) H1 := hP
  have hD : va_D (fun q : Nat => s.heap.size ≤ q) (WX ad ca (capN v0) (fun _ => 0) (fun _ => false) (fun _ => 0) (fun _ => 0) (fun _ => false) 0 0 0 0) := hD
  refine W.widen (k := 6) (n := 4116) (Nat.le_of_ble_eq_true rfl) (Nat.le_of_ble_eq_true rfl) ?_
  refine lv_astore_n (lv' := [(1, .ref (ad 0)), (0, .ref b)]) hx hb dL_law_12 rfl hl (by decide) rfl (fun ls hl => ?_)
  -- the reference's
  refine va_new (ci := 1) (fs := [.int 0, .null, .null, .null, .null, .null, .null, .null, .int 0, .int 0, .int 0, .int 0]) (C := RX2) (T := TX2) (N := 12) hx hb hts in_X2 tyX2 tyX2_ok hown (hts _ q153) (hts _ q154) (hts _ q14) hK hP hD hS hA rfl (fun j hj => by rcases (show j = 0 ∨ j = 1 ∨ j = 2 ∨ j = 3 ∨ j = 4 ∨ j = 5 ∨ j = 6 ∨ j = 7 ∨ j = 8 ∨ j = 9 ∨ j = 10 ∨ j = 11 by omega) with rfl | rfl | rfl | rfl | rfl | rfl | rfl | rfl | rfl | rfl | rfl | rfl <;> rfl) (Nat.le_of_ble_eq_true rfl) (Nat.le_of_ble_eq_true rfl) dL_law_13 (fun q0 H hP hD hS => ?_)
  obtain ⟨hP, hD⟩ := cw_swap hP hD
  have hL1 := cw_left hP hD
  refine W.widen (k := 7) (n := 4128) (Nat.le_of_ble_eq_true rfl) (Nat.le_of_ble_eq_true rfl) ?_
  refine lv_dup hx hb dL_law_16 rfl ?_
  refine lv_aload_n hx hb dL_law_17 rfl (lv_at hl 1 rfl) ?_
  refine lv_iconst (v := nI 0) hx hb dL_law_18 (by decide +kernel) ?_
  refine W.callR (W.runS (As := [.ref b, .int (nI 0)]) (rest := [.ref q0, .ref q0]) ⟨hx, hb, hml, hown, hts⟩ hcell (va_cwS 2 hts (lw_S q150 q151 q12 q152) rfl rfl rfl (by decide +kernel) ⟨by decide, by decide⟩) (hXU hS) rfl rfl hl.1 rfl (lv_room (Nat.le_of_ble_eq_true rfl)) dL_law_19 ⟨Nat.le_of_ble_eq_true rfl, Nat.le_of_ble_eq_true rfl⟩) ?_
  refine W.eq (g2 := F0 m 22 ls [.int v0, .ref q0, .ref q0]) rfl ?_
  have hFc := cw_free (w := [(q0, .inr (1, [.int 0, .null, .null, .null, .null, .null, .null, .null, .int 0, .int 0, .int 0, .int 0]))]) (wr := WX ad ca (capN v0) (fun _ => 0) (fun _ => false) (fun _ => 0) (fun _ => 0) (fun _ => false) 0 0 0 0) hD hS hA
  refine va_callv (va_runI (As := [.int v0]) (rest := [.ref q0]) ⟨hx, hb, hml, hown, hts⟩ (metX2_init l G q0 H.size v0) (cwI 1 hts (lw_meth q157) rfl rfl rfl (hts _ q14) (hts _ q155) (hts _ q156) rfl (by decide +kernel) ⟨by decide, by decide⟩) ⟨fun a U g mk q => by obtain ⟨q0, q1, qP, qK, qD⟩ := q; exact ⟨q0, q1, qP, va_K.moved (u := U) (U := U.calling g mk a) (Vm.Alike.refl U.vm) qK, qD⟩, fun U hU hW => ⟨rfl, by rw [hU], by rw [hU]; exact hL1.1, va_K.moved hW.alike hK, hL1.2.weaken (fun _ _ _ _ => trivial)⟩⟩ rfl rfl hl.1 rfl (lv_room (Nat.le_of_ble_eq_true rfl)) dL_law_22 ⟨Nat.le_of_ble_eq_true rfl, Nat.le_of_ble_eq_true rfl⟩) hS (fun q _ h => hFc q h) hFc (fun u t H1 locs ht hvm hw1 hB hz1 hk1 hS => ?_)
  obtain ⟨ad', ca'⟩ := u
  have hw1 : ad' 0 = q0 := hw1
  subst hw1
  obtain ⟨hP1, hK1, hD1⟩ := hB
  rw [ht] at hP1
  have hKm : va_K G clR (tyM ca') s := va_K.moved hvm.symm hK1
  obtain ⟨hP, hD⟩ := cw_side (w := [(ad' 0, .inr (1, [.int 0, .null, .null, .null, .null, .null, .null, .null, .int 0, .int 0, .int 0, .int 0]))]) (wr := WX ad ca (capN v0) (fun _ => 0) (fun _ => false) (fun _ => 0) (fun _ => 0) (fun _ => false) 0 0 0 0) hP hD hk1 hFc hP1 hD1
  obtain ⟨hP, hD⟩ := cw_swap hP hD
  have hP : va_P G clR (WX ad ca (capN v0) (fun _ => 0) (fun _ => false) (fun _ => 0) (fun _ => 0) (fun _ => false) 0 0 0 0 ++ WM ad' ca' (capN v0) (fun _ => 0) (fun _ => false) (fun _ => false) (fun _ => 0) (fun _ => false) (fun _ => 0) (fun _ => false) 0 0 0 0) H1 := hP
  have hD : va_D (fun q : Nat => s.heap.size ≤ q) (WX ad ca (capN v0) (fun _ => 0) (fun _ => false) (fun _ => 0) (fun _ => 0) (fun _ => false) 0 0 0 0 ++ WM ad' ca' (capN v0) (fun _ => 0) (fun _ => false) (fun _ => false) (fun _ => 0) (fun _ => false) (fun _ => 0) (fun _ => false) 0 0 0 0) := hD
  refine W.widen (k := 14) (n := 10282) (Nat.le_of_ble_eq_true rfl) (Nat.le_of_ble_eq_true rfl) ?_
  refine lv_astore_n (lv' := [(2, .ref (ad' 0)), (1, .ref (ad 0)), (0, .ref b)]) hx hb dL_law_25 rfl hl (by decide) rfl (fun ls hl => ?_)
  refine lv_iconst (v := nI 1) hx hb dL_law_26 (by decide +kernel) ?_
  refine lv_istore_n (lv' := [(3, .int (nI 1)), (2, .ref (ad' 0)), (1, .ref (ad 0)), (0, .ref b)]) hx hb dL_law_27 rfl hl (by decide) rfl (fun ls hl => ?_)
  exact law_loop hx hb hr hlocks hml hown hts hX hbl hKx hKm hL (L + 3) 1 (fun _ => 0) (fun _ => false) (fun _ => 0) (fun _ => 0) (fun _ => false) (fun _ => 0) (fun _ => false) (fun _ => false) (fun _ => 0) (fun _ => false) (fun _ => 0) (fun _ => false) 0 0 0 0 (by omega) (by omega) (rel_new (capN_le v0)) _ _ hP hD hS _ (lv_sub hl [3, 2, 1, 0] rfl)
end
section
set_option maxHeartbeats 4000000 in
theorem lw_walk (l : Launch) (b : Addr) (xs : List Int32) : MetFree l x (headSpec (Jvm.Cond.code x code maxLocals ret :: tables_1) room_1) (lw_P b xs) (fun _ _ _ _ _ => True) lw_Q := by
  refine MetFree.of_bodyS (code := code) (maxLocals := maxLocals) (ret := ret) (by decide) ?_ ?_
  · intro args s m h hn
    obtain ⟨meth, c, h1, h2, h3, h4, h5, h6, -, -⟩ := Cond.code_spec hn (atoms_spec (ws := Jvm.Cond.code x code maxLocals ret :: tables_1) h _ List.mem_cons_self)
    exact ⟨meth, c, h1, h2, h3, h4, h5, h6⟩
  · intro p e s m args below meth c s₁ B hml0 hP _
    obtain ⟨rfl, hx, hbd, hgv⟩ := hP
    obtain ⟨scr, harrAt, hlist, hof, hsmall⟩ := hx
    obtain ⟨hcb, hkn, -, -⟩ := State.arrayAt?_spec harrAt
    have hown : s.vm.findClass R_law = some m.cls := findClass_of_methodNamed B.named
    have hts0 : ∀ c ∈ (Jvm.Cond.code x code maxLocals ret :: tables_1), c.before #[Value.ref b] s = true := atoms_spec (ws := Jvm.Cond.code x code maxLocals ret :: tables_1) B.pre
    have hts : ∀ w ∈ lw_tbl, w.before #[Value.ref b] s = true := k2_hts_sels lw_privs (fun w hw => hts0 w (List.mem_cons_of_mem _ hw)) lw_privs_ok
    have hml : c.maxLocals = 4 := B.maxLocals_eq (hts0 _ List.mem_cons_self)
    have X₀ : Stand p l e room_1 s m #[Value.ref b] below meth c s₁ [] 0 0 := Stand.of_body B
    have hh0 : s₁.heap = s.heap := by rw [B.state]; rfl
    have hsz : scr.slots.size = xs.length := by rw [← Array.length_toList, hlist, List.length_map]
    have hval : ∀ j : Nat, j < xs.length → scr.slots[j]? = some (.int (xs.getD j 0)) := fun j hj => by
      rw [← Array.getElem?_toList, hlist]
      simp [hj]
    have hbl : b < s.heap.size := (Array.getElem?_eq_some_iff.mp hcb).1
    have hX : va_X b xs.length (fun j => xs.getD j 0) s s.heap := ⟨scr, hcb, hof, hkn, hsz, hval⟩
    have K : W p l e room_1 s m #[Value.ref b] below meth c s₁.heap [] 0 0 (lw_Z below #[Value.ref b] s) (entryFrame m ([Value.ref b] : List Value).toArray 4) := by
      rw [hh0]
      exact whole_start l hbd ⟨B.exec, B.bytes, B.returns, hml, hown, hts, hX, hbl, B.notSynchronized, hgv⟩
    obtain ⟨t, a1, o, b1, b2, b3⟩ := K s₁ rfl X₀
    exact ⟨t, o, a1, b1, b2, b3⟩
theorem lw_pre_spec {args : Array Value} {s : State} (h : (Jvm.Cond.and given_1 narrow_1).before args s = true) (hr : rest_1_c.before args s = true) : ∃ (b : Addr) (xs : List Int32), lw_P b xs args s := by
  have hs := flat_of_before _ h
  have hq := flat_of_before _ hr
  have hc : (Cond.count 1).before args s = true := hs _ (by decide +kernel)
  have harr : (Cond.arrayOf (.arg 0) .int).before args s = true := hs _ (by decide +kernel)
  have hle : (Cond.le (.length (.arg 0)) (.int 193)).before args s = true := hs _ (by decide +kernel)
  have hlen : (Cond.isInt (.length (.arg 0))).before args s = true := hq _ (by decide +kernel)
  have hall : (Cond.all (.arg 0) (.isInt (.elem (.arg 0) (.index 0)))).before args s = true := hq _ (by decide +kernel)
  obtain ⟨b, xs, hb, hx⟩ := State.ints_of_pre rfl harr hlen hall
  have hsm : xs.length < 2 ^ 31 := hx.choose_spec.2.2.2
  have hev : (Term.length (.arg 0)).eval args s none [] s = some (.int xs.length.toInt32) := hx.length_eval hb
  have hv := Cond.le_ints hev (show (Term.int 193).eval args s none [] s = some (.int 193) from rfl)
  have hd : xs.length.toInt32 ≤ 193 := by
    simpa [Cond.before, Cond.holds, hv] using hle
  have hN : xs.length ≤ 193 := (Int32.ofNat_le_ofNat hsm (by decide)).mp (show Int32.ofNat xs.length ≤ Int32.ofNat 193 from hd)
  exact ⟨b, xs, Cond.one_arg hc (show args[0]? = some (.ref b) from hb), hx, hN, h⟩
theorem lw_comes (l : Launch) : Comes l x (Jvm.Cond.code x code maxLocals ret :: tables_1) room_1 (fun tb e args s => Calls_1 tb e args s ∧ rest_1 tb e args s ∧ Pre_1 tb e args s)
    (fun _ _ args s o t => lw_Q args s o t) := by
  intro p e ha hc hk s m args below hf hfit hheap happ hpre
  obtain ⟨b, xs, hP⟩ := lw_pre_spec hpre.2.2 hpre.2.1
  obtain ⟨k, o, h1, h2, h3, hQ⟩ := lw_walk l b xs p e ha hc hk s m args below hf ((Spec.applies_iff_loose hf).mp happ).1 hP trivial
  exact ⟨k, o, h1, h2, h3, hQ⟩
theorem lw_frame {s t : State} {o : Outcome} {args : Array Value} (h : Framed s o t [] 600000 7290000) :
    Framed s o t (fieldLocs frame_1_writes args s ++ arrayLocs frame_1_arrays args s ++ staticLocs frame_1_statics s) 600000 7290000 := h
theorem lw_limb (L : Cond) (hL : ∀ (args : Array Value) (s t : State), L.after args s (.returned (some (.int 1))) t = true) :
    ArmFor flags0 classFile x code maxLocals ret World_1 tables_1 room_1 Calls_1 rest_1 Pre_1
      (fun tb e a s o t => postC L tb e a s o t ∧ Framed s o t (fieldLocs frame_1_writes a s ++ arrayLocs frame_1_arrays a s ++ staticLocs frame_1_statics s) 600000 7290000) := by
  intro l _ _ _ p e ha hc hk s m args below hf hfit hheap happ hpre
  obtain ⟨k, o, h1, h2, h3, rfl, hF⟩ := lw_comes l p e ha hc hk s m args below hf hfit hheap happ hpre
  exact ⟨k, _, h1, h2, h3, hL args s _, lw_frame hF⟩
theorem i_vc : Claimed_1_1 ∧ Claimed_1_2 := ⟨lw_limb limb_1_1 (fun args s t => by simp [limb_1_1, Cond.after, Cond.holds, Cond.value]), lw_limb limb_1_2 (fun args s t => Cond.after_iff.mpr (by
  first | (rw [show limb_1_2 = Cond.eq .result (.int 1) from rfl, Cond.eq_ints (x := 1) (y := 1) rfl rfl]; simp; done) | (simp [limb_1_2, Cond.value, Term.eval]; done)))⟩
end
