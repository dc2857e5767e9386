section
-- ===== PART A: goes FIRST, ahead of the names: the tables' words, and 'selects' of the private methods out of them =====
/-- a private method of a class that the tables say can be made, by its rows of tables_1 -/
def lw_okq (q : MethodName × Nat) : Prop := (q.1.cls ≠ "java/lang/invoke/MethodHandle" ∧ q.1.cls ≠ "java/lang/invoke/VarHandle") ∧ Cond.instantiable q.1.cls q.2 ∈ tables_1 ∧ Cond.privateMethod q.1 ∈ tables_1 ∧ Cond.instanceMethod q.1 ∈ tables_1
set_option maxRecDepth 100000
theorem lw_t1 {w : Cond} (h : w ∈ tables_1_1) : w ∈ tables_1 := List.mem_append_left _ h
theorem lw_t2 {w : Cond} (h : w ∈ tables_1_2) : w ∈ tables_1 := List.mem_append_right _ h
theorem lw_p0 : lw_okq (⟨"FacetCounts", "weigh", "(II)V"⟩, 8) := ⟨⟨by decide +kernel, by decide +kernel⟩, lw_t1 (List.mem_of_getElem? (i := 9) rfl), lw_t1 (List.mem_of_getElem? (i := 53) rfl), lw_t1 (List.mem_of_getElem? (i := 54) rfl)⟩
theorem lw_p1 : lw_okq (⟨"FacetCounts", "failsAt", "(II)Z"⟩, 8) := ⟨⟨by decide +kernel, by decide +kernel⟩, lw_t1 (List.mem_of_getElem? (i := 9) rfl), lw_t1 (List.mem_of_getElem? (i := 57) rfl), lw_t1 (List.mem_of_getElem? (i := 58) rfl)⟩
theorem lw_p2 : lw_okq (⟨"FacetCounts", "has", "(II)I"⟩, 8) := ⟨⟨by decide +kernel, by decide +kernel⟩, lw_t1 (List.mem_of_getElem? (i := 9) rfl), lw_t1 (List.mem_of_getElem? (i := 61) rfl), lw_t1 (List.mem_of_getElem? (i := 62) rfl)⟩
theorem lw_p3 : lw_okq (⟨"FacetCounts", "isKeptBut", "(II)Z"⟩, 8) := ⟨⟨by decide +kernel, by decide +kernel⟩, lw_t1 (List.mem_of_getElem? (i := 9) rfl), lw_t1 (List.mem_of_getElem? (i := 65) rfl), lw_t1 (List.mem_of_getElem? (i := 66) rfl)⟩
theorem lw_p4 : lw_okq (⟨"FacetCounts", "weighAll", "(I)V"⟩, 8) := ⟨⟨by decide +kernel, by decide +kernel⟩, lw_t1 (List.mem_of_getElem? (i := 9) rfl), lw_t1 (List.mem_of_getElem? (i := 77) rfl), lw_t1 (List.mem_of_getElem? (i := 78) rfl)⟩
theorem lw_p5 : lw_okq (⟨"java/lang/Throwable", "fillInStackTrace", "(I)Ljava/lang/Throwable;"⟩, 6) := ⟨⟨by decide +kernel, by decide +kernel⟩, lw_t1 (List.mem_of_getElem? (i := 146) rfl), lw_t1 (List.mem_of_getElem? (i := 144) rfl), lw_t1 (List.mem_of_getElem? (i := 145) rfl)⟩
theorem lw_p6 : lw_okq (⟨"FacetCountsModel", "isUnder", "(II)Z"⟩, 7) := ⟨⟨by decide +kernel, by decide +kernel⟩, lw_t1 (List.mem_of_getElem? (i := 208) rfl), lw_t2 (List.mem_of_getElem? (i := 25) rfl), lw_t2 (List.mem_of_getElem? (i := 26) rfl)⟩
theorem lw_p7 : lw_okq (⟨"FacetCountsModel", "all", "(I)I"⟩, 7) := ⟨⟨by decide +kernel, by decide +kernel⟩, lw_t1 (List.mem_of_getElem? (i := 208) rfl), lw_t2 (List.mem_of_getElem? (i := 33) rfl), lw_t2 (List.mem_of_getElem? (i := 34) rfl)⟩
theorem lw_p8 : lw_okq (⟨"FacetCountsModel", "isKeptBut", "(II)Z"⟩, 7) := ⟨⟨by decide +kernel, by decide +kernel⟩, lw_t1 (List.mem_of_getElem? (i := 208) rfl), lw_t2 (List.mem_of_getElem? (i := 37) rfl), lw_t2 (List.mem_of_getElem? (i := 38) rfl)⟩
theorem lw_p9 : lw_okq (⟨"FacetCountsModel", "isMet", "(II)Z"⟩, 7) := ⟨⟨by decide +kernel, by decide +kernel⟩, lw_t1 (List.mem_of_getElem? (i := 208) rfl), lw_t2 (List.mem_of_getElem? (i := 41) rfl), lw_t2 (List.mem_of_getElem? (i := 42) rfl)⟩
theorem lw_p10 : lw_okq (⟨"FacetCountsModel", "owns", "(III)Z"⟩, 7) := ⟨⟨by decide +kernel, by decide +kernel⟩, lw_t1 (List.mem_of_getElem? (i := 208) rfl), lw_t2 (List.mem_of_getElem? (i := 45) rfl), lw_t2 (List.mem_of_getElem? (i := 46) rfl)⟩
theorem lw_p11 : lw_okq (⟨"FacetCountsModel", "count", "(II)I"⟩, 7) := ⟨⟨by decide +kernel, by decide +kernel⟩, lw_t1 (List.mem_of_getElem? (i := 208) rfl), lw_t2 (List.mem_of_getElem? (i := 61) rfl), lw_t2 (List.mem_of_getElem? (i := 62) rfl)⟩
def lw_privs_1 : List (MethodName × Nat) := [(⟨"FacetCounts", "weigh", "(II)V"⟩, 8), (⟨"FacetCounts", "failsAt", "(II)Z"⟩, 8), (⟨"FacetCounts", "has", "(II)I"⟩, 8), (⟨"FacetCounts", "isKeptBut", "(II)Z"⟩, 8), (⟨"FacetCounts", "weighAll", "(I)V"⟩, 8), (⟨"java/lang/Throwable", "fillInStackTrace", "(I)Ljava/lang/Throwable;"⟩, 6), (⟨"FacetCountsModel", "isUnder", "(II)Z"⟩, 7), (⟨"FacetCountsModel", "all", "(I)I"⟩, 7), (⟨"FacetCountsModel", "isKeptBut", "(II)Z"⟩, 7), (⟨"FacetCountsModel", "isMet", "(II)Z"⟩, 7), (⟨"FacetCountsModel", "owns", "(III)Z"⟩, 7), (⟨"FacetCountsModel", "count", "(II)I"⟩, 7)]
theorem lw_r1 : ∀ q ∈ lw_privs_1, lw_okq q := List.forall_mem_cons.mpr ⟨lw_p0, List.forall_mem_cons.mpr ⟨lw_p1, List.forall_mem_cons.mpr ⟨lw_p2, List.forall_mem_cons.mpr ⟨lw_p3, List.forall_mem_cons.mpr ⟨lw_p4, List.forall_mem_cons.mpr ⟨lw_p5, List.forall_mem_cons.mpr ⟨lw_p6, List.forall_mem_cons.mpr ⟨lw_p7, List.forall_mem_cons.mpr ⟨lw_p8, List.forall_mem_cons.mpr ⟨lw_p9, List.forall_mem_cons.mpr ⟨lw_p10, List.forall_mem_cons.mpr ⟨lw_p11, fun _ h => absurd h List.not_mem_nil⟩⟩⟩⟩⟩⟩⟩⟩⟩⟩⟩⟩
def lw_privs : List (MethodName × Nat) := lw_privs_1
def lw_tbl : List Cond := k2_sels lw_privs ++ tables_1
theorem lw_privs_ok : ∀ q ∈ lw_privs, lw_okq q := lw_r1
-- ===== ONE list of words for every method: the tables' words that hold all through a run =====
def lw_all : List Cond := lw_tbl.filter goodWord
/-- a word of the tables by its place: claim/WORDS.tsv -/
theorem lw_w {w : Cond} (i : Nat) (h : lw_tbl[i]? = some w) (g : goodWord w = true) : w ∈ lw_all := List.mem_filter.mpr ⟨List.mem_of_getElem? h, g⟩
theorem lw_all_tbl {w : Cond} (h : w ∈ lw_all) : w ∈ lw_tbl := (List.mem_filter.mp h).1
theorem lw_self : GoodIn lw_all lw_all := fun w h => ⟨h, good_of_word (List.mem_filter.mp h).2⟩
/-- a class's field words, by their places -/
theorem lw_in (ws : List Cond) (ps : List Nat) (hp : ws = ps.filterMap (fun i => lw_tbl[i]?)) (hg : ws.all goodWord = true) : ∀ w ∈ ws, w ∈ lw_all := by
  intro w h
  have h1 := List.all_eq_true.mp hg w h
  rw [hp] at h
  obtain ⟨i, -, hi⟩ := List.mem_filterMap.mp h
  exact lw_w i hi h1
/-- the words of a contract for the method y with code b, L locals, answer r -/
abbrev ws_ (y : MethodName) (b : ByteArray) (L : Nat) (r : Option FieldType) : List Cond := Cond.code y b L r :: lw_all
theorem lw_meth {y : MethodName} {b : ByteArray} {L : Nat} {r : Option FieldType} (h : Cond.code y b L r ∈ lw_all) : GoodIn lw_all (ws_ y b L r) := by
  intro w hw
  rcases List.mem_cons.mp hw with e | e
  · rw [e]
    exact lw_self _ h
  · exact lw_self _ e
theorem lw_app {a c : List Cond} (ha : ∀ w ∈ a, w ∈ lw_all) (hc : GoodIn lw_all c) : GoodIn lw_all (a ++ c) := by
  intro w hw
  rcases List.mem_append.mp hw with e | e
  · exact lw_self w (ha w e)
  · exact hc w e
/-- what a call through an object asks: cwV n hts (lw_V ..) -/
theorem lw_V {own : String} {idx : Nat} {C : String} {y : MethodName} {b : ByteArray} {L : Nat} {r : Option FieldType} (h1 : Cond.methodLink own idx y ∈ lw_all) (h2 : Cond.instanceMethod y ∈ lw_all) (h3 : Cond.selects C y y ∈ lw_all) (h4 : Cond.initialized C ∈ lw_all) (h5 : Cond.code y b L r ∈ lw_all) : GoodIn lw_all (wsV own idx C y (ws_ y b L r)) := by
  refine lw_app ?_ (lw_meth h5)
  intro w hw
  simp only [List.mem_cons, List.not_mem_nil, or_false] at hw
  rcases hw with e | e | e | e
  · rw [e]; exact h1
  · rw [e]; exact h2
  · rw [e]; exact h3
  · rw [e]; exact h4
/-- what a static call asks: va_cwS n hts (lw_S ..) -/
theorem lw_S {own : String} {idx : Nat} {y : MethodName} {b : ByteArray} {L : Nat} {r : Option FieldType} (h1 : Cond.methodLink own idx y ∈ lw_all) (h2 : Cond.static y ∈ lw_all) (h3 : Cond.initialized y.cls ∈ lw_all) (h4 : Cond.code y b L r ∈ lw_all) : GoodIn lw_all (va_wsS own idx y (ws_ y b L r)) := by
  refine lw_app ?_ (lw_meth h4)
  intro w hw
  simp only [List.mem_cons, List.not_mem_nil, or_false] at hw
  rcases hw with e | e | e
  · rw [e]; exact h1
  · rw [e]; exact h2
  · rw [e]; exact h3
/-- the words of a contract for a method WITH HANDLERS (hh: its table) -/
abbrev wsW_ (y : MethodName) (b : ByteArray) (L : Nat) (r : Option FieldType) (hh : List (Nat × Nat × Nat × Nat)) : List Cond := Cond.codeWith y b L r hh :: lw_all
theorem lw_methW {y : MethodName} {b : ByteArray} {L : Nat} {r : Option FieldType} {hh : List (Nat × Nat × Nat × Nat)} (h : Cond.codeWith y b L r hh ∈ lw_all) : GoodIn lw_all (wsW_ y b L r hh) := by
  intro w hw
  rcases List.mem_cons.mp hw with e | e
  · rw [e]
    exact lw_self _ h
  · exact lw_self _ e
/-- any list of words by their places (lw_in), good -/
theorem lw_good {ws : List Cond} (h : ∀ w ∈ ws, w ∈ lw_all) : GoodIn lw_all ws := fun w hw => lw_self w (h w hw)
/-- what a call of a method with handlers asks: vx_cwVW n hts (lw_VW ..), vx_cwSW n hts (lw_SW ..) -/
theorem lw_VW {own : String} {idx : Nat} {C : String} {y : MethodName} {b : ByteArray} {L : Nat} {r : Option FieldType} {hh : List (Nat × Nat × Nat × Nat)} (h1 : Cond.methodLink own idx y ∈ lw_all) (h2 : Cond.instanceMethod y ∈ lw_all) (h3 : Cond.selects C y y ∈ lw_all) (h4 : Cond.initialized C ∈ lw_all) (h5 : Cond.codeWith y b L r hh ∈ lw_all) : GoodIn lw_all (wsV own idx C y (wsW_ y b L r hh)) := by
  refine lw_app ?_ (lw_methW h5)
  intro w hw
  simp only [List.mem_cons, List.not_mem_nil, or_false] at hw
  rcases hw with e | e | e | e
  · rw [e]; exact h1
  · rw [e]; exact h2
  · rw [e]; exact h3
  · rw [e]; exact h4
theorem lw_SW {own : String} {idx : Nat} {y : MethodName} {b : ByteArray} {L : Nat} {r : Option FieldType} {hh : List (Nat × Nat × Nat × Nat)} (h1 : Cond.methodLink own idx y ∈ lw_all) (h2 : Cond.static y ∈ lw_all) (h3 : Cond.initialized y.cls ∈ lw_all) (h4 : Cond.codeWith y b L r hh ∈ lw_all) : GoodIn lw_all (va_wsS own idx y (wsW_ y b L r hh)) := by
  refine lw_app ?_ (lw_methW h4)
  intro w hw
  simp only [List.mem_cons, List.not_mem_nil, or_false] at hw
  rcases hw with e | e | e
  · rw [e]; exact h1
  · rw [e]; exact h2
  · rw [e]; exact h3
/-- a word by its place in its run of the tables -/
theorem lw_at {r : List Cond} (hr : ∀ w ∈ r, w ∈ lw_tbl) {w : Cond} (i : Nat) (h : r[i]? = some w) : w ∈ lw_tbl := hr w (List.mem_of_getElem? h)
theorem lw_g {w : Cond} (h : w ∈ lw_tbl) (g : goodWord w = true) : w ∈ lw_all := List.mem_filter.mpr ⟨h, g⟩
theorem lw_ms : ∀ w ∈ k2_sels lw_privs, w ∈ lw_tbl := fun w h => show w ∈ k2_sels lw_privs ++ tables_1 from List.mem_append_left _ h
theorem lw_m1 : ∀ w ∈ tables_1_1, w ∈ lw_tbl := fun w h => show w ∈ k2_sels lw_privs ++ tables_1 from List.mem_append_right (k2_sels lw_privs) (show w ∈ tables_1 from List.mem_append_left _ h)
theorem lw_m2 : ∀ w ∈ tables_1_2, w ∈ lw_tbl := fun w h => show w ∈ k2_sels lw_privs ++ tables_1 from List.mem_append_right (k2_sels lw_privs) (show w ∈ tables_1 from List.mem_append_right _ h)
theorem qs0 : (Cond.selects "FacetCounts" ⟨"FacetCounts", "weigh", "(II)V"⟩ ⟨"FacetCounts", "weigh", "(II)V"⟩) ∈ lw_all := lw_g (lw_at lw_ms 0 rfl) rfl
theorem qs1 : (Cond.selects "FacetCounts" ⟨"FacetCounts", "failsAt", "(II)Z"⟩ ⟨"FacetCounts", "failsAt", "(II)Z"⟩) ∈ lw_all := lw_g (lw_at lw_ms 1 rfl) rfl
theorem qs2 : (Cond.selects "FacetCounts" ⟨"FacetCounts", "has", "(II)I"⟩ ⟨"FacetCounts", "has", "(II)I"⟩) ∈ lw_all := lw_g (lw_at lw_ms 2 rfl) rfl
theorem qs3 : (Cond.selects "FacetCounts" ⟨"FacetCounts", "isKeptBut", "(II)Z"⟩ ⟨"FacetCounts", "isKeptBut", "(II)Z"⟩) ∈ lw_all := lw_g (lw_at lw_ms 3 rfl) rfl
theorem qs4 : (Cond.selects "FacetCounts" ⟨"FacetCounts", "weighAll", "(I)V"⟩ ⟨"FacetCounts", "weighAll", "(I)V"⟩) ∈ lw_all := lw_g (lw_at lw_ms 4 rfl) rfl
theorem qs5 : (Cond.selects "java/lang/Throwable" ⟨"java/lang/Throwable", "fillInStackTrace", "(I)Ljava/lang/Throwable;"⟩ ⟨"java/lang/Throwable", "fillInStackTrace", "(I)Ljava/lang/Throwable;"⟩) ∈ lw_all := lw_g (lw_at lw_ms 5 rfl) rfl
theorem qs6 : (Cond.selects "FacetCountsModel" ⟨"FacetCountsModel", "isUnder", "(II)Z"⟩ ⟨"FacetCountsModel", "isUnder", "(II)Z"⟩) ∈ lw_all := lw_g (lw_at lw_ms 6 rfl) rfl
theorem qs7 : (Cond.selects "FacetCountsModel" ⟨"FacetCountsModel", "all", "(I)I"⟩ ⟨"FacetCountsModel", "all", "(I)I"⟩) ∈ lw_all := lw_g (lw_at lw_ms 7 rfl) rfl
theorem qs8 : (Cond.selects "FacetCountsModel" ⟨"FacetCountsModel", "isKeptBut", "(II)Z"⟩ ⟨"FacetCountsModel", "isKeptBut", "(II)Z"⟩) ∈ lw_all := lw_g (lw_at lw_ms 8 rfl) rfl
theorem qs9 : (Cond.selects "FacetCountsModel" ⟨"FacetCountsModel", "isMet", "(II)Z"⟩ ⟨"FacetCountsModel", "isMet", "(II)Z"⟩) ∈ lw_all := lw_g (lw_at lw_ms 9 rfl) rfl
theorem qs10 : (Cond.selects "FacetCountsModel" ⟨"FacetCountsModel", "owns", "(III)Z"⟩ ⟨"FacetCountsModel", "owns", "(III)Z"⟩) ∈ lw_all := lw_g (lw_at lw_ms 10 rfl) rfl
theorem qs11 : (Cond.selects "FacetCountsModel" ⟨"FacetCountsModel", "count", "(II)I"⟩ ⟨"FacetCountsModel", "count", "(II)I"⟩) ∈ lw_all := lw_g (lw_at lw_ms 11 rfl) rfl
end
section
/-! FacetCounts -/
set_option maxRecDepth 100000
def RX1 : String := "FacetCounts"
def TX1 : u_T := fun k => match k with
  | 0 => ("FacetCounts", "own", "[I", true)
  | 1 => ("FacetCounts", "rows", "I", false)
  | 2 => ("FacetCounts", "uppers", "[I", true)
  | 3 => ("FacetCounts", "closed", "[I", true)
  | 4 => ("FacetCounts", "chosen", "[I", true)
  | 5 => ("FacetCounts", "fails", "[I", true)
  | 6 => ("FacetCounts", "counts", "[I", true)
  | _ => ("FacetCounts", "seen", "[I", true)
def tyX1 : Nat → FieldType := fun k => match k with
  | 0 => .array .int
  | 1 => .int
  | 2 => .array .int
  | 3 => .array .int
  | 4 => .array .int
  | 5 => .array .int
  | 6 => .array .int
  | _ => .array .int
abbrev wsX10 : List Cond := u_ws RX1 TX1 8
theorem nmX1 : ∀ a, a < 8 → ∀ b, b < 8 → a ≠ b → (TX1 a).2.1 ≠ (TX1 b).2.1 := by decide +kernel
theorem tyX1_ok : ∀ k, k < 8 → parseFieldDescriptor (TX1 k).2.2.1 = some (tyX1 k) := by decide +kernel
abbrev cX1_init : ByteArray := prog_1_method_1_code
def yX1_init : MethodName := ⟨RX1, "<init>", "()V"⟩
abbrev cX1_row : ByteArray := prog_1_method_9_code
def yX1_row : MethodName := ⟨RX1, "row", "(III)I"⟩
abbrev cX1_isRow : ByteArray := prog_1_method_3_code
def yX1_isRow : MethodName := ⟨RX1, "isRow", "(III)Z"⟩
abbrev cX1_isIn : ByteArray := prog_1_method_2_code
def yX1_isIn : MethodName := ⟨RX1, "isIn", "(II)Z"⟩
abbrev cX1_weigh : ByteArray := prog_1_method_7_code
def yX1_weigh : MethodName := ⟨RX1, "weigh", "(II)V"⟩
abbrev cX1_failsAt : ByteArray := prog_1_method_5_code
def yX1_failsAt : MethodName := ⟨RX1, "failsAt", "(II)Z"⟩
abbrev cX1_has : ByteArray := prog_1_method_4_code
def yX1_has : MethodName := ⟨RX1, "has", "(II)I"⟩
abbrev cX1_isKeptBut : ByteArray := prog_1_method_6_code
def yX1_isKeptBut : MethodName := ⟨RX1, "isKeptBut", "(II)Z"⟩
abbrev cX1_drop : ByteArray := prog_1_method_10_code
def yX1_drop : MethodName := ⟨RX1, "drop", "(III)I"⟩
abbrev cX1_above : ByteArray := prog_1_method_11_code
def yX1_above : MethodName := ⟨RX1, "above", "(II)I"⟩
abbrev cX1_weighAll : ByteArray := prog_1_method_8_code
def yX1_weighAll : MethodName := ⟨RX1, "weighAll", "(I)V"⟩
abbrev cX1_choose : ByteArray := prog_1_method_12_code
def yX1_choose : MethodName := ⟨RX1, "choose", "(IIZ)I"⟩
abbrev cX1_kept : ByteArray := prog_1_method_13_code
def yX1_kept : MethodName := ⟨RX1, "kept", "()I"⟩
abbrev cX1_isKept : ByteArray := prog_1_method_14_code
def yX1_isKept : MethodName := ⟨RX1, "isKept", "(I)I"⟩
abbrev cX1_facet : ByteArray := prog_1_method_15_code
def yX1_facet : MethodName := ⟨RX1, "facet", "(II)I"⟩
abbrev cX1_top : ByteArray := prog_1_method_16_code
def yX1_top : MethodName := ⟨RX1, "top", "(II)I"⟩
abbrev cX1_range : ByteArray := prog_1_method_17_code
def yX1_range : MethodName := ⟨RX1, "range", "(III)I"⟩
abbrev cX1_sum : ByteArray := prog_1_method_18_code
def yX1_sum : MethodName := ⟨RX1, "sum", "(III)I"⟩
abbrev cX1_changed : ByteArray := prog_1_method_21_code
def yX1_changed : MethodName := ⟨RX1, "changed", "()I"⟩
abbrev cX1_rows : ByteArray := prog_1_method_22_code
def yX1_rows : MethodName := ⟨RX1, "rows", "()I"⟩
abbrev cX1_share : ByteArray := prog_1_method_20_code
def yX1_share : MethodName := ⟨RX1, "share", "(IIZ)I"⟩
abbrev cX1_common : ByteArray := prog_1_method_19_code
def yX1_common : MethodName := ⟨RX1, "common", "(II)I"⟩
theorem q13 : (Jvm.Cond.initialized "FacetCounts") ∈ lw_all := lw_g (lw_at lw_m1 1 rfl) rfl
theorem q21 : (Jvm.Cond.instantiable "FacetCounts" (8 : Nat)) ∈ lw_all := lw_g (lw_at lw_m1 9 rfl) rfl
theorem q23 : (Jvm.Cond.instanceMethod ({ cls := "FacetCounts", name := "<init>", desc := "()V" } : Jvm.MethodName)) ∈ lw_all := lw_g (lw_at lw_m1 11 rfl) rfl
theorem q24 : (Jvm.Cond.code ({ cls := "FacetCounts", name := "<init>", desc := "()V" } : Jvm.MethodName) prog_1_method_1_code (2 : Nat) (Option.none : Option Jvm.ClassFile.FieldType)) ∈ lw_all := lw_g (lw_at lw_m1 12 rfl) rfl
theorem q25 : (Jvm.Cond.methodLink "FacetCounts" (1 : Nat) ({ cls := "java/lang/Object", name := "<init>", desc := "()V" } : Jvm.MethodName)) ∈ lw_all := lw_g (lw_at lw_m1 13 rfl) rfl
theorem q28 : (Jvm.Cond.fieldLink "FacetCounts" (7 : Nat) "FacetCounts" "own" "[I") ∈ lw_all := lw_g (lw_at lw_m1 16 rfl) rfl
theorem q29 : (Jvm.Cond.fieldLink "FacetCounts" (53 : Nat) "FacetCounts" "rows" "I") ∈ lw_all := lw_g (lw_at lw_m1 17 rfl) rfl
theorem q30 : (Jvm.Cond.fieldLink "FacetCounts" (13 : Nat) "FacetCounts" "uppers" "[I") ∈ lw_all := lw_g (lw_at lw_m1 18 rfl) rfl
theorem q31 : (Jvm.Cond.fieldLink "FacetCounts" (16 : Nat) "FacetCounts" "closed" "[I") ∈ lw_all := lw_g (lw_at lw_m1 19 rfl) rfl
theorem q32 : (Jvm.Cond.fieldLink "FacetCounts" (19 : Nat) "FacetCounts" "chosen" "[I") ∈ lw_all := lw_g (lw_at lw_m1 20 rfl) rfl
theorem q33 : (Jvm.Cond.fieldLink "FacetCounts" (22 : Nat) "FacetCounts" "fails" "[I") ∈ lw_all := lw_g (lw_at lw_m1 21 rfl) rfl
theorem q34 : (Jvm.Cond.fieldLink "FacetCounts" (25 : Nat) "FacetCounts" "counts" "[I") ∈ lw_all := lw_g (lw_at lw_m1 22 rfl) rfl
theorem q35 : (Jvm.Cond.fieldLink "FacetCounts" (28 : Nat) "FacetCounts" "seen" "[I") ∈ lw_all := lw_g (lw_at lw_m1 23 rfl) rfl
theorem q36 : (Jvm.Cond.laysFinal "FacetCounts" "FacetCounts" "own" "[I") ∈ lw_all := lw_g (lw_at lw_m1 24 rfl) rfl
theorem q37 : (Jvm.Cond.soleField "FacetCounts" "own") ∈ lw_all := lw_g (lw_at lw_m1 25 rfl) rfl
theorem q38 : (Jvm.Cond.lays "FacetCounts" "FacetCounts" "rows" "I") ∈ lw_all := lw_g (lw_at lw_m1 26 rfl) rfl
theorem q39 : (Jvm.Cond.soleField "FacetCounts" "rows") ∈ lw_all := lw_g (lw_at lw_m1 27 rfl) rfl
theorem q40 : (Jvm.Cond.laysFinal "FacetCounts" "FacetCounts" "uppers" "[I") ∈ lw_all := lw_g (lw_at lw_m1 28 rfl) rfl
theorem q41 : (Jvm.Cond.soleField "FacetCounts" "uppers") ∈ lw_all := lw_g (lw_at lw_m1 29 rfl) rfl
theorem q42 : (Jvm.Cond.laysFinal "FacetCounts" "FacetCounts" "closed" "[I") ∈ lw_all := lw_g (lw_at lw_m1 30 rfl) rfl
theorem q43 : (Jvm.Cond.soleField "FacetCounts" "closed") ∈ lw_all := lw_g (lw_at lw_m1 31 rfl) rfl
theorem q44 : (Jvm.Cond.laysFinal "FacetCounts" "FacetCounts" "chosen" "[I") ∈ lw_all := lw_g (lw_at lw_m1 32 rfl) rfl
theorem q45 : (Jvm.Cond.soleField "FacetCounts" "chosen") ∈ lw_all := lw_g (lw_at lw_m1 33 rfl) rfl
theorem q46 : (Jvm.Cond.laysFinal "FacetCounts" "FacetCounts" "fails" "[I") ∈ lw_all := lw_g (lw_at lw_m1 34 rfl) rfl
theorem q47 : (Jvm.Cond.soleField "FacetCounts" "fails") ∈ lw_all := lw_g (lw_at lw_m1 35 rfl) rfl
theorem q48 : (Jvm.Cond.laysFinal "FacetCounts" "FacetCounts" "counts" "[I") ∈ lw_all := lw_g (lw_at lw_m1 36 rfl) rfl
theorem q49 : (Jvm.Cond.soleField "FacetCounts" "counts") ∈ lw_all := lw_g (lw_at lw_m1 37 rfl) rfl
theorem q50 : (Jvm.Cond.laysFinal "FacetCounts" "FacetCounts" "seen" "[I") ∈ lw_all := lw_g (lw_at lw_m1 38 rfl) rfl
theorem q51 : (Jvm.Cond.soleField "FacetCounts" "seen") ∈ lw_all := lw_g (lw_at lw_m1 39 rfl) rfl
theorem q52 : (Jvm.Cond.superclass "FacetCounts" "java/lang/Object") ∈ lw_all := lw_g (lw_at lw_m1 40 rfl) rfl
theorem q55 : (Jvm.Cond.instanceMethod ({ cls := "FacetCounts", name := "row", desc := "(III)I" } : Jvm.MethodName)) ∈ lw_all := lw_g (lw_at lw_m1 43 rfl) rfl
theorem q56 : (Jvm.Cond.selects "FacetCounts" ({ cls := "FacetCounts", name := "row", desc := "(III)I" } : Jvm.MethodName) ({ cls := "FacetCounts", name := "row", desc := "(III)I" } : Jvm.MethodName)) ∈ lw_all := lw_g (lw_at lw_m1 44 rfl) rfl
theorem q57 : (Jvm.Cond.code ({ cls := "FacetCounts", name := "row", desc := "(III)I" } : Jvm.MethodName) prog_1_method_9_code (5 : Nat) (Option.some Jvm.ClassFile.FieldType.int)) ∈ lw_all := lw_g (lw_at lw_m1 45 rfl) rfl
theorem q58 : (Jvm.Cond.methodLink "FacetCounts" (49 : Nat) ({ cls := "FacetCounts", name := "isRow", desc := "(III)Z" } : Jvm.MethodName)) ∈ lw_all := lw_g (lw_at lw_m1 46 rfl) rfl
theorem q59 : (Jvm.Cond.static ({ cls := "FacetCounts", name := "isRow", desc := "(III)Z" } : Jvm.MethodName)) ∈ lw_all := lw_g (lw_at lw_m1 47 rfl) rfl
theorem q60 : (Jvm.Cond.code ({ cls := "FacetCounts", name := "isRow", desc := "(III)Z" } : Jvm.MethodName) prog_1_method_3_code (3 : Nat) (Option.some Jvm.ClassFile.FieldType.boolean)) ∈ lw_all := lw_g (lw_at lw_m1 48 rfl) rfl
theorem q61 : (Jvm.Cond.methodLink "FacetCounts" (31 : Nat) ({ cls := "FacetCounts", name := "isIn", desc := "(II)Z" } : Jvm.MethodName)) ∈ lw_all := lw_g (lw_at lw_m1 49 rfl) rfl
theorem q62 : (Jvm.Cond.static ({ cls := "FacetCounts", name := "isIn", desc := "(II)Z" } : Jvm.MethodName)) ∈ lw_all := lw_g (lw_at lw_m1 50 rfl) rfl
theorem q63 : (Jvm.Cond.code ({ cls := "FacetCounts", name := "isIn", desc := "(II)Z" } : Jvm.MethodName) prog_1_method_2_code (2 : Nat) (Option.some Jvm.ClassFile.FieldType.boolean)) ∈ lw_all := lw_g (lw_at lw_m1 51 rfl) rfl
theorem q64 : (Jvm.Cond.methodLink "FacetCounts" (45 : Nat) ({ cls := "FacetCounts", name := "weigh", desc := "(II)V" } : Jvm.MethodName)) ∈ lw_all := lw_g (lw_at lw_m1 52 rfl) rfl
theorem q65 : (Jvm.Cond.privateMethod ({ cls := "FacetCounts", name := "weigh", desc := "(II)V" } : Jvm.MethodName)) ∈ lw_tbl := lw_at lw_m1 53 rfl
theorem q66 : (Jvm.Cond.instanceMethod ({ cls := "FacetCounts", name := "weigh", desc := "(II)V" } : Jvm.MethodName)) ∈ lw_all := lw_g (lw_at lw_m1 54 rfl) rfl
theorem q67 : (Jvm.Cond.code ({ cls := "FacetCounts", name := "weigh", desc := "(II)V" } : Jvm.MethodName) prog_1_method_7_code (6 : Nat) (Option.none : Option Jvm.ClassFile.FieldType)) ∈ lw_all := lw_g (lw_at lw_m1 55 rfl) rfl
theorem q68 : (Jvm.Cond.methodLink "FacetCounts" (39 : Nat) ({ cls := "FacetCounts", name := "failsAt", desc := "(II)Z" } : Jvm.MethodName)) ∈ lw_all := lw_g (lw_at lw_m1 56 rfl) rfl
theorem q69 : (Jvm.Cond.privateMethod ({ cls := "FacetCounts", name := "failsAt", desc := "(II)Z" } : Jvm.MethodName)) ∈ lw_tbl := lw_at lw_m1 57 rfl
theorem q70 : (Jvm.Cond.instanceMethod ({ cls := "FacetCounts", name := "failsAt", desc := "(II)Z" } : Jvm.MethodName)) ∈ lw_all := lw_g (lw_at lw_m1 58 rfl) rfl
theorem q71 : (Jvm.Cond.code ({ cls := "FacetCounts", name := "failsAt", desc := "(II)Z" } : Jvm.MethodName) prog_1_method_5_code (3 : Nat) (Option.some Jvm.ClassFile.FieldType.boolean)) ∈ lw_all := lw_g (lw_at lw_m1 59 rfl) rfl
theorem q72 : (Jvm.Cond.methodLink "FacetCounts" (35 : Nat) ({ cls := "FacetCounts", name := "has", desc := "(II)I" } : Jvm.MethodName)) ∈ lw_all := lw_g (lw_at lw_m1 60 rfl) rfl
theorem q73 : (Jvm.Cond.privateMethod ({ cls := "FacetCounts", name := "has", desc := "(II)I" } : Jvm.MethodName)) ∈ lw_tbl := lw_at lw_m1 61 rfl
theorem q74 : (Jvm.Cond.instanceMethod ({ cls := "FacetCounts", name := "has", desc := "(II)I" } : Jvm.MethodName)) ∈ lw_all := lw_g (lw_at lw_m1 62 rfl) rfl
theorem q75 : (Jvm.Cond.code ({ cls := "FacetCounts", name := "has", desc := "(II)I" } : Jvm.MethodName) prog_1_method_4_code (6 : Nat) (Option.some Jvm.ClassFile.FieldType.int)) ∈ lw_all := lw_g (lw_at lw_m1 63 rfl) rfl
theorem q76 : (Jvm.Cond.methodLink "FacetCounts" (42 : Nat) ({ cls := "FacetCounts", name := "isKeptBut", desc := "(II)Z" } : Jvm.MethodName)) ∈ lw_all := lw_g (lw_at lw_m1 64 rfl) rfl
theorem q77 : (Jvm.Cond.privateMethod ({ cls := "FacetCounts", name := "isKeptBut", desc := "(II)Z" } : Jvm.MethodName)) ∈ lw_tbl := lw_at lw_m1 65 rfl
theorem q78 : (Jvm.Cond.instanceMethod ({ cls := "FacetCounts", name := "isKeptBut", desc := "(II)Z" } : Jvm.MethodName)) ∈ lw_all := lw_g (lw_at lw_m1 66 rfl) rfl
theorem q79 : (Jvm.Cond.code ({ cls := "FacetCounts", name := "isKeptBut", desc := "(II)Z" } : Jvm.MethodName) prog_1_method_6_code (3 : Nat) (Option.some Jvm.ClassFile.FieldType.boolean)) ∈ lw_all := lw_g (lw_at lw_m1 67 rfl) rfl
theorem q81 : (Jvm.Cond.instanceMethod ({ cls := "FacetCounts", name := "drop", desc := "(III)I" } : Jvm.MethodName)) ∈ lw_all := lw_g (lw_at lw_m1 69 rfl) rfl
theorem q82 : (Jvm.Cond.selects "FacetCounts" ({ cls := "FacetCounts", name := "drop", desc := "(III)I" } : Jvm.MethodName) ({ cls := "FacetCounts", name := "drop", desc := "(III)I" } : Jvm.MethodName)) ∈ lw_all := lw_g (lw_at lw_m1 70 rfl) rfl
theorem q83 : (Jvm.Cond.code ({ cls := "FacetCounts", name := "drop", desc := "(III)I" } : Jvm.MethodName) prog_1_method_10_code (5 : Nat) (Option.some Jvm.ClassFile.FieldType.int)) ∈ lw_all := lw_g (lw_at lw_m1 71 rfl) rfl
theorem q85 : (Jvm.Cond.instanceMethod ({ cls := "FacetCounts", name := "above", desc := "(II)I" } : Jvm.MethodName)) ∈ lw_all := lw_g (lw_at lw_m1 73 rfl) rfl
theorem q86 : (Jvm.Cond.selects "FacetCounts" ({ cls := "FacetCounts", name := "above", desc := "(II)I" } : Jvm.MethodName) ({ cls := "FacetCounts", name := "above", desc := "(II)I" } : Jvm.MethodName)) ∈ lw_all := lw_g (lw_at lw_m1 74 rfl) rfl
theorem q87 : (Jvm.Cond.code ({ cls := "FacetCounts", name := "above", desc := "(II)I" } : Jvm.MethodName) prog_1_method_11_code (5 : Nat) (Option.some Jvm.ClassFile.FieldType.int)) ∈ lw_all := lw_g (lw_at lw_m1 75 rfl) rfl
theorem q88 : (Jvm.Cond.methodLink "FacetCounts" (57 : Nat) ({ cls := "FacetCounts", name := "weighAll", desc := "(I)V" } : Jvm.MethodName)) ∈ lw_all := lw_g (lw_at lw_m1 76 rfl) rfl
theorem q89 : (Jvm.Cond.privateMethod ({ cls := "FacetCounts", name := "weighAll", desc := "(I)V" } : Jvm.MethodName)) ∈ lw_tbl := lw_at lw_m1 77 rfl
theorem q90 : (Jvm.Cond.instanceMethod ({ cls := "FacetCounts", name := "weighAll", desc := "(I)V" } : Jvm.MethodName)) ∈ lw_all := lw_g (lw_at lw_m1 78 rfl) rfl
theorem q91 : (Jvm.Cond.code ({ cls := "FacetCounts", name := "weighAll", desc := "(I)V" } : Jvm.MethodName) prog_1_method_8_code (3 : Nat) (Option.none : Option Jvm.ClassFile.FieldType)) ∈ lw_all := lw_g (lw_at lw_m1 79 rfl) rfl
theorem q93 : (Jvm.Cond.instanceMethod ({ cls := "FacetCounts", name := "choose", desc := "(IIZ)I" } : Jvm.MethodName)) ∈ lw_all := lw_g (lw_at lw_m1 81 rfl) rfl
theorem q94 : (Jvm.Cond.selects "FacetCounts" ({ cls := "FacetCounts", name := "choose", desc := "(IIZ)I" } : Jvm.MethodName) ({ cls := "FacetCounts", name := "choose", desc := "(IIZ)I" } : Jvm.MethodName)) ∈ lw_all := lw_g (lw_at lw_m1 82 rfl) rfl
theorem q95 : (Jvm.Cond.code ({ cls := "FacetCounts", name := "choose", desc := "(IIZ)I" } : Jvm.MethodName) prog_1_method_12_code (4 : Nat) (Option.some Jvm.ClassFile.FieldType.int)) ∈ lw_all := lw_g (lw_at lw_m1 83 rfl) rfl
theorem q96 : (Jvm.Cond.methodLink "FacetCounts" (61 : Nat) ({ cls := "FacetCounts", name := "kept", desc := "()I" } : Jvm.MethodName)) ∈ lw_all := lw_g (lw_at lw_m1 84 rfl) rfl
theorem q97 : (Jvm.Cond.instanceMethod ({ cls := "FacetCounts", name := "kept", desc := "()I" } : Jvm.MethodName)) ∈ lw_all := lw_g (lw_at lw_m1 85 rfl) rfl
theorem q98 : (Jvm.Cond.selects "FacetCounts" ({ cls := "FacetCounts", name := "kept", desc := "()I" } : Jvm.MethodName) ({ cls := "FacetCounts", name := "kept", desc := "()I" } : Jvm.MethodName)) ∈ lw_all := lw_g (lw_at lw_m1 86 rfl) rfl
theorem q99 : (Jvm.Cond.code ({ cls := "FacetCounts", name := "kept", desc := "()I" } : Jvm.MethodName) prog_1_method_13_code (3 : Nat) (Option.some Jvm.ClassFile.FieldType.int)) ∈ lw_all := lw_g (lw_at lw_m1 87 rfl) rfl
theorem q102 : (Jvm.Cond.instanceMethod ({ cls := "FacetCounts", name := "isKept", desc := "(I)I" } : Jvm.MethodName)) ∈ lw_all := lw_g (lw_at lw_m1 90 rfl) rfl
theorem q103 : (Jvm.Cond.selects "FacetCounts" ({ cls := "FacetCounts", name := "isKept", desc := "(I)I" } : Jvm.MethodName) ({ cls := "FacetCounts", name := "isKept", desc := "(I)I" } : Jvm.MethodName)) ∈ lw_all := lw_g (lw_at lw_m1 91 rfl) rfl
theorem q104 : (Jvm.Cond.code ({ cls := "FacetCounts", name := "isKept", desc := "(I)I" } : Jvm.MethodName) prog_1_method_14_code (2 : Nat) (Option.some Jvm.ClassFile.FieldType.int)) ∈ lw_all := lw_g (lw_at lw_m1 92 rfl) rfl
theorem q106 : (Jvm.Cond.instanceMethod ({ cls := "FacetCounts", name := "facet", desc := "(II)I" } : Jvm.MethodName)) ∈ lw_all := lw_g (lw_at lw_m1 94 rfl) rfl
theorem q107 : (Jvm.Cond.selects "FacetCounts" ({ cls := "FacetCounts", name := "facet", desc := "(II)I" } : Jvm.MethodName) ({ cls := "FacetCounts", name := "facet", desc := "(II)I" } : Jvm.MethodName)) ∈ lw_all := lw_g (lw_at lw_m1 95 rfl) rfl
theorem q108 : (Jvm.Cond.code ({ cls := "FacetCounts", name := "facet", desc := "(II)I" } : Jvm.MethodName) prog_1_method_15_code (3 : Nat) (Option.some Jvm.ClassFile.FieldType.int)) ∈ lw_all := lw_g (lw_at lw_m1 96 rfl) rfl
theorem q110 : (Jvm.Cond.instanceMethod ({ cls := "FacetCounts", name := "top", desc := "(II)I" } : Jvm.MethodName)) ∈ lw_all := lw_g (lw_at lw_m1 98 rfl) rfl
theorem q111 : (Jvm.Cond.selects "FacetCounts" ({ cls := "FacetCounts", name := "top", desc := "(II)I" } : Jvm.MethodName) ({ cls := "FacetCounts", name := "top", desc := "(II)I" } : Jvm.MethodName)) ∈ lw_all := lw_g (lw_at lw_m1 99 rfl) rfl
theorem q112 : (Jvm.Cond.code ({ cls := "FacetCounts", name := "top", desc := "(II)I" } : Jvm.MethodName) prog_1_method_16_code (8 : Nat) (Option.some Jvm.ClassFile.FieldType.int)) ∈ lw_all := lw_g (lw_at lw_m1 100 rfl) rfl
theorem q114 : (Jvm.Cond.instanceMethod ({ cls := "FacetCounts", name := "range", desc := "(III)I" } : Jvm.MethodName)) ∈ lw_all := lw_g (lw_at lw_m1 102 rfl) rfl
theorem q115 : (Jvm.Cond.selects "FacetCounts" ({ cls := "FacetCounts", name := "range", desc := "(III)I" } : Jvm.MethodName) ({ cls := "FacetCounts", name := "range", desc := "(III)I" } : Jvm.MethodName)) ∈ lw_all := lw_g (lw_at lw_m1 103 rfl) rfl
theorem q116 : (Jvm.Cond.code ({ cls := "FacetCounts", name := "range", desc := "(III)I" } : Jvm.MethodName) prog_1_method_17_code (7 : Nat) (Option.some Jvm.ClassFile.FieldType.int)) ∈ lw_all := lw_g (lw_at lw_m1 104 rfl) rfl
theorem q118 : (Jvm.Cond.instanceMethod ({ cls := "FacetCounts", name := "sum", desc := "(III)I" } : Jvm.MethodName)) ∈ lw_all := lw_g (lw_at lw_m1 106 rfl) rfl
theorem q119 : (Jvm.Cond.selects "FacetCounts" ({ cls := "FacetCounts", name := "sum", desc := "(III)I" } : Jvm.MethodName) ({ cls := "FacetCounts", name := "sum", desc := "(III)I" } : Jvm.MethodName)) ∈ lw_all := lw_g (lw_at lw_m1 107 rfl) rfl
theorem q120 : (Jvm.Cond.code ({ cls := "FacetCounts", name := "sum", desc := "(III)I" } : Jvm.MethodName) prog_1_method_18_code (8 : Nat) (Option.some Jvm.ClassFile.FieldType.int)) ∈ lw_all := lw_g (lw_at lw_m1 108 rfl) rfl
theorem q122 : (Jvm.Cond.instanceMethod ({ cls := "FacetCounts", name := "changed", desc := "()I" } : Jvm.MethodName)) ∈ lw_all := lw_g (lw_at lw_m1 110 rfl) rfl
theorem q123 : (Jvm.Cond.selects "FacetCounts" ({ cls := "FacetCounts", name := "changed", desc := "()I" } : Jvm.MethodName) ({ cls := "FacetCounts", name := "changed", desc := "()I" } : Jvm.MethodName)) ∈ lw_all := lw_g (lw_at lw_m1 111 rfl) rfl
theorem q124 : (Jvm.Cond.code ({ cls := "FacetCounts", name := "changed", desc := "()I" } : Jvm.MethodName) prog_1_method_21_code (3 : Nat) (Option.some Jvm.ClassFile.FieldType.int)) ∈ lw_all := lw_g (lw_at lw_m1 112 rfl) rfl
theorem q126 : (Jvm.Cond.instanceMethod ({ cls := "FacetCounts", name := "rows", desc := "()I" } : Jvm.MethodName)) ∈ lw_all := lw_g (lw_at lw_m1 114 rfl) rfl
theorem q127 : (Jvm.Cond.selects "FacetCounts" ({ cls := "FacetCounts", name := "rows", desc := "()I" } : Jvm.MethodName) ({ cls := "FacetCounts", name := "rows", desc := "()I" } : Jvm.MethodName)) ∈ lw_all := lw_g (lw_at lw_m1 115 rfl) rfl
theorem q128 : (Jvm.Cond.code ({ cls := "FacetCounts", name := "rows", desc := "()I" } : Jvm.MethodName) prog_1_method_22_code (1 : Nat) (Option.some Jvm.ClassFile.FieldType.int)) ∈ lw_all := lw_g (lw_at lw_m1 116 rfl) rfl
theorem q202 : (Jvm.Cond.instanceMethod ({ cls := "FacetCounts", name := "share", desc := "(IIZ)I" } : Jvm.MethodName)) ∈ lw_all := lw_g (lw_at lw_m1 190 rfl) rfl
theorem q203 : (Jvm.Cond.selects "FacetCounts" ({ cls := "FacetCounts", name := "share", desc := "(IIZ)I" } : Jvm.MethodName) ({ cls := "FacetCounts", name := "share", desc := "(IIZ)I" } : Jvm.MethodName)) ∈ lw_all := lw_g (lw_at lw_m1 191 rfl) rfl
theorem q204 : (Jvm.Cond.code ({ cls := "FacetCounts", name := "share", desc := "(IIZ)I" } : Jvm.MethodName) prog_1_method_20_code (7 : Nat) (Option.some Jvm.ClassFile.FieldType.int)) ∈ lw_all := lw_g (lw_at lw_m1 192 rfl) rfl
theorem q205 : (Jvm.Cond.classLink "FacetCounts" (65 : Nat) "java/lang/ArithmeticException") ∈ lw_all := lw_g (lw_at lw_m1 193 rfl) rfl
theorem q206 : (Jvm.Cond.methodLink "FacetCounts" (67 : Nat) ({ cls := "java/lang/ArithmeticException", name := "<init>", desc := "()V" } : Jvm.MethodName)) ∈ lw_all := lw_g (lw_at lw_m1 194 rfl) rfl
theorem q216 : (Jvm.Cond.methodLink "FacetCounts" (68 : Nat) ({ cls := "FacetCounts", name := "common", desc := "(II)I" } : Jvm.MethodName)) ∈ lw_all := lw_g (lw_at lw_m1 204 rfl) rfl
theorem q217 : (Jvm.Cond.static ({ cls := "FacetCounts", name := "common", desc := "(II)I" } : Jvm.MethodName)) ∈ lw_all := lw_g (lw_at lw_m1 205 rfl) rfl
theorem q218 : (Jvm.Cond.code ({ cls := "FacetCounts", name := "common", desc := "(II)I" } : Jvm.MethodName) prog_1_method_19_code (5 : Nat) (Option.some Jvm.ClassFile.FieldType.int)) ∈ lw_all := lw_g (lw_at lw_m1 206 rfl) rfl
theorem in_X1 : ∀ w ∈ wsX10, w ∈ lw_all := lw_in wsX10 [36, 38, 40, 42, 44, 46, 48, 50] (by decide +kernel) (by decide +kernel)

theorem dX1_init_0 : decode cX1_init 0 = .ok (.aload_n 0, 1) := by decide +kernel
theorem dX1_init_1 : decode cX1_init 1 = .ok (.invokespecial 1, 3) := by decide +kernel
theorem dX1_init_4 : decode cX1_init 4 = .ok (.aload_n 0, 1) := by decide +kernel
theorem dX1_init_5 : decode cX1_init 5 = .ok (.sipush 320, 3) := by decide +kernel
theorem dX1_init_8 : decode cX1_init 8 = .ok (.newarray .int, 2) := by decide +kernel
theorem dX1_init_10 : decode cX1_init 10 = .ok (.putfield 7, 3) := by decide +kernel
theorem dX1_init_13 : decode cX1_init 13 = .ok (.aload_n 0, 1) := by decide +kernel
theorem dX1_init_14 : decode cX1_init 14 = .ok (.bipush 32, 2) := by decide +kernel
theorem dX1_init_16 : decode cX1_init 16 = .ok (.newarray .int, 2) := by decide +kernel
theorem dX1_init_18 : decode cX1_init 18 = .ok (.putfield 13, 3) := by decide +kernel
theorem dX1_init_21 : decode cX1_init 21 = .ok (.aload_n 0, 1) := by decide +kernel
theorem dX1_init_22 : decode cX1_init 22 = .ok (.bipush 32, 2) := by decide +kernel
theorem dX1_init_24 : decode cX1_init 24 = .ok (.newarray .int, 2) := by decide +kernel
theorem dX1_init_26 : decode cX1_init 26 = .ok (.putfield 16, 3) := by decide +kernel
theorem dX1_init_29 : decode cX1_init 29 = .ok (.aload_n 0, 1) := by decide +kernel
theorem dX1_init_30 : decode cX1_init 30 = .ok (.bipush 8, 2) := by decide +kernel
theorem dX1_init_32 : decode cX1_init 32 = .ok (.newarray .int, 2) := by decide +kernel
theorem dX1_init_34 : decode cX1_init 34 = .ok (.putfield 19, 3) := by decide +kernel
theorem dX1_init_37 : decode cX1_init 37 = .ok (.aload_n 0, 1) := by decide +kernel
theorem dX1_init_38 : decode cX1_init 38 = .ok (.bipush 40, 2) := by decide +kernel
theorem dX1_init_40 : decode cX1_init 40 = .ok (.newarray .int, 2) := by decide +kernel
theorem dX1_init_42 : decode cX1_init 42 = .ok (.putfield 22, 3) := by decide +kernel
theorem dX1_init_45 : decode cX1_init 45 = .ok (.aload_n 0, 1) := by decide +kernel
theorem dX1_init_46 : decode cX1_init 46 = .ok (.sipush 256, 3) := by decide +kernel
theorem dX1_init_49 : decode cX1_init 49 = .ok (.newarray .int, 2) := by decide +kernel
theorem dX1_init_51 : decode cX1_init 51 = .ok (.putfield 25, 3) := by decide +kernel
theorem dX1_init_54 : decode cX1_init 54 = .ok (.aload_n 0, 1) := by decide +kernel
theorem dX1_init_55 : decode cX1_init 55 = .ok (.sipush 256, 3) := by decide +kernel
theorem dX1_init_58 : decode cX1_init 58 = .ok (.newarray .int, 2) := by decide +kernel
theorem dX1_init_60 : decode cX1_init 60 = .ok (.putfield 28, 3) := by decide +kernel
theorem dX1_init_63 : decode cX1_init 63 = .ok (.iconst 0, 1) := by decide +kernel
theorem dX1_init_64 : decode cX1_init 64 = .ok (.istore_n 1, 1) := by decide +kernel
theorem dX1_init_65 : decode cX1_init 65 = .ok (.iload_n 1, 1) := by decide +kernel
theorem dX1_init_66 : decode cX1_init 66 = .ok (.bipush 32, 2) := by decide +kernel
theorem dX1_init_68 : decode cX1_init 68 = .ok (.if_icmp .ge 25, 3) := by decide +kernel
theorem dX1_init_71 : decode cX1_init 71 = .ok (.aload_n 0, 1) := by decide +kernel
theorem dX1_init_72 : decode cX1_init 72 = .ok (.getfield 13, 3) := by decide +kernel
theorem dX1_init_75 : decode cX1_init 75 = .ok (.iload_n 1, 1) := by decide +kernel
theorem dX1_init_76 : decode cX1_init 76 = .ok (.iconst (-1), 1) := by decide +kernel
theorem dX1_init_77 : decode cX1_init 77 = .ok (.iastore, 1) := by decide +kernel
theorem dX1_init_78 : decode cX1_init 78 = .ok (.aload_n 0, 1) := by decide +kernel
theorem dX1_init_79 : decode cX1_init 79 = .ok (.getfield 16, 3) := by decide +kernel
theorem dX1_init_82 : decode cX1_init 82 = .ok (.iload_n 1, 1) := by decide +kernel
theorem dX1_init_83 : decode cX1_init 83 = .ok (.iconst 1, 1) := by decide +kernel
theorem dX1_init_84 : decode cX1_init 84 = .ok (.iload_n 1, 1) := by decide +kernel
theorem dX1_init_85 : decode cX1_init 85 = .ok (.ishl, 1) := by decide +kernel
theorem dX1_init_86 : decode cX1_init 86 = .ok (.iastore, 1) := by decide +kernel
theorem dX1_init_87 : decode cX1_init 87 = .ok (.iinc 1 1, 3) := by decide +kernel
theorem dX1_init_90 : decode cX1_init 90 = .ok (.goto (-25), 3) := by decide +kernel
theorem dX1_init_93 : decode cX1_init 93 = .ok (.return_, 1) := by decide +kernel
theorem dX1_row_0 : decode cX1_row 0 = .ok (.iload_n 1, 1) := by decide +kernel
theorem dX1_row_1 : decode cX1_row 1 = .ok (.iload_n 2, 1) := by decide +kernel
theorem dX1_row_2 : decode cX1_row 2 = .ok (.iload_n 3, 1) := by decide +kernel
theorem dX1_row_3 : decode cX1_row 3 = .ok (.invokestatic 49, 3) := by decide +kernel
theorem dX1_row_6 : decode cX1_row 6 = .ok (.ifCond .ne 5, 3) := by decide +kernel
theorem dX1_row_9 : decode cX1_row 9 = .ok (.iconst (-1), 1) := by decide +kernel
theorem dX1_row_10 : decode cX1_row 10 = .ok (.ireturn, 1) := by decide +kernel
theorem dX1_row_11 : decode cX1_row 11 = .ok (.bipush 8, 2) := by decide +kernel
theorem dX1_row_13 : decode cX1_row 13 = .ok (.iload_n 1, 1) := by decide +kernel
theorem dX1_row_14 : decode cX1_row 14 = .ok (.imul, 1) := by decide +kernel
theorem dX1_row_15 : decode cX1_row 15 = .ok (.iload_n 2, 1) := by decide +kernel
theorem dX1_row_16 : decode cX1_row 16 = .ok (.iadd, 1) := by decide +kernel
theorem dX1_row_17 : decode cX1_row 17 = .ok (.istore 4, 2) := by decide +kernel
theorem dX1_row_19 : decode cX1_row 19 = .ok (.aload_n 0, 1) := by decide +kernel
theorem dX1_row_20 : decode cX1_row 20 = .ok (.getfield 7, 3) := by decide +kernel
theorem dX1_row_23 : decode cX1_row 23 = .ok (.iload 4, 2) := by decide +kernel
theorem dX1_row_25 : decode cX1_row 25 = .ok (.iaload, 1) := by decide +kernel
theorem dX1_row_26 : decode cX1_row 26 = .ok (.iload_n 3, 1) := by decide +kernel
theorem dX1_row_27 : decode cX1_row 27 = .ok (.ishr, 1) := by decide +kernel
theorem dX1_row_28 : decode cX1_row 28 = .ok (.iconst 1, 1) := by decide +kernel
theorem dX1_row_29 : decode cX1_row 29 = .ok (.iand, 1) := by decide +kernel
theorem dX1_row_30 : decode cX1_row 30 = .ok (.iconst 1, 1) := by decide +kernel
theorem dX1_row_31 : decode cX1_row 31 = .ok (.if_icmp .ne 5, 3) := by decide +kernel
theorem dX1_row_34 : decode cX1_row 34 = .ok (.iconst 0, 1) := by decide +kernel
theorem dX1_row_35 : decode cX1_row 35 = .ok (.ireturn, 1) := by decide +kernel
theorem dX1_row_36 : decode cX1_row 36 = .ok (.aload_n 0, 1) := by decide +kernel
theorem dX1_row_37 : decode cX1_row 37 = .ok (.getfield 53, 3) := by decide +kernel
theorem dX1_row_40 : decode cX1_row 40 = .ok (.sipush 300, 3) := by decide +kernel
theorem dX1_row_43 : decode cX1_row 43 = .ok (.if_icmp .ne 6, 3) := by decide +kernel
theorem dX1_row_46 : decode cX1_row 46 = .ok (.bipush (-2), 2) := by decide +kernel
theorem dX1_row_48 : decode cX1_row 48 = .ok (.ireturn, 1) := by decide +kernel
theorem dX1_row_49 : decode cX1_row 49 = .ok (.aload_n 0, 1) := by decide +kernel
theorem dX1_row_50 : decode cX1_row 50 = .ok (.iload_n 1, 1) := by decide +kernel
theorem dX1_row_51 : decode cX1_row 51 = .ok (.iconst (-1), 1) := by decide +kernel
theorem dX1_row_52 : decode cX1_row 52 = .ok (.invokevirtual 45, 3) := by decide +kernel
theorem dX1_row_55 : decode cX1_row 55 = .ok (.aload_n 0, 1) := by decide +kernel
theorem dX1_row_56 : decode cX1_row 56 = .ok (.getfield 7, 3) := by decide +kernel
theorem dX1_row_59 : decode cX1_row 59 = .ok (.iload 4, 2) := by decide +kernel
theorem dX1_row_61 : decode cX1_row 61 = .ok (.dup2, 1) := by decide +kernel
theorem dX1_row_62 : decode cX1_row 62 = .ok (.iaload, 1) := by decide +kernel
theorem dX1_row_63 : decode cX1_row 63 = .ok (.iconst 1, 1) := by decide +kernel
theorem dX1_row_64 : decode cX1_row 64 = .ok (.iload_n 3, 1) := by decide +kernel
theorem dX1_row_65 : decode cX1_row 65 = .ok (.ishl, 1) := by decide +kernel
theorem dX1_row_66 : decode cX1_row 66 = .ok (.ior, 1) := by decide +kernel
theorem dX1_row_67 : decode cX1_row 67 = .ok (.iastore, 1) := by decide +kernel
theorem dX1_row_68 : decode cX1_row 68 = .ok (.aload_n 0, 1) := by decide +kernel
theorem dX1_row_69 : decode cX1_row 69 = .ok (.dup, 1) := by decide +kernel
theorem dX1_row_70 : decode cX1_row 70 = .ok (.getfield 53, 3) := by decide +kernel
theorem dX1_row_73 : decode cX1_row 73 = .ok (.iconst 1, 1) := by decide +kernel
theorem dX1_row_74 : decode cX1_row 74 = .ok (.iadd, 1) := by decide +kernel
theorem dX1_row_75 : decode cX1_row 75 = .ok (.putfield 53, 3) := by decide +kernel
theorem dX1_row_78 : decode cX1_row 78 = .ok (.aload_n 0, 1) := by decide +kernel
theorem dX1_row_79 : decode cX1_row 79 = .ok (.iload_n 1, 1) := by decide +kernel
theorem dX1_row_80 : decode cX1_row 80 = .ok (.iconst 1, 1) := by decide +kernel
theorem dX1_row_81 : decode cX1_row 81 = .ok (.invokevirtual 45, 3) := by decide +kernel
theorem dX1_row_84 : decode cX1_row 84 = .ok (.iconst 1, 1) := by decide +kernel
theorem dX1_row_85 : decode cX1_row 85 = .ok (.ireturn, 1) := by decide +kernel
theorem dX1_isRow_0 : decode cX1_isRow 0 = .ok (.iload_n 0, 1) := by decide +kernel
theorem dX1_isRow_1 : decode cX1_isRow 1 = .ok (.bipush 40, 2) := by decide +kernel
theorem dX1_isRow_3 : decode cX1_isRow 3 = .ok (.invokestatic 31, 3) := by decide +kernel
theorem dX1_isRow_6 : decode cX1_isRow 6 = .ok (.ifCond .eq 25, 3) := by decide +kernel
theorem dX1_isRow_9 : decode cX1_isRow 9 = .ok (.iload_n 1, 1) := by decide +kernel
theorem dX1_isRow_10 : decode cX1_isRow 10 = .ok (.bipush 8, 2) := by decide +kernel
theorem dX1_isRow_12 : decode cX1_isRow 12 = .ok (.invokestatic 31, 3) := by decide +kernel
theorem dX1_isRow_15 : decode cX1_isRow 15 = .ok (.ifCond .eq 16, 3) := by decide +kernel
theorem dX1_isRow_18 : decode cX1_isRow 18 = .ok (.iload_n 2, 1) := by decide +kernel
theorem dX1_isRow_19 : decode cX1_isRow 19 = .ok (.bipush 32, 2) := by decide +kernel
theorem dX1_isRow_21 : decode cX1_isRow 21 = .ok (.invokestatic 31, 3) := by decide +kernel
theorem dX1_isRow_24 : decode cX1_isRow 24 = .ok (.ifCond .eq 7, 3) := by decide +kernel
theorem dX1_isRow_27 : decode cX1_isRow 27 = .ok (.iconst 1, 1) := by decide +kernel
theorem dX1_isRow_28 : decode cX1_isRow 28 = .ok (.goto 4, 3) := by decide +kernel
theorem dX1_isRow_31 : decode cX1_isRow 31 = .ok (.iconst 0, 1) := by decide +kernel
theorem dX1_isRow_32 : decode cX1_isRow 32 = .ok (.ireturn, 1) := by decide +kernel
theorem dX1_isIn_0 : decode cX1_isIn 0 = .ok (.iload_n 0, 1) := by decide +kernel
theorem dX1_isIn_1 : decode cX1_isIn 1 = .ok (.ifCond .lt 12, 3) := by decide +kernel
theorem dX1_isIn_4 : decode cX1_isIn 4 = .ok (.iload_n 0, 1) := by decide +kernel
theorem dX1_isIn_5 : decode cX1_isIn 5 = .ok (.iload_n 1, 1) := by decide +kernel
theorem dX1_isIn_6 : decode cX1_isIn 6 = .ok (.if_icmp .ge 7, 3) := by decide +kernel
theorem dX1_isIn_9 : decode cX1_isIn 9 = .ok (.iconst 1, 1) := by decide +kernel
theorem dX1_isIn_10 : decode cX1_isIn 10 = .ok (.goto 4, 3) := by decide +kernel
theorem dX1_isIn_13 : decode cX1_isIn 13 = .ok (.iconst 0, 1) := by decide +kernel
theorem dX1_isIn_14 : decode cX1_isIn 14 = .ok (.ireturn, 1) := by decide +kernel
theorem dX1_weigh_0 : decode cX1_weigh 0 = .ok (.iload_n 2, 1) := by decide +kernel
theorem dX1_weigh_1 : decode cX1_weigh 1 = .ok (.ifCond .le 47, 3) := by decide +kernel
theorem dX1_weigh_4 : decode cX1_weigh 4 = .ok (.aload_n 0, 1) := by decide +kernel
theorem dX1_weigh_5 : decode cX1_weigh 5 = .ok (.getfield 22, 3) := by decide +kernel
theorem dX1_weigh_8 : decode cX1_weigh 8 = .ok (.iload_n 1, 1) := by decide +kernel
theorem dX1_weigh_9 : decode cX1_weigh 9 = .ok (.iconst 0, 1) := by decide +kernel
theorem dX1_weigh_10 : decode cX1_weigh 10 = .ok (.iastore, 1) := by decide +kernel
theorem dX1_weigh_11 : decode cX1_weigh 11 = .ok (.iconst 0, 1) := by decide +kernel
theorem dX1_weigh_12 : decode cX1_weigh 12 = .ok (.istore_n 3, 1) := by decide +kernel
theorem dX1_weigh_13 : decode cX1_weigh 13 = .ok (.iload_n 3, 1) := by decide +kernel
theorem dX1_weigh_14 : decode cX1_weigh 14 = .ok (.bipush 8, 2) := by decide +kernel
theorem dX1_weigh_16 : decode cX1_weigh 16 = .ok (.if_icmp .ge 32, 3) := by decide +kernel
theorem dX1_weigh_19 : decode cX1_weigh 19 = .ok (.aload_n 0, 1) := by decide +kernel
theorem dX1_weigh_20 : decode cX1_weigh 20 = .ok (.getfield 22, 3) := by decide +kernel
theorem dX1_weigh_23 : decode cX1_weigh 23 = .ok (.iload_n 1, 1) := by decide +kernel
theorem dX1_weigh_24 : decode cX1_weigh 24 = .ok (.dup2, 1) := by decide +kernel
theorem dX1_weigh_25 : decode cX1_weigh 25 = .ok (.iaload, 1) := by decide +kernel
theorem dX1_weigh_26 : decode cX1_weigh 26 = .ok (.aload_n 0, 1) := by decide +kernel
theorem dX1_weigh_27 : decode cX1_weigh 27 = .ok (.iload_n 1, 1) := by decide +kernel
theorem dX1_weigh_28 : decode cX1_weigh 28 = .ok (.iload_n 3, 1) := by decide +kernel
theorem dX1_weigh_29 : decode cX1_weigh 29 = .ok (.invokevirtual 39, 3) := by decide +kernel
theorem dX1_weigh_32 : decode cX1_weigh 32 = .ok (.ifCond .eq 7, 3) := by decide +kernel
theorem dX1_weigh_35 : decode cX1_weigh 35 = .ok (.iconst 1, 1) := by decide +kernel
theorem dX1_weigh_36 : decode cX1_weigh 36 = .ok (.goto 4, 3) := by decide +kernel
theorem dX1_weigh_39 : decode cX1_weigh 39 = .ok (.iconst 0, 1) := by decide +kernel
theorem dX1_weigh_40 : decode cX1_weigh 40 = .ok (.iadd, 1) := by decide +kernel
theorem dX1_weigh_41 : decode cX1_weigh 41 = .ok (.iastore, 1) := by decide +kernel
theorem dX1_weigh_42 : decode cX1_weigh 42 = .ok (.iinc 3 1, 3) := by decide +kernel
theorem dX1_weigh_45 : decode cX1_weigh 45 = .ok (.goto (-32), 3) := by decide +kernel
theorem dX1_weigh_48 : decode cX1_weigh 48 = .ok (.aload_n 0, 1) := by decide +kernel
theorem dX1_weigh_49 : decode cX1_weigh 49 = .ok (.getfield 22, 3) := by decide +kernel
theorem dX1_weigh_52 : decode cX1_weigh 52 = .ok (.iload_n 1, 1) := by decide +kernel
theorem dX1_weigh_53 : decode cX1_weigh 53 = .ok (.iaload, 1) := by decide +kernel
theorem dX1_weigh_54 : decode cX1_weigh 54 = .ok (.iconst 1, 1) := by decide +kernel
theorem dX1_weigh_55 : decode cX1_weigh 55 = .ok (.if_icmp .le 4, 3) := by decide +kernel
theorem dX1_weigh_58 : decode cX1_weigh 58 = .ok (.return_, 1) := by decide +kernel
theorem dX1_weigh_59 : decode cX1_weigh 59 = .ok (.iconst 0, 1) := by decide +kernel
theorem dX1_weigh_60 : decode cX1_weigh 60 = .ok (.istore_n 3, 1) := by decide +kernel
theorem dX1_weigh_61 : decode cX1_weigh 61 = .ok (.iload_n 3, 1) := by decide +kernel
theorem dX1_weigh_62 : decode cX1_weigh 62 = .ok (.bipush 8, 2) := by decide +kernel
theorem dX1_weigh_64 : decode cX1_weigh 64 = .ok (.if_icmp .ge 70, 3) := by decide +kernel
theorem dX1_weigh_67 : decode cX1_weigh 67 = .ok (.aload_n 0, 1) := by decide +kernel
theorem dX1_weigh_68 : decode cX1_weigh 68 = .ok (.iload_n 1, 1) := by decide +kernel
theorem dX1_weigh_69 : decode cX1_weigh 69 = .ok (.iload_n 3, 1) := by decide +kernel
theorem dX1_weigh_70 : decode cX1_weigh 70 = .ok (.invokevirtual 42, 3) := by decide +kernel
theorem dX1_weigh_73 : decode cX1_weigh 73 = .ok (.ifCond .eq 12, 3) := by decide +kernel
theorem dX1_weigh_76 : decode cX1_weigh 76 = .ok (.aload_n 0, 1) := by decide +kernel
theorem dX1_weigh_77 : decode cX1_weigh 77 = .ok (.iload_n 1, 1) := by decide +kernel
theorem dX1_weigh_78 : decode cX1_weigh 78 = .ok (.iload_n 3, 1) := by decide +kernel
theorem dX1_weigh_79 : decode cX1_weigh 79 = .ok (.invokevirtual 35, 3) := by decide +kernel
theorem dX1_weigh_82 : decode cX1_weigh 82 = .ok (.goto 4, 3) := by decide +kernel
theorem dX1_weigh_85 : decode cX1_weigh 85 = .ok (.iconst 0, 1) := by decide +kernel
theorem dX1_weigh_86 : decode cX1_weigh 86 = .ok (.istore 4, 2) := by decide +kernel
theorem dX1_weigh_88 : decode cX1_weigh 88 = .ok (.iconst 0, 1) := by decide +kernel
theorem dX1_weigh_89 : decode cX1_weigh 89 = .ok (.istore 5, 2) := by decide +kernel
theorem dX1_weigh_91 : decode cX1_weigh 91 = .ok (.iload 5, 2) := by decide +kernel
theorem dX1_weigh_93 : decode cX1_weigh 93 = .ok (.bipush 32, 2) := by decide +kernel
theorem dX1_weigh_95 : decode cX1_weigh 95 = .ok (.if_icmp .ge 33, 3) := by decide +kernel
theorem dX1_weigh_98 : decode cX1_weigh 98 = .ok (.aload_n 0, 1) := by decide +kernel
theorem dX1_weigh_99 : decode cX1_weigh 99 = .ok (.getfield 25, 3) := by decide +kernel
theorem dX1_weigh_102 : decode cX1_weigh 102 = .ok (.bipush 32, 2) := by decide +kernel
theorem dX1_weigh_104 : decode cX1_weigh 104 = .ok (.iload_n 3, 1) := by decide +kernel
theorem dX1_weigh_105 : decode cX1_weigh 105 = .ok (.imul, 1) := by decide +kernel
theorem dX1_weigh_106 : decode cX1_weigh 106 = .ok (.iload 5, 2) := by decide +kernel
theorem dX1_weigh_108 : decode cX1_weigh 108 = .ok (.iadd, 1) := by decide +kernel
theorem dX1_weigh_109 : decode cX1_weigh 109 = .ok (.dup2, 1) := by decide +kernel
theorem dX1_weigh_110 : decode cX1_weigh 110 = .ok (.iaload, 1) := by decide +kernel
theorem dX1_weigh_111 : decode cX1_weigh 111 = .ok (.iload 4, 2) := by decide +kernel
theorem dX1_weigh_113 : decode cX1_weigh 113 = .ok (.iload 5, 2) := by decide +kernel
theorem dX1_weigh_115 : decode cX1_weigh 115 = .ok (.ishr, 1) := by decide +kernel
theorem dX1_weigh_116 : decode cX1_weigh 116 = .ok (.iconst 1, 1) := by decide +kernel
theorem dX1_weigh_117 : decode cX1_weigh 117 = .ok (.iand, 1) := by decide +kernel
theorem dX1_weigh_118 : decode cX1_weigh 118 = .ok (.iload_n 2, 1) := by decide +kernel
theorem dX1_weigh_119 : decode cX1_weigh 119 = .ok (.imul, 1) := by decide +kernel
theorem dX1_weigh_120 : decode cX1_weigh 120 = .ok (.iadd, 1) := by decide +kernel
theorem dX1_weigh_121 : decode cX1_weigh 121 = .ok (.iastore, 1) := by decide +kernel
theorem dX1_weigh_122 : decode cX1_weigh 122 = .ok (.iinc 5 1, 3) := by decide +kernel
theorem dX1_weigh_125 : decode cX1_weigh 125 = .ok (.goto (-34), 3) := by decide +kernel
theorem dX1_weigh_128 : decode cX1_weigh 128 = .ok (.iinc 3 1, 3) := by decide +kernel
theorem dX1_weigh_131 : decode cX1_weigh 131 = .ok (.goto (-70), 3) := by decide +kernel
theorem dX1_weigh_134 : decode cX1_weigh 134 = .ok (.return_, 1) := by decide +kernel
theorem dX1_failsAt_0 : decode cX1_failsAt 0 = .ok (.aload_n 0, 1) := by decide +kernel
theorem dX1_failsAt_1 : decode cX1_failsAt 1 = .ok (.getfield 19, 3) := by decide +kernel
theorem dX1_failsAt_4 : decode cX1_failsAt 4 = .ok (.iload_n 2, 1) := by decide +kernel
theorem dX1_failsAt_5 : decode cX1_failsAt 5 = .ok (.iaload, 1) := by decide +kernel
theorem dX1_failsAt_6 : decode cX1_failsAt 6 = .ok (.ifCond .eq 23, 3) := by decide +kernel
theorem dX1_failsAt_9 : decode cX1_failsAt 9 = .ok (.aload_n 0, 1) := by decide +kernel
theorem dX1_failsAt_10 : decode cX1_failsAt 10 = .ok (.iload_n 1, 1) := by decide +kernel
theorem dX1_failsAt_11 : decode cX1_failsAt 11 = .ok (.iload_n 2, 1) := by decide +kernel
theorem dX1_failsAt_12 : decode cX1_failsAt 12 = .ok (.invokevirtual 35, 3) := by decide +kernel
theorem dX1_failsAt_15 : decode cX1_failsAt 15 = .ok (.aload_n 0, 1) := by decide +kernel
theorem dX1_failsAt_16 : decode cX1_failsAt 16 = .ok (.getfield 19, 3) := by decide +kernel
theorem dX1_failsAt_19 : decode cX1_failsAt 19 = .ok (.iload_n 2, 1) := by decide +kernel
theorem dX1_failsAt_20 : decode cX1_failsAt 20 = .ok (.iaload, 1) := by decide +kernel
theorem dX1_failsAt_21 : decode cX1_failsAt 21 = .ok (.iand, 1) := by decide +kernel
theorem dX1_failsAt_22 : decode cX1_failsAt 22 = .ok (.ifCond .ne 7, 3) := by decide +kernel
theorem dX1_failsAt_25 : decode cX1_failsAt 25 = .ok (.iconst 1, 1) := by decide +kernel
theorem dX1_failsAt_26 : decode cX1_failsAt 26 = .ok (.goto 4, 3) := by decide +kernel
theorem dX1_failsAt_29 : decode cX1_failsAt 29 = .ok (.iconst 0, 1) := by decide +kernel
theorem dX1_failsAt_30 : decode cX1_failsAt 30 = .ok (.ireturn, 1) := by decide +kernel
theorem dX1_has_0 : decode cX1_has 0 = .ok (.aload_n 0, 1) := by decide +kernel
theorem dX1_has_1 : decode cX1_has 1 = .ok (.getfield 7, 3) := by decide +kernel
theorem dX1_has_4 : decode cX1_has 4 = .ok (.bipush 8, 2) := by decide +kernel
theorem dX1_has_6 : decode cX1_has 6 = .ok (.iload_n 1, 1) := by decide +kernel
theorem dX1_has_7 : decode cX1_has 7 = .ok (.imul, 1) := by decide +kernel
theorem dX1_has_8 : decode cX1_has 8 = .ok (.iload_n 2, 1) := by decide +kernel
theorem dX1_has_9 : decode cX1_has 9 = .ok (.iadd, 1) := by decide +kernel
theorem dX1_has_10 : decode cX1_has 10 = .ok (.iaload, 1) := by decide +kernel
theorem dX1_has_11 : decode cX1_has 11 = .ok (.istore_n 3, 1) := by decide +kernel
theorem dX1_has_12 : decode cX1_has 12 = .ok (.iload_n 2, 1) := by decide +kernel
theorem dX1_has_13 : decode cX1_has 13 = .ok (.ifCond .le 5, 3) := by decide +kernel
theorem dX1_has_16 : decode cX1_has 16 = .ok (.iload_n 3, 1) := by decide +kernel
theorem dX1_has_17 : decode cX1_has 17 = .ok (.ireturn, 1) := by decide +kernel
theorem dX1_has_18 : decode cX1_has 18 = .ok (.iconst 0, 1) := by decide +kernel
theorem dX1_has_19 : decode cX1_has 19 = .ok (.istore 4, 2) := by decide +kernel
theorem dX1_has_21 : decode cX1_has 21 = .ok (.iconst 0, 1) := by decide +kernel
theorem dX1_has_22 : decode cX1_has 22 = .ok (.istore 5, 2) := by decide +kernel
theorem dX1_has_24 : decode cX1_has 24 = .ok (.iload 5, 2) := by decide +kernel
theorem dX1_has_26 : decode cX1_has 26 = .ok (.bipush 32, 2) := by decide +kernel
theorem dX1_has_28 : decode cX1_has 28 = .ok (.if_icmp .ge 31, 3) := by decide +kernel
theorem dX1_has_31 : decode cX1_has 31 = .ok (.iload_n 3, 1) := by decide +kernel
theorem dX1_has_32 : decode cX1_has 32 = .ok (.iload 5, 2) := by decide +kernel
theorem dX1_has_34 : decode cX1_has 34 = .ok (.ishr, 1) := by decide +kernel
theorem dX1_has_35 : decode cX1_has 35 = .ok (.iconst 1, 1) := by decide +kernel
theorem dX1_has_36 : decode cX1_has 36 = .ok (.iand, 1) := by decide +kernel
theorem dX1_has_37 : decode cX1_has 37 = .ok (.iconst 1, 1) := by decide +kernel
theorem dX1_has_38 : decode cX1_has 38 = .ok (.if_icmp .ne 15, 3) := by decide +kernel
theorem dX1_has_41 : decode cX1_has 41 = .ok (.iload 4, 2) := by decide +kernel
theorem dX1_has_43 : decode cX1_has 43 = .ok (.aload_n 0, 1) := by decide +kernel
theorem dX1_has_44 : decode cX1_has 44 = .ok (.getfield 16, 3) := by decide +kernel
theorem dX1_has_47 : decode cX1_has 47 = .ok (.iload 5, 2) := by decide +kernel
theorem dX1_has_49 : decode cX1_has 49 = .ok (.iaload, 1) := by decide +kernel
theorem dX1_has_50 : decode cX1_has 50 = .ok (.ior, 1) := by decide +kernel
theorem dX1_has_51 : decode cX1_has 51 = .ok (.istore 4, 2) := by decide +kernel
theorem dX1_has_53 : decode cX1_has 53 = .ok (.iinc 5 1, 3) := by decide +kernel
theorem dX1_has_56 : decode cX1_has 56 = .ok (.goto (-32), 3) := by decide +kernel
theorem dX1_has_59 : decode cX1_has 59 = .ok (.iload 4, 2) := by decide +kernel
theorem dX1_has_61 : decode cX1_has 61 = .ok (.ireturn, 1) := by decide +kernel
theorem dX1_isKeptBut_0 : decode cX1_isKeptBut 0 = .ok (.aload_n 0, 1) := by decide +kernel
theorem dX1_isKeptBut_1 : decode cX1_isKeptBut 1 = .ok (.getfield 22, 3) := by decide +kernel
theorem dX1_isKeptBut_4 : decode cX1_isKeptBut 4 = .ok (.iload_n 1, 1) := by decide +kernel
theorem dX1_isKeptBut_5 : decode cX1_isKeptBut 5 = .ok (.iaload, 1) := by decide +kernel
theorem dX1_isKeptBut_6 : decode cX1_isKeptBut 6 = .ok (.aload_n 0, 1) := by decide +kernel
theorem dX1_isKeptBut_7 : decode cX1_isKeptBut 7 = .ok (.iload_n 1, 1) := by decide +kernel
theorem dX1_isKeptBut_8 : decode cX1_isKeptBut 8 = .ok (.iload_n 2, 1) := by decide +kernel
theorem dX1_isKeptBut_9 : decode cX1_isKeptBut 9 = .ok (.invokevirtual 39, 3) := by decide +kernel
theorem dX1_isKeptBut_12 : decode cX1_isKeptBut 12 = .ok (.ifCond .eq 7, 3) := by decide +kernel
theorem dX1_isKeptBut_15 : decode cX1_isKeptBut 15 = .ok (.iconst 1, 1) := by decide +kernel
theorem dX1_isKeptBut_16 : decode cX1_isKeptBut 16 = .ok (.goto 4, 3) := by decide +kernel
theorem dX1_isKeptBut_19 : decode cX1_isKeptBut 19 = .ok (.iconst 0, 1) := by decide +kernel
theorem dX1_isKeptBut_20 : decode cX1_isKeptBut 20 = .ok (.isub, 1) := by decide +kernel
theorem dX1_isKeptBut_21 : decode cX1_isKeptBut 21 = .ok (.ifCond .ne 7, 3) := by decide +kernel
theorem dX1_isKeptBut_24 : decode cX1_isKeptBut 24 = .ok (.iconst 1, 1) := by decide +kernel
theorem dX1_isKeptBut_25 : decode cX1_isKeptBut 25 = .ok (.goto 4, 3) := by decide +kernel
theorem dX1_isKeptBut_28 : decode cX1_isKeptBut 28 = .ok (.iconst 0, 1) := by decide +kernel
theorem dX1_isKeptBut_29 : decode cX1_isKeptBut 29 = .ok (.ireturn, 1) := by decide +kernel
theorem dX1_drop_0 : decode cX1_drop 0 = .ok (.iload_n 1, 1) := by decide +kernel
theorem dX1_drop_1 : decode cX1_drop 1 = .ok (.iload_n 2, 1) := by decide +kernel
theorem dX1_drop_2 : decode cX1_drop 2 = .ok (.iload_n 3, 1) := by decide +kernel
theorem dX1_drop_3 : decode cX1_drop 3 = .ok (.invokestatic 49, 3) := by decide +kernel
theorem dX1_drop_6 : decode cX1_drop 6 = .ok (.ifCond .ne 5, 3) := by decide +kernel
theorem dX1_drop_9 : decode cX1_drop 9 = .ok (.iconst (-1), 1) := by decide +kernel
theorem dX1_drop_10 : decode cX1_drop 10 = .ok (.ireturn, 1) := by decide +kernel
theorem dX1_drop_11 : decode cX1_drop 11 = .ok (.bipush 8, 2) := by decide +kernel
theorem dX1_drop_13 : decode cX1_drop 13 = .ok (.iload_n 1, 1) := by decide +kernel
theorem dX1_drop_14 : decode cX1_drop 14 = .ok (.imul, 1) := by decide +kernel
theorem dX1_drop_15 : decode cX1_drop 15 = .ok (.iload_n 2, 1) := by decide +kernel
theorem dX1_drop_16 : decode cX1_drop 16 = .ok (.iadd, 1) := by decide +kernel
theorem dX1_drop_17 : decode cX1_drop 17 = .ok (.istore 4, 2) := by decide +kernel
theorem dX1_drop_19 : decode cX1_drop 19 = .ok (.aload_n 0, 1) := by decide +kernel
theorem dX1_drop_20 : decode cX1_drop 20 = .ok (.getfield 7, 3) := by decide +kernel
theorem dX1_drop_23 : decode cX1_drop 23 = .ok (.iload 4, 2) := by decide +kernel
theorem dX1_drop_25 : decode cX1_drop 25 = .ok (.iaload, 1) := by decide +kernel
theorem dX1_drop_26 : decode cX1_drop 26 = .ok (.iload_n 3, 1) := by decide +kernel
theorem dX1_drop_27 : decode cX1_drop 27 = .ok (.ishr, 1) := by decide +kernel
theorem dX1_drop_28 : decode cX1_drop 28 = .ok (.iconst 1, 1) := by decide +kernel
theorem dX1_drop_29 : decode cX1_drop 29 = .ok (.iand, 1) := by decide +kernel
theorem dX1_drop_30 : decode cX1_drop 30 = .ok (.ifCond .ne 5, 3) := by decide +kernel
theorem dX1_drop_33 : decode cX1_drop 33 = .ok (.iconst 0, 1) := by decide +kernel
theorem dX1_drop_34 : decode cX1_drop 34 = .ok (.ireturn, 1) := by decide +kernel
theorem dX1_drop_35 : decode cX1_drop 35 = .ok (.aload_n 0, 1) := by decide +kernel
theorem dX1_drop_36 : decode cX1_drop 36 = .ok (.iload_n 1, 1) := by decide +kernel
theorem dX1_drop_37 : decode cX1_drop 37 = .ok (.iconst (-1), 1) := by decide +kernel
theorem dX1_drop_38 : decode cX1_drop 38 = .ok (.invokevirtual 45, 3) := by decide +kernel
theorem dX1_drop_41 : decode cX1_drop 41 = .ok (.aload_n 0, 1) := by decide +kernel
theorem dX1_drop_42 : decode cX1_drop 42 = .ok (.getfield 7, 3) := by decide +kernel
theorem dX1_drop_45 : decode cX1_drop 45 = .ok (.iload 4, 2) := by decide +kernel
theorem dX1_drop_47 : decode cX1_drop 47 = .ok (.dup2, 1) := by decide +kernel
theorem dX1_drop_48 : decode cX1_drop 48 = .ok (.iaload, 1) := by decide +kernel
theorem dX1_drop_49 : decode cX1_drop 49 = .ok (.iconst 1, 1) := by decide +kernel
theorem dX1_drop_50 : decode cX1_drop 50 = .ok (.iload_n 3, 1) := by decide +kernel
theorem dX1_drop_51 : decode cX1_drop 51 = .ok (.ishl, 1) := by decide +kernel
theorem dX1_drop_52 : decode cX1_drop 52 = .ok (.iconst (-1), 1) := by decide +kernel
theorem dX1_drop_53 : decode cX1_drop 53 = .ok (.ixor, 1) := by decide +kernel
theorem dX1_drop_54 : decode cX1_drop 54 = .ok (.iand, 1) := by decide +kernel
theorem dX1_drop_55 : decode cX1_drop 55 = .ok (.iastore, 1) := by decide +kernel
theorem dX1_drop_56 : decode cX1_drop 56 = .ok (.aload_n 0, 1) := by decide +kernel
theorem dX1_drop_57 : decode cX1_drop 57 = .ok (.dup, 1) := by decide +kernel
theorem dX1_drop_58 : decode cX1_drop 58 = .ok (.getfield 53, 3) := by decide +kernel
theorem dX1_drop_61 : decode cX1_drop 61 = .ok (.iconst 1, 1) := by decide +kernel
theorem dX1_drop_62 : decode cX1_drop 62 = .ok (.isub, 1) := by decide +kernel
theorem dX1_drop_63 : decode cX1_drop 63 = .ok (.putfield 53, 3) := by decide +kernel
theorem dX1_drop_66 : decode cX1_drop 66 = .ok (.aload_n 0, 1) := by decide +kernel
theorem dX1_drop_67 : decode cX1_drop 67 = .ok (.iload_n 1, 1) := by decide +kernel
theorem dX1_drop_68 : decode cX1_drop 68 = .ok (.iconst 1, 1) := by decide +kernel
theorem dX1_drop_69 : decode cX1_drop 69 = .ok (.invokevirtual 45, 3) := by decide +kernel
theorem dX1_drop_72 : decode cX1_drop 72 = .ok (.iconst 1, 1) := by decide +kernel
theorem dX1_drop_73 : decode cX1_drop 73 = .ok (.ireturn, 1) := by decide +kernel
theorem dX1_above_0 : decode cX1_above 0 = .ok (.iload_n 1, 1) := by decide +kernel
theorem dX1_above_1 : decode cX1_above 1 = .ok (.bipush 32, 2) := by decide +kernel
theorem dX1_above_3 : decode cX1_above 3 = .ok (.invokestatic 31, 3) := by decide +kernel
theorem dX1_above_6 : decode cX1_above 6 = .ok (.ifCond .eq 17, 3) := by decide +kernel
theorem dX1_above_9 : decode cX1_above 9 = .ok (.iload_n 2, 1) := by decide +kernel
theorem dX1_above_10 : decode cX1_above 10 = .ok (.iconst (-1), 1) := by decide +kernel
theorem dX1_above_11 : decode cX1_above 11 = .ok (.if_icmp .eq 14, 3) := by decide +kernel
theorem dX1_above_14 : decode cX1_above 14 = .ok (.iload_n 2, 1) := by decide +kernel
theorem dX1_above_15 : decode cX1_above 15 = .ok (.bipush 32, 2) := by decide +kernel
theorem dX1_above_17 : decode cX1_above 17 = .ok (.invokestatic 31, 3) := by decide +kernel
theorem dX1_above_20 : decode cX1_above 20 = .ok (.ifCond .ne 5, 3) := by decide +kernel
theorem dX1_above_23 : decode cX1_above 23 = .ok (.iconst (-1), 1) := by decide +kernel
theorem dX1_above_24 : decode cX1_above 24 = .ok (.ireturn, 1) := by decide +kernel
theorem dX1_above_25 : decode cX1_above 25 = .ok (.iload_n 2, 1) := by decide +kernel
theorem dX1_above_26 : decode cX1_above 26 = .ok (.iconst (-1), 1) := by decide +kernel
theorem dX1_above_27 : decode cX1_above 27 = .ok (.if_icmp .eq 20, 3) := by decide +kernel
theorem dX1_above_30 : decode cX1_above 30 = .ok (.aload_n 0, 1) := by decide +kernel
theorem dX1_above_31 : decode cX1_above 31 = .ok (.getfield 16, 3) := by decide +kernel
theorem dX1_above_34 : decode cX1_above 34 = .ok (.iload_n 2, 1) := by decide +kernel
theorem dX1_above_35 : decode cX1_above 35 = .ok (.iaload, 1) := by decide +kernel
theorem dX1_above_36 : decode cX1_above 36 = .ok (.iload_n 1, 1) := by decide +kernel
theorem dX1_above_37 : decode cX1_above 37 = .ok (.ishr, 1) := by decide +kernel
theorem dX1_above_38 : decode cX1_above 38 = .ok (.iconst 1, 1) := by decide +kernel
theorem dX1_above_39 : decode cX1_above 39 = .ok (.iand, 1) := by decide +kernel
theorem dX1_above_40 : decode cX1_above 40 = .ok (.iconst 1, 1) := by decide +kernel
theorem dX1_above_41 : decode cX1_above 41 = .ok (.if_icmp .ne 6, 3) := by decide +kernel
theorem dX1_above_44 : decode cX1_above 44 = .ok (.bipush (-3), 2) := by decide +kernel
theorem dX1_above_46 : decode cX1_above 46 = .ok (.ireturn, 1) := by decide +kernel
theorem dX1_above_47 : decode cX1_above 47 = .ok (.aload_n 0, 1) := by decide +kernel
theorem dX1_above_48 : decode cX1_above 48 = .ok (.getfield 13, 3) := by decide +kernel
theorem dX1_above_51 : decode cX1_above 51 = .ok (.iload_n 1, 1) := by decide +kernel
theorem dX1_above_52 : decode cX1_above 52 = .ok (.iaload, 1) := by decide +kernel
theorem dX1_above_53 : decode cX1_above 53 = .ok (.iload_n 2, 1) := by decide +kernel
theorem dX1_above_54 : decode cX1_above 54 = .ok (.if_icmp .ne 5, 3) := by decide +kernel
theorem dX1_above_57 : decode cX1_above 57 = .ok (.iconst 0, 1) := by decide +kernel
theorem dX1_above_58 : decode cX1_above 58 = .ok (.ireturn, 1) := by decide +kernel
theorem dX1_above_59 : decode cX1_above 59 = .ok (.aload_n 0, 1) := by decide +kernel
theorem dX1_above_60 : decode cX1_above 60 = .ok (.iconst (-1), 1) := by decide +kernel
theorem dX1_above_61 : decode cX1_above 61 = .ok (.invokevirtual 57, 3) := by decide +kernel
theorem dX1_above_64 : decode cX1_above 64 = .ok (.aload_n 0, 1) := by decide +kernel
theorem dX1_above_65 : decode cX1_above 65 = .ok (.getfield 13, 3) := by decide +kernel
theorem dX1_above_68 : decode cX1_above 68 = .ok (.iload_n 1, 1) := by decide +kernel
theorem dX1_above_69 : decode cX1_above 69 = .ok (.iload_n 2, 1) := by decide +kernel
theorem dX1_above_70 : decode cX1_above 70 = .ok (.iastore, 1) := by decide +kernel
theorem dX1_above_71 : decode cX1_above 71 = .ok (.iconst 0, 1) := by decide +kernel
theorem dX1_above_72 : decode cX1_above 72 = .ok (.istore_n 3, 1) := by decide +kernel
theorem dX1_above_73 : decode cX1_above 73 = .ok (.iload_n 3, 1) := by decide +kernel
theorem dX1_above_74 : decode cX1_above 74 = .ok (.bipush 32, 2) := by decide +kernel
theorem dX1_above_76 : decode cX1_above 76 = .ok (.if_icmp .ge 50, 3) := by decide +kernel
theorem dX1_above_79 : decode cX1_above 79 = .ok (.aload_n 0, 1) := by decide +kernel
theorem dX1_above_80 : decode cX1_above 80 = .ok (.getfield 16, 3) := by decide +kernel
theorem dX1_above_83 : decode cX1_above 83 = .ok (.iload_n 3, 1) := by decide +kernel
theorem dX1_above_84 : decode cX1_above 84 = .ok (.iconst 0, 1) := by decide +kernel
theorem dX1_above_85 : decode cX1_above 85 = .ok (.iastore, 1) := by decide +kernel
theorem dX1_above_86 : decode cX1_above 86 = .ok (.iload_n 3, 1) := by decide +kernel
theorem dX1_above_87 : decode cX1_above 87 = .ok (.istore 4, 2) := by decide +kernel
theorem dX1_above_89 : decode cX1_above 89 = .ok (.iload 4, 2) := by decide +kernel
theorem dX1_above_91 : decode cX1_above 91 = .ok (.iconst (-1), 1) := by decide +kernel
theorem dX1_above_92 : decode cX1_above 92 = .ok (.if_icmp .eq 28, 3) := by decide +kernel
theorem dX1_above_95 : decode cX1_above 95 = .ok (.aload_n 0, 1) := by decide +kernel
theorem dX1_above_96 : decode cX1_above 96 = .ok (.getfield 16, 3) := by decide +kernel
theorem dX1_above_99 : decode cX1_above 99 = .ok (.iload_n 3, 1) := by decide +kernel
theorem dX1_above_100 : decode cX1_above 100 = .ok (.dup2, 1) := by decide +kernel
theorem dX1_above_101 : decode cX1_above 101 = .ok (.iaload, 1) := by decide +kernel
theorem dX1_above_102 : decode cX1_above 102 = .ok (.iconst 1, 1) := by decide +kernel
theorem dX1_above_103 : decode cX1_above 103 = .ok (.iload 4, 2) := by decide +kernel
theorem dX1_above_105 : decode cX1_above 105 = .ok (.ishl, 1) := by decide +kernel
theorem dX1_above_106 : decode cX1_above 106 = .ok (.ior, 1) := by decide +kernel
theorem dX1_above_107 : decode cX1_above 107 = .ok (.iastore, 1) := by decide +kernel
theorem dX1_above_108 : decode cX1_above 108 = .ok (.aload_n 0, 1) := by decide +kernel
theorem dX1_above_109 : decode cX1_above 109 = .ok (.getfield 13, 3) := by decide +kernel
theorem dX1_above_112 : decode cX1_above 112 = .ok (.iload 4, 2) := by decide +kernel
theorem dX1_above_114 : decode cX1_above 114 = .ok (.iaload, 1) := by decide +kernel
theorem dX1_above_115 : decode cX1_above 115 = .ok (.istore 4, 2) := by decide +kernel
theorem dX1_above_117 : decode cX1_above 117 = .ok (.goto (-28), 3) := by decide +kernel
theorem dX1_above_120 : decode cX1_above 120 = .ok (.iinc 3 1, 3) := by decide +kernel
theorem dX1_above_123 : decode cX1_above 123 = .ok (.goto (-50), 3) := by decide +kernel
theorem dX1_above_126 : decode cX1_above 126 = .ok (.aload_n 0, 1) := by decide +kernel
theorem dX1_above_127 : decode cX1_above 127 = .ok (.iconst 1, 1) := by decide +kernel
theorem dX1_above_128 : decode cX1_above 128 = .ok (.invokevirtual 57, 3) := by decide +kernel
end
section
set_option maxRecDepth 100000
theorem dX1_above_131 : decode cX1_above 131 = .ok (.iconst 1, 1) := by decide +kernel
theorem dX1_above_132 : decode cX1_above 132 = .ok (.ireturn, 1) := by decide +kernel
theorem dX1_weighAll_0 : decode cX1_weighAll 0 = .ok (.iconst 0, 1) := by decide +kernel
theorem dX1_weighAll_1 : decode cX1_weighAll 1 = .ok (.istore_n 2, 1) := by decide +kernel
theorem dX1_weighAll_2 : decode cX1_weighAll 2 = .ok (.iload_n 2, 1) := by decide +kernel
theorem dX1_weighAll_3 : decode cX1_weighAll 3 = .ok (.bipush 40, 2) := by decide +kernel
theorem dX1_weighAll_5 : decode cX1_weighAll 5 = .ok (.if_icmp .ge 15, 3) := by decide +kernel
theorem dX1_weighAll_8 : decode cX1_weighAll 8 = .ok (.aload_n 0, 1) := by decide +kernel
theorem dX1_weighAll_9 : decode cX1_weighAll 9 = .ok (.iload_n 2, 1) := by decide +kernel
theorem dX1_weighAll_10 : decode cX1_weighAll 10 = .ok (.iload_n 1, 1) := by decide +kernel
theorem dX1_weighAll_11 : decode cX1_weighAll 11 = .ok (.invokevirtual 45, 3) := by decide +kernel
theorem dX1_weighAll_14 : decode cX1_weighAll 14 = .ok (.iinc 2 1, 3) := by decide +kernel
theorem dX1_weighAll_17 : decode cX1_weighAll 17 = .ok (.goto (-15), 3) := by decide +kernel
theorem dX1_weighAll_20 : decode cX1_weighAll 20 = .ok (.return_, 1) := by decide +kernel
theorem dX1_choose_0 : decode cX1_choose 0 = .ok (.iload_n 1, 1) := by decide +kernel
theorem dX1_choose_1 : decode cX1_choose 1 = .ok (.bipush 8, 2) := by decide +kernel
theorem dX1_choose_3 : decode cX1_choose 3 = .ok (.invokestatic 31, 3) := by decide +kernel
theorem dX1_choose_6 : decode cX1_choose 6 = .ok (.ifCond .eq 12, 3) := by decide +kernel
theorem dX1_choose_9 : decode cX1_choose 9 = .ok (.iload_n 2, 1) := by decide +kernel
theorem dX1_choose_10 : decode cX1_choose 10 = .ok (.bipush 32, 2) := by decide +kernel
theorem dX1_choose_12 : decode cX1_choose 12 = .ok (.invokestatic 31, 3) := by decide +kernel
theorem dX1_choose_15 : decode cX1_choose 15 = .ok (.ifCond .ne 5, 3) := by decide +kernel
theorem dX1_choose_18 : decode cX1_choose 18 = .ok (.iconst (-1), 1) := by decide +kernel
theorem dX1_choose_19 : decode cX1_choose 19 = .ok (.ireturn, 1) := by decide +kernel
theorem dX1_choose_20 : decode cX1_choose 20 = .ok (.aload_n 0, 1) := by decide +kernel
theorem dX1_choose_21 : decode cX1_choose 21 = .ok (.iconst (-1), 1) := by decide +kernel
theorem dX1_choose_22 : decode cX1_choose 22 = .ok (.invokevirtual 57, 3) := by decide +kernel
theorem dX1_choose_25 : decode cX1_choose 25 = .ok (.iload_n 3, 1) := by decide +kernel
theorem dX1_choose_26 : decode cX1_choose 26 = .ok (.ifCond .eq 18, 3) := by decide +kernel
theorem dX1_choose_29 : decode cX1_choose 29 = .ok (.aload_n 0, 1) := by decide +kernel
theorem dX1_choose_30 : decode cX1_choose 30 = .ok (.getfield 19, 3) := by decide +kernel
theorem dX1_choose_33 : decode cX1_choose 33 = .ok (.iload_n 1, 1) := by decide +kernel
theorem dX1_choose_34 : decode cX1_choose 34 = .ok (.dup2, 1) := by decide +kernel
theorem dX1_choose_35 : decode cX1_choose 35 = .ok (.iaload, 1) := by decide +kernel
theorem dX1_choose_36 : decode cX1_choose 36 = .ok (.iconst 1, 1) := by decide +kernel
theorem dX1_choose_37 : decode cX1_choose 37 = .ok (.iload_n 2, 1) := by decide +kernel
theorem dX1_choose_38 : decode cX1_choose 38 = .ok (.ishl, 1) := by decide +kernel
theorem dX1_choose_39 : decode cX1_choose 39 = .ok (.ior, 1) := by decide +kernel
theorem dX1_choose_40 : decode cX1_choose 40 = .ok (.iastore, 1) := by decide +kernel
theorem dX1_choose_41 : decode cX1_choose 41 = .ok (.goto 17, 3) := by decide +kernel
theorem dX1_choose_44 : decode cX1_choose 44 = .ok (.aload_n 0, 1) := by decide +kernel
theorem dX1_choose_45 : decode cX1_choose 45 = .ok (.getfield 19, 3) := by decide +kernel
theorem dX1_choose_48 : decode cX1_choose 48 = .ok (.iload_n 1, 1) := by decide +kernel
theorem dX1_choose_49 : decode cX1_choose 49 = .ok (.dup2, 1) := by decide +kernel
theorem dX1_choose_50 : decode cX1_choose 50 = .ok (.iaload, 1) := by decide +kernel
theorem dX1_choose_51 : decode cX1_choose 51 = .ok (.iconst 1, 1) := by decide +kernel
theorem dX1_choose_52 : decode cX1_choose 52 = .ok (.iload_n 2, 1) := by decide +kernel
theorem dX1_choose_53 : decode cX1_choose 53 = .ok (.ishl, 1) := by decide +kernel
theorem dX1_choose_54 : decode cX1_choose 54 = .ok (.iconst (-1), 1) := by decide +kernel
theorem dX1_choose_55 : decode cX1_choose 55 = .ok (.ixor, 1) := by decide +kernel
theorem dX1_choose_56 : decode cX1_choose 56 = .ok (.iand, 1) := by decide +kernel
theorem dX1_choose_57 : decode cX1_choose 57 = .ok (.iastore, 1) := by decide +kernel
theorem dX1_choose_58 : decode cX1_choose 58 = .ok (.aload_n 0, 1) := by decide +kernel
theorem dX1_choose_59 : decode cX1_choose 59 = .ok (.iconst 1, 1) := by decide +kernel
theorem dX1_choose_60 : decode cX1_choose 60 = .ok (.invokevirtual 57, 3) := by decide +kernel
theorem dX1_choose_63 : decode cX1_choose 63 = .ok (.aload_n 0, 1) := by decide +kernel
theorem dX1_choose_64 : decode cX1_choose 64 = .ok (.invokevirtual 61, 3) := by decide +kernel
theorem dX1_choose_67 : decode cX1_choose 67 = .ok (.ireturn, 1) := by decide +kernel
theorem dX1_kept_0 : decode cX1_kept 0 = .ok (.iconst 0, 1) := by decide +kernel
theorem dX1_kept_1 : decode cX1_kept 1 = .ok (.istore_n 1, 1) := by decide +kernel
theorem dX1_kept_2 : decode cX1_kept 2 = .ok (.iconst 0, 1) := by decide +kernel
theorem dX1_kept_3 : decode cX1_kept 3 = .ok (.istore_n 2, 1) := by decide +kernel
theorem dX1_kept_4 : decode cX1_kept 4 = .ok (.iload_n 2, 1) := by decide +kernel
theorem dX1_kept_5 : decode cX1_kept 5 = .ok (.bipush 40, 2) := by decide +kernel
theorem dX1_kept_7 : decode cX1_kept 7 = .ok (.if_icmp .ge 26, 3) := by decide +kernel
theorem dX1_kept_10 : decode cX1_kept 10 = .ok (.iload_n 1, 1) := by decide +kernel
theorem dX1_kept_11 : decode cX1_kept 11 = .ok (.aload_n 0, 1) := by decide +kernel
theorem dX1_kept_12 : decode cX1_kept 12 = .ok (.getfield 22, 3) := by decide +kernel
theorem dX1_kept_15 : decode cX1_kept 15 = .ok (.iload_n 2, 1) := by decide +kernel
theorem dX1_kept_16 : decode cX1_kept 16 = .ok (.iaload, 1) := by decide +kernel
theorem dX1_kept_17 : decode cX1_kept 17 = .ok (.ifCond .ne 7, 3) := by decide +kernel
theorem dX1_kept_20 : decode cX1_kept 20 = .ok (.iconst 1, 1) := by decide +kernel
theorem dX1_kept_21 : decode cX1_kept 21 = .ok (.goto 4, 3) := by decide +kernel
theorem dX1_kept_24 : decode cX1_kept 24 = .ok (.iconst 0, 1) := by decide +kernel
theorem dX1_kept_25 : decode cX1_kept 25 = .ok (.iadd, 1) := by decide +kernel
theorem dX1_kept_26 : decode cX1_kept 26 = .ok (.istore_n 1, 1) := by decide +kernel
theorem dX1_kept_27 : decode cX1_kept 27 = .ok (.iinc 2 1, 3) := by decide +kernel
theorem dX1_kept_30 : decode cX1_kept 30 = .ok (.goto (-26), 3) := by decide +kernel
theorem dX1_kept_33 : decode cX1_kept 33 = .ok (.iload_n 1, 1) := by decide +kernel
theorem dX1_kept_34 : decode cX1_kept 34 = .ok (.ireturn, 1) := by decide +kernel
theorem dX1_isKept_0 : decode cX1_isKept 0 = .ok (.iload_n 1, 1) := by decide +kernel
theorem dX1_isKept_1 : decode cX1_isKept 1 = .ok (.bipush 40, 2) := by decide +kernel
theorem dX1_isKept_3 : decode cX1_isKept 3 = .ok (.invokestatic 31, 3) := by decide +kernel
theorem dX1_isKept_6 : decode cX1_isKept 6 = .ok (.ifCond .ne 7, 3) := by decide +kernel
theorem dX1_isKept_9 : decode cX1_isKept 9 = .ok (.iconst (-1), 1) := by decide +kernel
theorem dX1_isKept_10 : decode cX1_isKept 10 = .ok (.goto 17, 3) := by decide +kernel
theorem dX1_isKept_13 : decode cX1_isKept 13 = .ok (.aload_n 0, 1) := by decide +kernel
theorem dX1_isKept_14 : decode cX1_isKept 14 = .ok (.getfield 22, 3) := by decide +kernel
theorem dX1_isKept_17 : decode cX1_isKept 17 = .ok (.iload_n 1, 1) := by decide +kernel
theorem dX1_isKept_18 : decode cX1_isKept 18 = .ok (.iaload, 1) := by decide +kernel
theorem dX1_isKept_19 : decode cX1_isKept 19 = .ok (.ifCond .ne 7, 3) := by decide +kernel
theorem dX1_isKept_22 : decode cX1_isKept 22 = .ok (.iconst 1, 1) := by decide +kernel
theorem dX1_isKept_23 : decode cX1_isKept 23 = .ok (.goto 4, 3) := by decide +kernel
theorem dX1_isKept_26 : decode cX1_isKept 26 = .ok (.iconst 0, 1) := by decide +kernel
theorem dX1_isKept_27 : decode cX1_isKept 27 = .ok (.ireturn, 1) := by decide +kernel
theorem dX1_facet_0 : decode cX1_facet 0 = .ok (.iload_n 1, 1) := by decide +kernel
theorem dX1_facet_1 : decode cX1_facet 1 = .ok (.bipush 8, 2) := by decide +kernel
theorem dX1_facet_3 : decode cX1_facet 3 = .ok (.invokestatic 31, 3) := by decide +kernel
theorem dX1_facet_6 : decode cX1_facet 6 = .ok (.ifCond .eq 26, 3) := by decide +kernel
theorem dX1_facet_9 : decode cX1_facet 9 = .ok (.iload_n 2, 1) := by decide +kernel
theorem dX1_facet_10 : decode cX1_facet 10 = .ok (.bipush 32, 2) := by decide +kernel
theorem dX1_facet_12 : decode cX1_facet 12 = .ok (.invokestatic 31, 3) := by decide +kernel
theorem dX1_facet_15 : decode cX1_facet 15 = .ok (.ifCond .eq 17, 3) := by decide +kernel
theorem dX1_facet_18 : decode cX1_facet 18 = .ok (.aload_n 0, 1) := by decide +kernel
theorem dX1_facet_19 : decode cX1_facet 19 = .ok (.getfield 25, 3) := by decide +kernel
theorem dX1_facet_22 : decode cX1_facet 22 = .ok (.bipush 32, 2) := by decide +kernel
theorem dX1_facet_24 : decode cX1_facet 24 = .ok (.iload_n 1, 1) := by decide +kernel
theorem dX1_facet_25 : decode cX1_facet 25 = .ok (.imul, 1) := by decide +kernel
theorem dX1_facet_26 : decode cX1_facet 26 = .ok (.iload_n 2, 1) := by decide +kernel
theorem dX1_facet_27 : decode cX1_facet 27 = .ok (.iadd, 1) := by decide +kernel
theorem dX1_facet_28 : decode cX1_facet 28 = .ok (.iaload, 1) := by decide +kernel
theorem dX1_facet_29 : decode cX1_facet 29 = .ok (.goto 4, 3) := by decide +kernel
theorem dX1_facet_32 : decode cX1_facet 32 = .ok (.iconst (-1), 1) := by decide +kernel
theorem dX1_facet_33 : decode cX1_facet 33 = .ok (.ireturn, 1) := by decide +kernel
theorem dX1_top_0 : decode cX1_top 0 = .ok (.iload_n 1, 1) := by decide +kernel
theorem dX1_top_1 : decode cX1_top 1 = .ok (.bipush 8, 2) := by decide +kernel
theorem dX1_top_3 : decode cX1_top 3 = .ok (.invokestatic 31, 3) := by decide +kernel
theorem dX1_top_6 : decode cX1_top 6 = .ok (.ifCond .eq 12, 3) := by decide +kernel
theorem dX1_top_9 : decode cX1_top 9 = .ok (.iload_n 2, 1) := by decide +kernel
theorem dX1_top_10 : decode cX1_top 10 = .ok (.bipush 32, 2) := by decide +kernel
theorem dX1_top_12 : decode cX1_top 12 = .ok (.invokestatic 31, 3) := by decide +kernel
theorem dX1_top_15 : decode cX1_top 15 = .ok (.ifCond .ne 5, 3) := by decide +kernel
theorem dX1_top_18 : decode cX1_top 18 = .ok (.iconst (-1), 1) := by decide +kernel
theorem dX1_top_19 : decode cX1_top 19 = .ok (.ireturn, 1) := by decide +kernel
theorem dX1_top_20 : decode cX1_top 20 = .ok (.iconst 0, 1) := by decide +kernel
theorem dX1_top_21 : decode cX1_top 21 = .ok (.istore_n 3, 1) := by decide +kernel
theorem dX1_top_22 : decode cX1_top 22 = .ok (.iconst (-1), 1) := by decide +kernel
theorem dX1_top_23 : decode cX1_top 23 = .ok (.istore 4, 2) := by decide +kernel
theorem dX1_top_25 : decode cX1_top 25 = .ok (.iconst 0, 1) := by decide +kernel
theorem dX1_top_26 : decode cX1_top 26 = .ok (.istore 5, 2) := by decide +kernel
theorem dX1_top_28 : decode cX1_top 28 = .ok (.iload 5, 2) := by decide +kernel
theorem dX1_top_30 : decode cX1_top 30 = .ok (.iload_n 2, 1) := by decide +kernel
theorem dX1_top_31 : decode cX1_top 31 = .ok (.if_icmp .gt 101, 3) := by decide +kernel
theorem dX1_top_34 : decode cX1_top 34 = .ok (.iconst (-1), 1) := by decide +kernel
theorem dX1_top_35 : decode cX1_top 35 = .ok (.istore 4, 2) := by decide +kernel
theorem dX1_top_37 : decode cX1_top 37 = .ok (.iconst 0, 1) := by decide +kernel
theorem dX1_top_38 : decode cX1_top 38 = .ok (.istore 6, 2) := by decide +kernel
theorem dX1_top_40 : decode cX1_top 40 = .ok (.iload 6, 2) := by decide +kernel
theorem dX1_top_42 : decode cX1_top 42 = .ok (.bipush 32, 2) := by decide +kernel
theorem dX1_top_44 : decode cX1_top 44 = .ok (.if_icmp .ge 68, 3) := by decide +kernel
theorem dX1_top_47 : decode cX1_top 47 = .ok (.iload_n 3, 1) := by decide +kernel
theorem dX1_top_48 : decode cX1_top 48 = .ok (.iload 6, 2) := by decide +kernel
theorem dX1_top_50 : decode cX1_top 50 = .ok (.ishr, 1) := by decide +kernel
theorem dX1_top_51 : decode cX1_top 51 = .ok (.iconst 1, 1) := by decide +kernel
theorem dX1_top_52 : decode cX1_top 52 = .ok (.iand, 1) := by decide +kernel
theorem dX1_top_53 : decode cX1_top 53 = .ok (.iconst 1, 1) := by decide +kernel
theorem dX1_top_54 : decode cX1_top 54 = .ok (.if_icmp .ne 7, 3) := by decide +kernel
theorem dX1_top_57 : decode cX1_top 57 = .ok (.iconst 0, 1) := by decide +kernel
theorem dX1_top_58 : decode cX1_top 58 = .ok (.goto 15, 3) := by decide +kernel
theorem dX1_top_61 : decode cX1_top 61 = .ok (.aload_n 0, 1) := by decide +kernel
theorem dX1_top_62 : decode cX1_top 62 = .ok (.getfield 25, 3) := by decide +kernel
theorem dX1_top_65 : decode cX1_top 65 = .ok (.bipush 32, 2) := by decide +kernel
theorem dX1_top_67 : decode cX1_top 67 = .ok (.iload_n 1, 1) := by decide +kernel
theorem dX1_top_68 : decode cX1_top 68 = .ok (.imul, 1) := by decide +kernel
theorem dX1_top_69 : decode cX1_top 69 = .ok (.iload 6, 2) := by decide +kernel
theorem dX1_top_71 : decode cX1_top 71 = .ok (.iadd, 1) := by decide +kernel
theorem dX1_top_72 : decode cX1_top 72 = .ok (.iaload, 1) := by decide +kernel
theorem dX1_top_73 : decode cX1_top 73 = .ok (.istore 7, 2) := by decide +kernel
theorem dX1_top_75 : decode cX1_top 75 = .ok (.iload 7, 2) := by decide +kernel
theorem dX1_top_77 : decode cX1_top 77 = .ok (.ifCond .le 29, 3) := by decide +kernel
theorem dX1_top_80 : decode cX1_top 80 = .ok (.iload 4, 2) := by decide +kernel
theorem dX1_top_82 : decode cX1_top 82 = .ok (.ifCond .lt 20, 3) := by decide +kernel
theorem dX1_top_85 : decode cX1_top 85 = .ok (.iload 7, 2) := by decide +kernel
theorem dX1_top_87 : decode cX1_top 87 = .ok (.aload_n 0, 1) := by decide +kernel
theorem dX1_top_88 : decode cX1_top 88 = .ok (.getfield 25, 3) := by decide +kernel
theorem dX1_top_91 : decode cX1_top 91 = .ok (.bipush 32, 2) := by decide +kernel
theorem dX1_top_93 : decode cX1_top 93 = .ok (.iload_n 1, 1) := by decide +kernel
theorem dX1_top_94 : decode cX1_top 94 = .ok (.imul, 1) := by decide +kernel
theorem dX1_top_95 : decode cX1_top 95 = .ok (.iload 4, 2) := by decide +kernel
theorem dX1_top_97 : decode cX1_top 97 = .ok (.iadd, 1) := by decide +kernel
theorem dX1_top_98 : decode cX1_top 98 = .ok (.iaload, 1) := by decide +kernel
theorem dX1_top_99 : decode cX1_top 99 = .ok (.if_icmp .le 7, 3) := by decide +kernel
theorem dX1_top_102 : decode cX1_top 102 = .ok (.iload 6, 2) := by decide +kernel
theorem dX1_top_104 : decode cX1_top 104 = .ok (.istore 4, 2) := by decide +kernel
theorem dX1_top_106 : decode cX1_top 106 = .ok (.iinc 6 1, 3) := by decide +kernel
theorem dX1_top_109 : decode cX1_top 109 = .ok (.goto (-69), 3) := by decide +kernel
theorem dX1_top_112 : decode cX1_top 112 = .ok (.iload 4, 2) := by decide +kernel
theorem dX1_top_114 : decode cX1_top 114 = .ok (.ifCond .ge 5, 3) := by decide +kernel
theorem dX1_top_117 : decode cX1_top 117 = .ok (.iconst (-1), 1) := by decide +kernel
theorem dX1_top_118 : decode cX1_top 118 = .ok (.ireturn, 1) := by decide +kernel
theorem dX1_top_119 : decode cX1_top 119 = .ok (.iload_n 3, 1) := by decide +kernel
theorem dX1_top_120 : decode cX1_top 120 = .ok (.iconst 1, 1) := by decide +kernel
theorem dX1_top_121 : decode cX1_top 121 = .ok (.iload 4, 2) := by decide +kernel
theorem dX1_top_123 : decode cX1_top 123 = .ok (.ishl, 1) := by decide +kernel
theorem dX1_top_124 : decode cX1_top 124 = .ok (.ior, 1) := by decide +kernel
theorem dX1_top_125 : decode cX1_top 125 = .ok (.istore_n 3, 1) := by decide +kernel
theorem dX1_top_126 : decode cX1_top 126 = .ok (.iinc 5 1, 3) := by decide +kernel
theorem dX1_top_129 : decode cX1_top 129 = .ok (.goto (-101), 3) := by decide +kernel
theorem dX1_top_132 : decode cX1_top 132 = .ok (.iload 4, 2) := by decide +kernel
theorem dX1_top_134 : decode cX1_top 134 = .ok (.ireturn, 1) := by decide +kernel
theorem dX1_range_0 : decode cX1_range 0 = .ok (.iload_n 1, 1) := by decide +kernel
theorem dX1_range_1 : decode cX1_range 1 = .ok (.bipush 8, 2) := by decide +kernel
theorem dX1_range_3 : decode cX1_range 3 = .ok (.invokestatic 31, 3) := by decide +kernel
theorem dX1_range_6 : decode cX1_range 6 = .ok (.ifCond .ne 5, 3) := by decide +kernel
theorem dX1_range_9 : decode cX1_range 9 = .ok (.iconst (-1), 1) := by decide +kernel
theorem dX1_range_10 : decode cX1_range 10 = .ok (.ireturn, 1) := by decide +kernel
theorem dX1_range_11 : decode cX1_range 11 = .ok (.iconst 0, 1) := by decide +kernel
theorem dX1_range_12 : decode cX1_range 12 = .ok (.istore 4, 2) := by decide +kernel
theorem dX1_range_14 : decode cX1_range 14 = .ok (.iconst 0, 1) := by decide +kernel
theorem dX1_range_15 : decode cX1_range 15 = .ok (.istore 5, 2) := by decide +kernel
theorem dX1_range_17 : decode cX1_range 17 = .ok (.iload 5, 2) := by decide +kernel
theorem dX1_range_19 : decode cX1_range 19 = .ok (.bipush 32, 2) := by decide +kernel
theorem dX1_range_21 : decode cX1_range 21 = .ok (.if_icmp .ge 30, 3) := by decide +kernel
theorem dX1_range_24 : decode cX1_range 24 = .ok (.iload 5, 2) := by decide +kernel
theorem dX1_range_26 : decode cX1_range 26 = .ok (.iload_n 2, 1) := by decide +kernel
theorem dX1_range_27 : decode cX1_range 27 = .ok (.if_icmp .lt 18, 3) := by decide +kernel
theorem dX1_range_30 : decode cX1_range 30 = .ok (.iload 5, 2) := by decide +kernel
theorem dX1_range_32 : decode cX1_range 32 = .ok (.iload_n 3, 1) := by decide +kernel
theorem dX1_range_33 : decode cX1_range 33 = .ok (.if_icmp .gt 12, 3) := by decide +kernel
theorem dX1_range_36 : decode cX1_range 36 = .ok (.iload 4, 2) := by decide +kernel
theorem dX1_range_38 : decode cX1_range 38 = .ok (.iconst 1, 1) := by decide +kernel
theorem dX1_range_39 : decode cX1_range 39 = .ok (.iload 5, 2) := by decide +kernel
theorem dX1_range_41 : decode cX1_range 41 = .ok (.ishl, 1) := by decide +kernel
theorem dX1_range_42 : decode cX1_range 42 = .ok (.ior, 1) := by decide +kernel
theorem dX1_range_43 : decode cX1_range 43 = .ok (.istore 4, 2) := by decide +kernel
theorem dX1_range_45 : decode cX1_range 45 = .ok (.iinc 5 1, 3) := by decide +kernel
theorem dX1_range_48 : decode cX1_range 48 = .ok (.goto (-31), 3) := by decide +kernel
theorem dX1_range_51 : decode cX1_range 51 = .ok (.iconst 0, 1) := by decide +kernel
theorem dX1_range_52 : decode cX1_range 52 = .ok (.istore 5, 2) := by decide +kernel
theorem dX1_range_54 : decode cX1_range 54 = .ok (.iconst 0, 1) := by decide +kernel
theorem dX1_range_55 : decode cX1_range 55 = .ok (.istore 6, 2) := by decide +kernel
theorem dX1_range_57 : decode cX1_range 57 = .ok (.iload 6, 2) := by decide +kernel
theorem dX1_range_59 : decode cX1_range 59 = .ok (.bipush 40, 2) := by decide +kernel
theorem dX1_range_61 : decode cX1_range 61 = .ok (.if_icmp .ge 42, 3) := by decide +kernel
theorem dX1_range_64 : decode cX1_range 64 = .ok (.iload 5, 2) := by decide +kernel
theorem dX1_range_66 : decode cX1_range 66 = .ok (.aload_n 0, 1) := by decide +kernel
theorem dX1_range_67 : decode cX1_range 67 = .ok (.iload 6, 2) := by decide +kernel
theorem dX1_range_69 : decode cX1_range 69 = .ok (.iload_n 1, 1) := by decide +kernel
theorem dX1_range_70 : decode cX1_range 70 = .ok (.invokevirtual 42, 3) := by decide +kernel
theorem dX1_range_73 : decode cX1_range 73 = .ok (.ifCond .eq 20, 3) := by decide +kernel
theorem dX1_range_76 : decode cX1_range 76 = .ok (.aload_n 0, 1) := by decide +kernel
theorem dX1_range_77 : decode cX1_range 77 = .ok (.iload 6, 2) := by decide +kernel
theorem dX1_range_79 : decode cX1_range 79 = .ok (.iload_n 1, 1) := by decide +kernel
theorem dX1_range_80 : decode cX1_range 80 = .ok (.invokevirtual 35, 3) := by decide +kernel
theorem dX1_range_83 : decode cX1_range 83 = .ok (.iload 4, 2) := by decide +kernel
theorem dX1_range_85 : decode cX1_range 85 = .ok (.iand, 1) := by decide +kernel
theorem dX1_range_86 : decode cX1_range 86 = .ok (.ifCond .eq 7, 3) := by decide +kernel
theorem dX1_range_89 : decode cX1_range 89 = .ok (.iconst 1, 1) := by decide +kernel
theorem dX1_range_90 : decode cX1_range 90 = .ok (.goto 4, 3) := by decide +kernel
theorem dX1_range_93 : decode cX1_range 93 = .ok (.iconst 0, 1) := by decide +kernel
theorem dX1_range_94 : decode cX1_range 94 = .ok (.iadd, 1) := by decide +kernel
theorem dX1_range_95 : decode cX1_range 95 = .ok (.istore 5, 2) := by decide +kernel
theorem dX1_range_97 : decode cX1_range 97 = .ok (.iinc 6 1, 3) := by decide +kernel
theorem dX1_range_100 : decode cX1_range 100 = .ok (.goto (-43), 3) := by decide +kernel
theorem dX1_range_103 : decode cX1_range 103 = .ok (.iload 5, 2) := by decide +kernel
theorem dX1_range_105 : decode cX1_range 105 = .ok (.ireturn, 1) := by decide +kernel
theorem dX1_sum_0 : decode cX1_sum 0 = .ok (.iload_n 1, 1) := by decide +kernel
theorem dX1_sum_1 : decode cX1_sum 1 = .ok (.bipush 8, 2) := by decide +kernel
theorem dX1_sum_3 : decode cX1_sum 3 = .ok (.invokestatic 31, 3) := by decide +kernel
theorem dX1_sum_6 : decode cX1_sum 6 = .ok (.ifCond .eq 21, 3) := by decide +kernel
theorem dX1_sum_9 : decode cX1_sum 9 = .ok (.iload_n 2, 1) := by decide +kernel
theorem dX1_sum_10 : decode cX1_sum 10 = .ok (.bipush 32, 2) := by decide +kernel
theorem dX1_sum_12 : decode cX1_sum 12 = .ok (.invokestatic 31, 3) := by decide +kernel
theorem dX1_sum_15 : decode cX1_sum 15 = .ok (.ifCond .eq 12, 3) := by decide +kernel
theorem dX1_sum_18 : decode cX1_sum 18 = .ok (.iload_n 3, 1) := by decide +kernel
theorem dX1_sum_19 : decode cX1_sum 19 = .ok (.bipush 8, 2) := by decide +kernel
theorem dX1_sum_21 : decode cX1_sum 21 = .ok (.invokestatic 31, 3) := by decide +kernel
theorem dX1_sum_24 : decode cX1_sum 24 = .ok (.ifCond .ne 5, 3) := by decide +kernel
theorem dX1_sum_27 : decode cX1_sum 27 = .ok (.iconst (-1), 1) := by decide +kernel
theorem dX1_sum_28 : decode cX1_sum 28 = .ok (.ireturn, 1) := by decide +kernel
theorem dX1_sum_29 : decode cX1_sum 29 = .ok (.iconst 0, 1) := by decide +kernel
theorem dX1_sum_30 : decode cX1_sum 30 = .ok (.istore 4, 2) := by decide +kernel
theorem dX1_sum_32 : decode cX1_sum 32 = .ok (.iconst 0, 1) := by decide +kernel
theorem dX1_sum_33 : decode cX1_sum 33 = .ok (.istore 5, 2) := by decide +kernel
theorem dX1_sum_35 : decode cX1_sum 35 = .ok (.iload 5, 2) := by decide +kernel
theorem dX1_sum_37 : decode cX1_sum 37 = .ok (.bipush 40, 2) := by decide +kernel
theorem dX1_sum_39 : decode cX1_sum 39 = .ok (.if_icmp .ge 76, 3) := by decide +kernel
theorem dX1_sum_42 : decode cX1_sum 42 = .ok (.aload_n 0, 1) := by decide +kernel
theorem dX1_sum_43 : decode cX1_sum 43 = .ok (.getfield 22, 3) := by decide +kernel
theorem dX1_sum_46 : decode cX1_sum 46 = .ok (.iload 5, 2) := by decide +kernel
theorem dX1_sum_48 : decode cX1_sum 48 = .ok (.iaload, 1) := by decide +kernel
theorem dX1_sum_49 : decode cX1_sum 49 = .ok (.ifCond .gt 60, 3) := by decide +kernel
theorem dX1_sum_52 : decode cX1_sum 52 = .ok (.aload_n 0, 1) := by decide +kernel
theorem dX1_sum_53 : decode cX1_sum 53 = .ok (.iload 5, 2) := by decide +kernel
theorem dX1_sum_55 : decode cX1_sum 55 = .ok (.iload_n 1, 1) := by decide +kernel
theorem dX1_sum_56 : decode cX1_sum 56 = .ok (.invokevirtual 35, 3) := by decide +kernel
theorem dX1_sum_59 : decode cX1_sum 59 = .ok (.iload_n 2, 1) := by decide +kernel
theorem dX1_sum_60 : decode cX1_sum 60 = .ok (.ishr, 1) := by decide +kernel
theorem dX1_sum_61 : decode cX1_sum 61 = .ok (.iconst 1, 1) := by decide +kernel
theorem dX1_sum_62 : decode cX1_sum 62 = .ok (.iand, 1) := by decide +kernel
theorem dX1_sum_63 : decode cX1_sum 63 = .ok (.ifCond .ne 6, 3) := by decide +kernel
theorem dX1_sum_66 : decode cX1_sum 66 = .ok (.goto 43, 3) := by decide +kernel
theorem dX1_sum_69 : decode cX1_sum 69 = .ok (.aload_n 0, 1) := by decide +kernel
theorem dX1_sum_70 : decode cX1_sum 70 = .ok (.iload 5, 2) := by decide +kernel
theorem dX1_sum_72 : decode cX1_sum 72 = .ok (.iload_n 3, 1) := by decide +kernel
theorem dX1_sum_73 : decode cX1_sum 73 = .ok (.invokevirtual 35, 3) := by decide +kernel
theorem dX1_sum_76 : decode cX1_sum 76 = .ok (.istore 6, 2) := by decide +kernel
theorem dX1_sum_78 : decode cX1_sum 78 = .ok (.iconst 0, 1) := by decide +kernel
theorem dX1_sum_79 : decode cX1_sum 79 = .ok (.istore 7, 2) := by decide +kernel
theorem dX1_sum_81 : decode cX1_sum 81 = .ok (.iload 7, 2) := by decide +kernel
theorem dX1_sum_83 : decode cX1_sum 83 = .ok (.bipush 32, 2) := by decide +kernel
theorem dX1_sum_85 : decode cX1_sum 85 = .ok (.if_icmp .ge 24, 3) := by decide +kernel
theorem dX1_sum_88 : decode cX1_sum 88 = .ok (.iload 4, 2) := by decide +kernel
theorem dX1_sum_90 : decode cX1_sum 90 = .ok (.iload 6, 2) := by decide +kernel
theorem dX1_sum_92 : decode cX1_sum 92 = .ok (.iload 7, 2) := by decide +kernel
theorem dX1_sum_94 : decode cX1_sum 94 = .ok (.ishr, 1) := by decide +kernel
theorem dX1_sum_95 : decode cX1_sum 95 = .ok (.iconst 1, 1) := by decide +kernel
theorem dX1_sum_96 : decode cX1_sum 96 = .ok (.iand, 1) := by decide +kernel
theorem dX1_sum_97 : decode cX1_sum 97 = .ok (.iload 7, 2) := by decide +kernel
theorem dX1_sum_99 : decode cX1_sum 99 = .ok (.imul, 1) := by decide +kernel
theorem dX1_sum_100 : decode cX1_sum 100 = .ok (.iadd, 1) := by decide +kernel
theorem dX1_sum_101 : decode cX1_sum 101 = .ok (.istore 4, 2) := by decide +kernel
theorem dX1_sum_103 : decode cX1_sum 103 = .ok (.iinc 7 1, 3) := by decide +kernel
theorem dX1_sum_106 : decode cX1_sum 106 = .ok (.goto (-25), 3) := by decide +kernel
theorem dX1_sum_109 : decode cX1_sum 109 = .ok (.iinc 5 1, 3) := by decide +kernel
theorem dX1_sum_112 : decode cX1_sum 112 = .ok (.goto (-77), 3) := by decide +kernel
theorem dX1_sum_115 : decode cX1_sum 115 = .ok (.iload 4, 2) := by decide +kernel
theorem dX1_sum_117 : decode cX1_sum 117 = .ok (.ireturn, 1) := by decide +kernel
theorem dX1_changed_0 : decode cX1_changed 0 = .ok (.iconst 0, 1) := by decide +kernel
theorem dX1_changed_1 : decode cX1_changed 1 = .ok (.istore_n 1, 1) := by decide +kernel
theorem dX1_changed_2 : decode cX1_changed 2 = .ok (.iconst 0, 1) := by decide +kernel
theorem dX1_changed_3 : decode cX1_changed 3 = .ok (.istore_n 2, 1) := by decide +kernel
theorem dX1_changed_4 : decode cX1_changed 4 = .ok (.iload_n 2, 1) := by decide +kernel
theorem dX1_changed_5 : decode cX1_changed 5 = .ok (.aload_n 0, 1) := by decide +kernel
theorem dX1_changed_6 : decode cX1_changed 6 = .ok (.getfield 25, 3) := by decide +kernel
theorem dX1_changed_9 : decode cX1_changed 9 = .ok (.arraylength, 1) := by decide +kernel
theorem dX1_changed_10 : decode cX1_changed 10 = .ok (.if_icmp .ge 44, 3) := by decide +kernel
theorem dX1_changed_13 : decode cX1_changed 13 = .ok (.iload_n 1, 1) := by decide +kernel
theorem dX1_changed_14 : decode cX1_changed 14 = .ok (.aload_n 0, 1) := by decide +kernel
theorem dX1_changed_15 : decode cX1_changed 15 = .ok (.getfield 25, 3) := by decide +kernel
theorem dX1_changed_18 : decode cX1_changed 18 = .ok (.iload_n 2, 1) := by decide +kernel
theorem dX1_changed_19 : decode cX1_changed 19 = .ok (.iaload, 1) := by decide +kernel
theorem dX1_changed_20 : decode cX1_changed 20 = .ok (.aload_n 0, 1) := by decide +kernel
theorem dX1_changed_21 : decode cX1_changed 21 = .ok (.getfield 28, 3) := by decide +kernel
theorem dX1_changed_24 : decode cX1_changed 24 = .ok (.iload_n 2, 1) := by decide +kernel
theorem dX1_changed_25 : decode cX1_changed 25 = .ok (.iaload, 1) := by decide +kernel
theorem dX1_changed_26 : decode cX1_changed 26 = .ok (.if_icmp .eq 7, 3) := by decide +kernel
theorem dX1_changed_29 : decode cX1_changed 29 = .ok (.iconst 1, 1) := by decide +kernel
theorem dX1_changed_30 : decode cX1_changed 30 = .ok (.goto 4, 3) := by decide +kernel
theorem dX1_changed_33 : decode cX1_changed 33 = .ok (.iconst 0, 1) := by decide +kernel
theorem dX1_changed_34 : decode cX1_changed 34 = .ok (.iadd, 1) := by decide +kernel
theorem dX1_changed_35 : decode cX1_changed 35 = .ok (.istore_n 1, 1) := by decide +kernel
theorem dX1_changed_36 : decode cX1_changed 36 = .ok (.aload_n 0, 1) := by decide +kernel
theorem dX1_changed_37 : decode cX1_changed 37 = .ok (.getfield 28, 3) := by decide +kernel
theorem dX1_changed_40 : decode cX1_changed 40 = .ok (.iload_n 2, 1) := by decide +kernel
theorem dX1_changed_41 : decode cX1_changed 41 = .ok (.aload_n 0, 1) := by decide +kernel
theorem dX1_changed_42 : decode cX1_changed 42 = .ok (.getfield 25, 3) := by decide +kernel
theorem dX1_changed_45 : decode cX1_changed 45 = .ok (.iload_n 2, 1) := by decide +kernel
theorem dX1_changed_46 : decode cX1_changed 46 = .ok (.iaload, 1) := by decide +kernel
theorem dX1_changed_47 : decode cX1_changed 47 = .ok (.iastore, 1) := by decide +kernel
theorem dX1_changed_48 : decode cX1_changed 48 = .ok (.iinc 2 1, 3) := by decide +kernel
theorem dX1_changed_51 : decode cX1_changed 51 = .ok (.goto (-47), 3) := by decide +kernel
theorem dX1_changed_54 : decode cX1_changed 54 = .ok (.iload_n 1, 1) := by decide +kernel
theorem dX1_changed_55 : decode cX1_changed 55 = .ok (.ireturn, 1) := by decide +kernel
theorem dX1_rows_0 : decode cX1_rows 0 = .ok (.aload_n 0, 1) := by decide +kernel
theorem dX1_rows_1 : decode cX1_rows 1 = .ok (.getfield 53, 3) := by decide +kernel
theorem dX1_rows_4 : decode cX1_rows 4 = .ok (.ireturn, 1) := by decide +kernel
theorem dX1_share_0 : decode cX1_share 0 = .ok (.iload_n 1, 1) := by decide +kernel
theorem dX1_share_1 : decode cX1_share 1 = .ok (.bipush 8, 2) := by decide +kernel
theorem dX1_share_3 : decode cX1_share 3 = .ok (.invokestatic 31, 3) := by decide +kernel
theorem dX1_share_6 : decode cX1_share 6 = .ok (.ifCond .eq 12, 3) := by decide +kernel
theorem dX1_share_9 : decode cX1_share 9 = .ok (.iload_n 2, 1) := by decide +kernel
theorem dX1_share_10 : decode cX1_share 10 = .ok (.bipush 32, 2) := by decide +kernel
theorem dX1_share_12 : decode cX1_share 12 = .ok (.invokestatic 31, 3) := by decide +kernel
theorem dX1_share_15 : decode cX1_share 15 = .ok (.ifCond .ne 11, 3) := by decide +kernel
theorem dX1_share_18 : decode cX1_share 18 = .ok (.new 65, 3) := by decide +kernel
theorem dX1_share_21 : decode cX1_share 21 = .ok (.dup, 1) := by decide +kernel
theorem dX1_share_22 : decode cX1_share 22 = .ok (.invokespecial 67, 3) := by decide +kernel
theorem dX1_share_25 : decode cX1_share 25 = .ok (.athrow, 1) := by decide +kernel
theorem dX1_share_26 : decode cX1_share 26 = .ok (.iconst 0, 1) := by decide +kernel
theorem dX1_share_27 : decode cX1_share 27 = .ok (.istore 4, 2) := by decide +kernel
theorem dX1_share_29 : decode cX1_share 29 = .ok (.iconst 0, 1) := by decide +kernel
theorem dX1_share_30 : decode cX1_share 30 = .ok (.istore 5, 2) := by decide +kernel
theorem dX1_share_32 : decode cX1_share 32 = .ok (.iload 5, 2) := by decide +kernel
theorem dX1_share_34 : decode cX1_share 34 = .ok (.bipush 40, 2) := by decide +kernel
theorem dX1_share_36 : decode cX1_share 36 = .ok (.if_icmp .ge 29, 3) := by decide +kernel
theorem dX1_share_39 : decode cX1_share 39 = .ok (.iload 4, 2) := by decide +kernel
theorem dX1_share_41 : decode cX1_share 41 = .ok (.aload_n 0, 1) := by decide +kernel
theorem dX1_share_42 : decode cX1_share 42 = .ok (.iload 5, 2) := by decide +kernel
theorem dX1_share_44 : decode cX1_share 44 = .ok (.iload_n 1, 1) := by decide +kernel
theorem dX1_share_45 : decode cX1_share 45 = .ok (.invokevirtual 42, 3) := by decide +kernel
theorem dX1_share_48 : decode cX1_share 48 = .ok (.ifCond .eq 7, 3) := by decide +kernel
theorem dX1_share_51 : decode cX1_share 51 = .ok (.iconst 1, 1) := by decide +kernel
theorem dX1_share_52 : decode cX1_share 52 = .ok (.goto 4, 3) := by decide +kernel
theorem dX1_share_55 : decode cX1_share 55 = .ok (.iconst 0, 1) := by decide +kernel
theorem dX1_share_56 : decode cX1_share 56 = .ok (.iadd, 1) := by decide +kernel
theorem dX1_share_57 : decode cX1_share 57 = .ok (.istore 4, 2) := by decide +kernel
theorem dX1_share_59 : decode cX1_share 59 = .ok (.iinc 5 1, 3) := by decide +kernel
theorem dX1_share_62 : decode cX1_share 62 = .ok (.goto (-30), 3) := by decide +kernel
theorem dX1_share_65 : decode cX1_share 65 = .ok (.aload_n 0, 1) := by decide +kernel
theorem dX1_share_66 : decode cX1_share 66 = .ok (.getfield 25, 3) := by decide +kernel
theorem dX1_share_69 : decode cX1_share 69 = .ok (.bipush 32, 2) := by decide +kernel
theorem dX1_share_71 : decode cX1_share 71 = .ok (.iload_n 1, 1) := by decide +kernel
theorem dX1_share_72 : decode cX1_share 72 = .ok (.imul, 1) := by decide +kernel
theorem dX1_share_73 : decode cX1_share 73 = .ok (.iload_n 2, 1) := by decide +kernel
theorem dX1_share_74 : decode cX1_share 74 = .ok (.iadd, 1) := by decide +kernel
theorem dX1_share_75 : decode cX1_share 75 = .ok (.iaload, 1) := by decide +kernel
theorem dX1_share_76 : decode cX1_share 76 = .ok (.istore 5, 2) := by decide +kernel
theorem dX1_share_78 : decode cX1_share 78 = .ok (.iload 4, 2) := by decide +kernel
theorem dX1_share_80 : decode cX1_share 80 = .ok (.iload 5, 2) := by decide +kernel
theorem dX1_share_82 : decode cX1_share 82 = .ok (.invokestatic 68, 3) := by decide +kernel
theorem dX1_share_85 : decode cX1_share 85 = .ok (.istore 6, 2) := by decide +kernel
theorem dX1_share_87 : decode cX1_share 87 = .ok (.iload_n 3, 1) := by decide +kernel
theorem dX1_share_88 : decode cX1_share 88 = .ok (.ifCond .eq 8, 3) := by decide +kernel
theorem dX1_share_91 : decode cX1_share 91 = .ok (.iload 4, 2) := by decide +kernel
theorem dX1_share_93 : decode cX1_share 93 = .ok (.goto 5, 3) := by decide +kernel
theorem dX1_share_96 : decode cX1_share 96 = .ok (.iload 5, 2) := by decide +kernel
theorem dX1_share_98 : decode cX1_share 98 = .ok (.iload 6, 2) := by decide +kernel
theorem dX1_share_100 : decode cX1_share 100 = .ok (.idiv, 1) := by decide +kernel
theorem dX1_share_101 : decode cX1_share 101 = .ok (.ireturn, 1) := by decide +kernel
theorem dX1_common_0 : decode cX1_common 0 = .ok (.iload_n 0, 1) := by decide +kernel
theorem dX1_common_1 : decode cX1_common 1 = .ok (.istore_n 2, 1) := by decide +kernel
theorem dX1_common_2 : decode cX1_common 2 = .ok (.iload_n 1, 1) := by decide +kernel
theorem dX1_common_3 : decode cX1_common 3 = .ok (.istore_n 3, 1) := by decide +kernel
theorem dX1_common_4 : decode cX1_common 4 = .ok (.iload_n 3, 1) := by decide +kernel
theorem dX1_common_5 : decode cX1_common 5 = .ok (.ifCond .eq 16, 3) := by decide +kernel
theorem dX1_common_8 : decode cX1_common 8 = .ok (.iload_n 2, 1) := by decide +kernel
theorem dX1_common_9 : decode cX1_common 9 = .ok (.iload_n 3, 1) := by decide +kernel
theorem dX1_common_10 : decode cX1_common 10 = .ok (.irem, 1) := by decide +kernel
theorem dX1_common_11 : decode cX1_common 11 = .ok (.istore 4, 2) := by decide +kernel
theorem dX1_common_13 : decode cX1_common 13 = .ok (.iload_n 3, 1) := by decide +kernel
theorem dX1_common_14 : decode cX1_common 14 = .ok (.istore_n 2, 1) := by decide +kernel
theorem dX1_common_15 : decode cX1_common 15 = .ok (.iload 4, 2) := by decide +kernel
theorem dX1_common_17 : decode cX1_common 17 = .ok (.istore_n 3, 1) := by decide +kernel
theorem dX1_common_18 : decode cX1_common 18 = .ok (.goto (-14), 3) := by decide +kernel
theorem dX1_common_21 : decode cX1_common 21 = .ok (.iload_n 2, 1) := by decide +kernel
theorem dX1_common_22 : decode cX1_common 22 = .ok (.ireturn, 1) := by decide +kernel
end
section
/-! FacetCountsModel -/
set_option maxRecDepth 100000
def RX2 : String := "FacetCountsModel"
def TX2 : u_T := fun k => match k with
  | 0 => ("FacetCountsModel", "code", "I", false)
  | 1 => ("FacetCountsModel", "has", "[Z", true)
  | 2 => ("FacetCountsModel", "above", "[I", true)
  | 3 => ("FacetCountsModel", "chosen", "[Z", true)
  | 4 => ("FacetCountsModel", "told", "[I", true)
  | 5 => ("FacetCountsModel", "counts", "[I", true)
  | _ => ("FacetCountsModel", "rows", "I", false)
def tyX2 : Nat → FieldType := fun k => match k with
  | 0 => .int
  | 1 => .array .boolean
  | 2 => .array .int
  | 3 => .array .boolean
  | 4 => .array .int
  | 5 => .array .int
  | _ => .int
abbrev wsX20 : List Cond := u_ws RX2 TX2 7
theorem nmX2 : ∀ a, a < 7 → ∀ b, b < 7 → a ≠ b → (TX2 a).2.1 ≠ (TX2 b).2.1 := by decide +kernel
theorem tyX2_ok : ∀ k, k < 7 → parseFieldDescriptor (TX2 k).2.2.1 = some (tyX2 k) := by decide +kernel
abbrev cX2_init : ByteArray := prog_3_method_1_code
def yX2_init : MethodName := ⟨RX2, "<init>", "()V"⟩
abbrev cX2_thrown : ByteArray := prog_3_method_2_code
def yX2_thrown : MethodName := ⟨RX2, "thrown", "()I"⟩
abbrev cX2_row : ByteArray := prog_3_method_7_code
def yX2_row : MethodName := ⟨RX2, "row", "(III)I"⟩
abbrev cX2_isThing : ByteArray := prog_3_method_3_code
def yX2_isThing : MethodName := ⟨RX2, "isThing", "(I)Z"⟩
abbrev cX2_isHead : ByteArray := prog_3_method_4_code
def yX2_isHead : MethodName := ⟨RX2, "isHead", "(I)Z"⟩
abbrev cX2_isValue : ByteArray := prog_3_method_5_code
def yX2_isValue : MethodName := ⟨RX2, "isValue", "(I)Z"⟩
abbrev cX2_at : ByteArray := prog_3_method_6_code
def yX2_at : MethodName := ⟨RX2, "at", "(III)I"⟩
abbrev cX2_drop : ByteArray := prog_3_method_8_code
def yX2_drop : MethodName := ⟨RX2, "drop", "(III)I"⟩
abbrev cX2_above : ByteArray := prog_3_method_10_code
def yX2_above : MethodName := ⟨RX2, "above", "(II)I"⟩
abbrev cX2_isUnder : ByteArray := prog_3_method_9_code
def yX2_isUnder : MethodName := ⟨RX2, "isUnder", "(II)Z"⟩
abbrev cX2_choose : ByteArray := prog_3_method_16_code
def yX2_choose : MethodName := ⟨RX2, "choose", "(IIZ)I"⟩
abbrev cX2_all : ByteArray := prog_3_method_15_code
def yX2_all : MethodName := ⟨RX2, "all", "(I)I"⟩
abbrev cX2_isKeptBut : ByteArray := prog_3_method_13_code
def yX2_isKeptBut : MethodName := ⟨RX2, "isKeptBut", "(II)Z"⟩
abbrev cX2_isMet : ByteArray := prog_3_method_12_code
def yX2_isMet : MethodName := ⟨RX2, "isMet", "(II)Z"⟩
abbrev cX2_owns : ByteArray := prog_3_method_11_code
def yX2_owns : MethodName := ⟨RX2, "owns", "(III)Z"⟩
abbrev cX2_kept : ByteArray := prog_3_method_17_code
def yX2_kept : MethodName := ⟨RX2, "kept", "()I"⟩
abbrev cX2_isKept : ByteArray := prog_3_method_18_code
def yX2_isKept : MethodName := ⟨RX2, "isKept", "(I)I"⟩
abbrev cX2_facet : ByteArray := prog_3_method_19_code
def yX2_facet : MethodName := ⟨RX2, "facet", "(II)I"⟩
abbrev cX2_count : ByteArray := prog_3_method_14_code
def yX2_count : MethodName := ⟨RX2, "count", "(II)I"⟩
abbrev cX2_top : ByteArray := prog_3_method_20_code
def yX2_top : MethodName := ⟨RX2, "top", "(II)I"⟩
abbrev cX2_range : ByteArray := prog_3_method_21_code
def yX2_range : MethodName := ⟨RX2, "range", "(III)I"⟩
abbrev cX2_sum : ByteArray := prog_3_method_22_code
def yX2_sum : MethodName := ⟨RX2, "sum", "(III)I"⟩
abbrev cX2_share : ByteArray := prog_3_method_23_code
def yX2_share : MethodName := ⟨RX2, "share", "(IIZ)I"⟩
abbrev cX2_changed : ByteArray := prog_3_method_24_code
def yX2_changed : MethodName := ⟨RX2, "changed", "()I"⟩
abbrev cX2_rows : ByteArray := prog_3_method_25_code
def yX2_rows : MethodName := ⟨RX2, "rows", "()I"⟩
theorem q14 : (Jvm.Cond.initialized "FacetCountsModel") ∈ lw_all := lw_g (lw_at lw_m1 2 rfl) rfl
theorem q220 : (Jvm.Cond.instantiable "FacetCountsModel" (7 : Nat)) ∈ lw_all := lw_g (lw_at lw_m1 208 rfl) rfl
theorem q222 : (Jvm.Cond.instanceMethod ({ cls := "FacetCountsModel", name := "<init>", desc := "()V" } : Jvm.MethodName)) ∈ lw_all := lw_g (lw_at lw_m1 210 rfl) rfl
theorem q223 : (Jvm.Cond.code ({ cls := "FacetCountsModel", name := "<init>", desc := "()V" } : Jvm.MethodName) prog_3_method_1_code (2 : Nat) (Option.none : Option Jvm.ClassFile.FieldType)) ∈ lw_all := lw_g (lw_at lw_m1 211 rfl) rfl
theorem q224 : (Jvm.Cond.methodLink "FacetCountsModel" (1 : Nat) ({ cls := "java/lang/Object", name := "<init>", desc := "()V" } : Jvm.MethodName)) ∈ lw_all := lw_g (lw_at lw_m1 212 rfl) rfl
theorem q225 : (Jvm.Cond.fieldLink "FacetCountsModel" (26 : Nat) "FacetCountsModel" "code" "I") ∈ lw_all := lw_g (lw_at lw_m1 213 rfl) rfl
theorem q226 : (Jvm.Cond.fieldLink "FacetCountsModel" (7 : Nat) "FacetCountsModel" "has" "[Z") ∈ lw_all := lw_g (lw_at lw_m1 214 rfl) rfl
theorem q227 : (Jvm.Cond.fieldLink "FacetCountsModel" (13 : Nat) "FacetCountsModel" "above" "[I") ∈ lw_all := lw_g (lw_at lw_m1 215 rfl) rfl
theorem q228 : (Jvm.Cond.fieldLink "FacetCountsModel" (17 : Nat) "FacetCountsModel" "chosen" "[Z") ∈ lw_all := lw_g (lw_at lw_m1 216 rfl) rfl
theorem q229 : (Jvm.Cond.fieldLink "FacetCountsModel" (20 : Nat) "FacetCountsModel" "told" "[I") ∈ lw_all := lw_g (lw_at lw_m1 217 rfl) rfl
theorem q230 : (Jvm.Cond.fieldLink "FacetCountsModel" (23 : Nat) "FacetCountsModel" "counts" "[I") ∈ lw_all := lw_g (lw_at lw_m1 218 rfl) rfl
theorem q231 : (Jvm.Cond.fieldLink "FacetCountsModel" (44 : Nat) "FacetCountsModel" "rows" "I") ∈ lw_all := lw_g (lw_at lw_m1 219 rfl) rfl
theorem q232 : (Jvm.Cond.lays "FacetCountsModel" "FacetCountsModel" "code" "I") ∈ lw_all := lw_g (lw_at lw_m1 220 rfl) rfl
theorem q233 : (Jvm.Cond.soleField "FacetCountsModel" "code") ∈ lw_all := lw_g (lw_at lw_m1 221 rfl) rfl
theorem q234 : (Jvm.Cond.laysFinal "FacetCountsModel" "FacetCountsModel" "has" "[Z") ∈ lw_all := lw_g (lw_at lw_m1 222 rfl) rfl
theorem q235 : (Jvm.Cond.soleField "FacetCountsModel" "has") ∈ lw_all := lw_g (lw_at lw_m1 223 rfl) rfl
theorem q236 : (Jvm.Cond.laysFinal "FacetCountsModel" "FacetCountsModel" "above" "[I") ∈ lw_all := lw_g (lw_at lw_m1 224 rfl) rfl
theorem q237 : (Jvm.Cond.soleField "FacetCountsModel" "above") ∈ lw_all := lw_g (lw_at lw_m1 225 rfl) rfl
theorem q238 : (Jvm.Cond.laysFinal "FacetCountsModel" "FacetCountsModel" "chosen" "[Z") ∈ lw_all := lw_g (lw_at lw_m1 226 rfl) rfl
theorem q239 : (Jvm.Cond.soleField "FacetCountsModel" "chosen") ∈ lw_all := lw_g (lw_at lw_m1 227 rfl) rfl
theorem q240 : (Jvm.Cond.laysFinal "FacetCountsModel" "FacetCountsModel" "told" "[I") ∈ lw_all := lw_g (lw_at lw_m1 228 rfl) rfl
theorem q241 : (Jvm.Cond.soleField "FacetCountsModel" "told") ∈ lw_all := lw_g (lw_at lw_m1 229 rfl) rfl
theorem q242 : (Jvm.Cond.laysFinal "FacetCountsModel" "FacetCountsModel" "counts" "[I") ∈ lw_all := lw_g (lw_at lw_m1 230 rfl) rfl
theorem q243 : (Jvm.Cond.soleField "FacetCountsModel" "counts") ∈ lw_all := lw_g (lw_at lw_m1 231 rfl) rfl
theorem q244 : (Jvm.Cond.lays "FacetCountsModel" "FacetCountsModel" "rows" "I") ∈ lw_all := lw_g (lw_at lw_m1 232 rfl) rfl
theorem q245 : (Jvm.Cond.soleField "FacetCountsModel" "rows") ∈ lw_all := lw_g (lw_at lw_m1 233 rfl) rfl
theorem q246 : (Jvm.Cond.superclass "FacetCountsModel" "java/lang/Object") ∈ lw_all := lw_g (lw_at lw_m1 234 rfl) rfl
theorem q249 : (Jvm.Cond.instanceMethod ({ cls := "FacetCountsModel", name := "thrown", desc := "()I" } : Jvm.MethodName)) ∈ lw_all := lw_g (lw_at lw_m1 237 rfl) rfl
theorem q250 : (Jvm.Cond.selects "FacetCountsModel" ({ cls := "FacetCountsModel", name := "thrown", desc := "()I" } : Jvm.MethodName) ({ cls := "FacetCountsModel", name := "thrown", desc := "()I" } : Jvm.MethodName)) ∈ lw_all := lw_g (lw_at lw_m1 238 rfl) rfl
theorem q251 : (Jvm.Cond.code ({ cls := "FacetCountsModel", name := "thrown", desc := "()I" } : Jvm.MethodName) prog_3_method_2_code (1 : Nat) (Option.some Jvm.ClassFile.FieldType.int)) ∈ lw_all := lw_g (lw_at lw_m1 239 rfl) rfl
theorem q253 : (Jvm.Cond.instanceMethod ({ cls := "FacetCountsModel", name := "row", desc := "(III)I" } : Jvm.MethodName)) ∈ lw_all := lw_g (lw_at lw_m2 1 rfl) rfl
theorem q254 : (Jvm.Cond.selects "FacetCountsModel" ({ cls := "FacetCountsModel", name := "row", desc := "(III)I" } : Jvm.MethodName) ({ cls := "FacetCountsModel", name := "row", desc := "(III)I" } : Jvm.MethodName)) ∈ lw_all := lw_g (lw_at lw_m2 2 rfl) rfl
theorem q255 : (Jvm.Cond.code ({ cls := "FacetCountsModel", name := "row", desc := "(III)I" } : Jvm.MethodName) prog_3_method_7_code (4 : Nat) (Option.some Jvm.ClassFile.FieldType.int)) ∈ lw_all := lw_g (lw_at lw_m2 3 rfl) rfl
theorem q256 : (Jvm.Cond.methodLink "FacetCountsModel" (30 : Nat) ({ cls := "FacetCountsModel", name := "isThing", desc := "(I)Z" } : Jvm.MethodName)) ∈ lw_all := lw_g (lw_at lw_m2 4 rfl) rfl
theorem q257 : (Jvm.Cond.static ({ cls := "FacetCountsModel", name := "isThing", desc := "(I)Z" } : Jvm.MethodName)) ∈ lw_all := lw_g (lw_at lw_m2 5 rfl) rfl
theorem q258 : (Jvm.Cond.code ({ cls := "FacetCountsModel", name := "isThing", desc := "(I)Z" } : Jvm.MethodName) prog_3_method_3_code (1 : Nat) (Option.some Jvm.ClassFile.FieldType.boolean)) ∈ lw_all := lw_g (lw_at lw_m2 6 rfl) rfl
theorem q259 : (Jvm.Cond.methodLink "FacetCountsModel" (34 : Nat) ({ cls := "FacetCountsModel", name := "isHead", desc := "(I)Z" } : Jvm.MethodName)) ∈ lw_all := lw_g (lw_at lw_m2 7 rfl) rfl
theorem q260 : (Jvm.Cond.static ({ cls := "FacetCountsModel", name := "isHead", desc := "(I)Z" } : Jvm.MethodName)) ∈ lw_all := lw_g (lw_at lw_m2 8 rfl) rfl
theorem q261 : (Jvm.Cond.code ({ cls := "FacetCountsModel", name := "isHead", desc := "(I)Z" } : Jvm.MethodName) prog_3_method_4_code (1 : Nat) (Option.some Jvm.ClassFile.FieldType.boolean)) ∈ lw_all := lw_g (lw_at lw_m2 9 rfl) rfl
theorem q262 : (Jvm.Cond.methodLink "FacetCountsModel" (37 : Nat) ({ cls := "FacetCountsModel", name := "isValue", desc := "(I)Z" } : Jvm.MethodName)) ∈ lw_all := lw_g (lw_at lw_m2 10 rfl) rfl
theorem q263 : (Jvm.Cond.static ({ cls := "FacetCountsModel", name := "isValue", desc := "(I)Z" } : Jvm.MethodName)) ∈ lw_all := lw_g (lw_at lw_m2 11 rfl) rfl
theorem q264 : (Jvm.Cond.code ({ cls := "FacetCountsModel", name := "isValue", desc := "(I)Z" } : Jvm.MethodName) prog_3_method_5_code (1 : Nat) (Option.some Jvm.ClassFile.FieldType.boolean)) ∈ lw_all := lw_g (lw_at lw_m2 12 rfl) rfl
theorem q265 : (Jvm.Cond.methodLink "FacetCountsModel" (40 : Nat) ({ cls := "FacetCountsModel", name := "at", desc := "(III)I" } : Jvm.MethodName)) ∈ lw_all := lw_g (lw_at lw_m2 13 rfl) rfl
theorem q266 : (Jvm.Cond.static ({ cls := "FacetCountsModel", name := "at", desc := "(III)I" } : Jvm.MethodName)) ∈ lw_all := lw_g (lw_at lw_m2 14 rfl) rfl
theorem q267 : (Jvm.Cond.code ({ cls := "FacetCountsModel", name := "at", desc := "(III)I" } : Jvm.MethodName) prog_3_method_6_code (3 : Nat) (Option.some Jvm.ClassFile.FieldType.int)) ∈ lw_all := lw_g (lw_at lw_m2 15 rfl) rfl
theorem q269 : (Jvm.Cond.instanceMethod ({ cls := "FacetCountsModel", name := "drop", desc := "(III)I" } : Jvm.MethodName)) ∈ lw_all := lw_g (lw_at lw_m2 17 rfl) rfl
theorem q270 : (Jvm.Cond.selects "FacetCountsModel" ({ cls := "FacetCountsModel", name := "drop", desc := "(III)I" } : Jvm.MethodName) ({ cls := "FacetCountsModel", name := "drop", desc := "(III)I" } : Jvm.MethodName)) ∈ lw_all := lw_g (lw_at lw_m2 18 rfl) rfl
theorem q271 : (Jvm.Cond.code ({ cls := "FacetCountsModel", name := "drop", desc := "(III)I" } : Jvm.MethodName) prog_3_method_8_code (4 : Nat) (Option.some Jvm.ClassFile.FieldType.int)) ∈ lw_all := lw_g (lw_at lw_m2 19 rfl) rfl
theorem q273 : (Jvm.Cond.instanceMethod ({ cls := "FacetCountsModel", name := "above", desc := "(II)I" } : Jvm.MethodName)) ∈ lw_all := lw_g (lw_at lw_m2 21 rfl) rfl
theorem q274 : (Jvm.Cond.selects "FacetCountsModel" ({ cls := "FacetCountsModel", name := "above", desc := "(II)I" } : Jvm.MethodName) ({ cls := "FacetCountsModel", name := "above", desc := "(II)I" } : Jvm.MethodName)) ∈ lw_all := lw_g (lw_at lw_m2 22 rfl) rfl
theorem q275 : (Jvm.Cond.code ({ cls := "FacetCountsModel", name := "above", desc := "(II)I" } : Jvm.MethodName) prog_3_method_10_code (3 : Nat) (Option.some Jvm.ClassFile.FieldType.int)) ∈ lw_all := lw_g (lw_at lw_m2 23 rfl) rfl
theorem q276 : (Jvm.Cond.methodLink "FacetCountsModel" (47 : Nat) ({ cls := "FacetCountsModel", name := "isUnder", desc := "(II)Z" } : Jvm.MethodName)) ∈ lw_all := lw_g (lw_at lw_m2 24 rfl) rfl
theorem q277 : (Jvm.Cond.privateMethod ({ cls := "FacetCountsModel", name := "isUnder", desc := "(II)Z" } : Jvm.MethodName)) ∈ lw_tbl := lw_at lw_m2 25 rfl
theorem q278 : (Jvm.Cond.instanceMethod ({ cls := "FacetCountsModel", name := "isUnder", desc := "(II)Z" } : Jvm.MethodName)) ∈ lw_all := lw_g (lw_at lw_m2 26 rfl) rfl
theorem q279 : (Jvm.Cond.code ({ cls := "FacetCountsModel", name := "isUnder", desc := "(II)Z" } : Jvm.MethodName) prog_3_method_9_code (4 : Nat) (Option.some Jvm.ClassFile.FieldType.boolean)) ∈ lw_all := lw_g (lw_at lw_m2 27 rfl) rfl
theorem q281 : (Jvm.Cond.instanceMethod ({ cls := "FacetCountsModel", name := "choose", desc := "(IIZ)I" } : Jvm.MethodName)) ∈ lw_all := lw_g (lw_at lw_m2 29 rfl) rfl
theorem q282 : (Jvm.Cond.selects "FacetCountsModel" ({ cls := "FacetCountsModel", name := "choose", desc := "(IIZ)I" } : Jvm.MethodName) ({ cls := "FacetCountsModel", name := "choose", desc := "(IIZ)I" } : Jvm.MethodName)) ∈ lw_all := lw_g (lw_at lw_m2 30 rfl) rfl
theorem q283 : (Jvm.Cond.code ({ cls := "FacetCountsModel", name := "choose", desc := "(IIZ)I" } : Jvm.MethodName) prog_3_method_16_code (4 : Nat) (Option.some Jvm.ClassFile.FieldType.int)) ∈ lw_all := lw_g (lw_at lw_m2 31 rfl) rfl
theorem q284 : (Jvm.Cond.methodLink "FacetCountsModel" (61 : Nat) ({ cls := "FacetCountsModel", name := "all", desc := "(I)I" } : Jvm.MethodName)) ∈ lw_all := lw_g (lw_at lw_m2 32 rfl) rfl
theorem q285 : (Jvm.Cond.privateMethod ({ cls := "FacetCountsModel", name := "all", desc := "(I)I" } : Jvm.MethodName)) ∈ lw_tbl := lw_at lw_m2 33 rfl
theorem q286 : (Jvm.Cond.instanceMethod ({ cls := "FacetCountsModel", name := "all", desc := "(I)I" } : Jvm.MethodName)) ∈ lw_all := lw_g (lw_at lw_m2 34 rfl) rfl
theorem q287 : (Jvm.Cond.code ({ cls := "FacetCountsModel", name := "all", desc := "(I)I" } : Jvm.MethodName) prog_3_method_15_code (4 : Nat) (Option.some Jvm.ClassFile.FieldType.int)) ∈ lw_all := lw_g (lw_at lw_m2 35 rfl) rfl
theorem q288 : (Jvm.Cond.methodLink "FacetCountsModel" (58 : Nat) ({ cls := "FacetCountsModel", name := "isKeptBut", desc := "(II)Z" } : Jvm.MethodName)) ∈ lw_all := lw_g (lw_at lw_m2 36 rfl) rfl
theorem q289 : (Jvm.Cond.privateMethod ({ cls := "FacetCountsModel", name := "isKeptBut", desc := "(II)Z" } : Jvm.MethodName)) ∈ lw_tbl := lw_at lw_m2 37 rfl
theorem q290 : (Jvm.Cond.instanceMethod ({ cls := "FacetCountsModel", name := "isKeptBut", desc := "(II)Z" } : Jvm.MethodName)) ∈ lw_all := lw_g (lw_at lw_m2 38 rfl) rfl
theorem q291 : (Jvm.Cond.code ({ cls := "FacetCountsModel", name := "isKeptBut", desc := "(II)Z" } : Jvm.MethodName) prog_3_method_13_code (5 : Nat) (Option.some Jvm.ClassFile.FieldType.boolean)) ∈ lw_all := lw_g (lw_at lw_m2 39 rfl) rfl
theorem q292 : (Jvm.Cond.methodLink "FacetCountsModel" (55 : Nat) ({ cls := "FacetCountsModel", name := "isMet", desc := "(II)Z" } : Jvm.MethodName)) ∈ lw_all := lw_g (lw_at lw_m2 40 rfl) rfl
theorem q293 : (Jvm.Cond.privateMethod ({ cls := "FacetCountsModel", name := "isMet", desc := "(II)Z" } : Jvm.MethodName)) ∈ lw_tbl := lw_at lw_m2 41 rfl
theorem q294 : (Jvm.Cond.instanceMethod ({ cls := "FacetCountsModel", name := "isMet", desc := "(II)Z" } : Jvm.MethodName)) ∈ lw_all := lw_g (lw_at lw_m2 42 rfl) rfl
theorem q295 : (Jvm.Cond.code ({ cls := "FacetCountsModel", name := "isMet", desc := "(II)Z" } : Jvm.MethodName) prog_3_method_12_code (6 : Nat) (Option.some Jvm.ClassFile.FieldType.boolean)) ∈ lw_all := lw_g (lw_at lw_m2 43 rfl) rfl
theorem q296 : (Jvm.Cond.methodLink "FacetCountsModel" (51 : Nat) ({ cls := "FacetCountsModel", name := "owns", desc := "(III)Z" } : Jvm.MethodName)) ∈ lw_all := lw_g (lw_at lw_m2 44 rfl) rfl
theorem q297 : (Jvm.Cond.privateMethod ({ cls := "FacetCountsModel", name := "owns", desc := "(III)Z" } : Jvm.MethodName)) ∈ lw_tbl := lw_at lw_m2 45 rfl
theorem q298 : (Jvm.Cond.instanceMethod ({ cls := "FacetCountsModel", name := "owns", desc := "(III)Z" } : Jvm.MethodName)) ∈ lw_all := lw_g (lw_at lw_m2 46 rfl) rfl
theorem q299 : (Jvm.Cond.code ({ cls := "FacetCountsModel", name := "owns", desc := "(III)Z" } : Jvm.MethodName) prog_3_method_11_code (6 : Nat) (Option.some Jvm.ClassFile.FieldType.boolean)) ∈ lw_all := lw_g (lw_at lw_m2 47 rfl) rfl
theorem q301 : (Jvm.Cond.instanceMethod ({ cls := "FacetCountsModel", name := "kept", desc := "()I" } : Jvm.MethodName)) ∈ lw_all := lw_g (lw_at lw_m2 49 rfl) rfl
theorem q302 : (Jvm.Cond.selects "FacetCountsModel" ({ cls := "FacetCountsModel", name := "kept", desc := "()I" } : Jvm.MethodName) ({ cls := "FacetCountsModel", name := "kept", desc := "()I" } : Jvm.MethodName)) ∈ lw_all := lw_g (lw_at lw_m2 50 rfl) rfl
theorem q303 : (Jvm.Cond.code ({ cls := "FacetCountsModel", name := "kept", desc := "()I" } : Jvm.MethodName) prog_3_method_17_code (1 : Nat) (Option.some Jvm.ClassFile.FieldType.int)) ∈ lw_all := lw_g (lw_at lw_m2 51 rfl) rfl
theorem q305 : (Jvm.Cond.instanceMethod ({ cls := "FacetCountsModel", name := "isKept", desc := "(I)I" } : Jvm.MethodName)) ∈ lw_all := lw_g (lw_at lw_m2 53 rfl) rfl
theorem q306 : (Jvm.Cond.selects "FacetCountsModel" ({ cls := "FacetCountsModel", name := "isKept", desc := "(I)I" } : Jvm.MethodName) ({ cls := "FacetCountsModel", name := "isKept", desc := "(I)I" } : Jvm.MethodName)) ∈ lw_all := lw_g (lw_at lw_m2 54 rfl) rfl
theorem q307 : (Jvm.Cond.code ({ cls := "FacetCountsModel", name := "isKept", desc := "(I)I" } : Jvm.MethodName) prog_3_method_18_code (2 : Nat) (Option.some Jvm.ClassFile.FieldType.int)) ∈ lw_all := lw_g (lw_at lw_m2 55 rfl) rfl
theorem q309 : (Jvm.Cond.instanceMethod ({ cls := "FacetCountsModel", name := "facet", desc := "(II)I" } : Jvm.MethodName)) ∈ lw_all := lw_g (lw_at lw_m2 57 rfl) rfl
theorem q310 : (Jvm.Cond.selects "FacetCountsModel" ({ cls := "FacetCountsModel", name := "facet", desc := "(II)I" } : Jvm.MethodName) ({ cls := "FacetCountsModel", name := "facet", desc := "(II)I" } : Jvm.MethodName)) ∈ lw_all := lw_g (lw_at lw_m2 58 rfl) rfl
theorem q311 : (Jvm.Cond.code ({ cls := "FacetCountsModel", name := "facet", desc := "(II)I" } : Jvm.MethodName) prog_3_method_19_code (3 : Nat) (Option.some Jvm.ClassFile.FieldType.int)) ∈ lw_all := lw_g (lw_at lw_m2 59 rfl) rfl
theorem q312 : (Jvm.Cond.methodLink "FacetCountsModel" (65 : Nat) ({ cls := "FacetCountsModel", name := "count", desc := "(II)I" } : Jvm.MethodName)) ∈ lw_all := lw_g (lw_at lw_m2 60 rfl) rfl
theorem q313 : (Jvm.Cond.privateMethod ({ cls := "FacetCountsModel", name := "count", desc := "(II)I" } : Jvm.MethodName)) ∈ lw_tbl := lw_at lw_m2 61 rfl
theorem q314 : (Jvm.Cond.instanceMethod ({ cls := "FacetCountsModel", name := "count", desc := "(II)I" } : Jvm.MethodName)) ∈ lw_all := lw_g (lw_at lw_m2 62 rfl) rfl
theorem q315 : (Jvm.Cond.code ({ cls := "FacetCountsModel", name := "count", desc := "(II)I" } : Jvm.MethodName) prog_3_method_14_code (5 : Nat) (Option.some Jvm.ClassFile.FieldType.int)) ∈ lw_all := lw_g (lw_at lw_m2 63 rfl) rfl
theorem q317 : (Jvm.Cond.instanceMethod ({ cls := "FacetCountsModel", name := "top", desc := "(II)I" } : Jvm.MethodName)) ∈ lw_all := lw_g (lw_at lw_m2 65 rfl) rfl
theorem q318 : (Jvm.Cond.selects "FacetCountsModel" ({ cls := "FacetCountsModel", name := "top", desc := "(II)I" } : Jvm.MethodName) ({ cls := "FacetCountsModel", name := "top", desc := "(II)I" } : Jvm.MethodName)) ∈ lw_all := lw_g (lw_at lw_m2 66 rfl) rfl
theorem q319 : (Jvm.Cond.code ({ cls := "FacetCountsModel", name := "top", desc := "(II)I" } : Jvm.MethodName) prog_3_method_20_code (7 : Nat) (Option.some Jvm.ClassFile.FieldType.int)) ∈ lw_all := lw_g (lw_at lw_m2 67 rfl) rfl
theorem q321 : (Jvm.Cond.instanceMethod ({ cls := "FacetCountsModel", name := "range", desc := "(III)I" } : Jvm.MethodName)) ∈ lw_all := lw_g (lw_at lw_m2 69 rfl) rfl
theorem q322 : (Jvm.Cond.selects "FacetCountsModel" ({ cls := "FacetCountsModel", name := "range", desc := "(III)I" } : Jvm.MethodName) ({ cls := "FacetCountsModel", name := "range", desc := "(III)I" } : Jvm.MethodName)) ∈ lw_all := lw_g (lw_at lw_m2 70 rfl) rfl
theorem q323 : (Jvm.Cond.code ({ cls := "FacetCountsModel", name := "range", desc := "(III)I" } : Jvm.MethodName) prog_3_method_21_code (8 : Nat) (Option.some Jvm.ClassFile.FieldType.int)) ∈ lw_all := lw_g (lw_at lw_m2 71 rfl) rfl
theorem q325 : (Jvm.Cond.instanceMethod ({ cls := "FacetCountsModel", name := "sum", desc := "(III)I" } : Jvm.MethodName)) ∈ lw_all := lw_g (lw_at lw_m2 73 rfl) rfl
theorem q326 : (Jvm.Cond.selects "FacetCountsModel" ({ cls := "FacetCountsModel", name := "sum", desc := "(III)I" } : Jvm.MethodName) ({ cls := "FacetCountsModel", name := "sum", desc := "(III)I" } : Jvm.MethodName)) ∈ lw_all := lw_g (lw_at lw_m2 74 rfl) rfl
theorem q327 : (Jvm.Cond.code ({ cls := "FacetCountsModel", name := "sum", desc := "(III)I" } : Jvm.MethodName) prog_3_method_22_code (8 : Nat) (Option.some Jvm.ClassFile.FieldType.int)) ∈ lw_all := lw_g (lw_at lw_m2 75 rfl) rfl
theorem q329 : (Jvm.Cond.instanceMethod ({ cls := "FacetCountsModel", name := "share", desc := "(IIZ)I" } : Jvm.MethodName)) ∈ lw_all := lw_g (lw_at lw_m2 77 rfl) rfl
theorem q330 : (Jvm.Cond.selects "FacetCountsModel" ({ cls := "FacetCountsModel", name := "share", desc := "(IIZ)I" } : Jvm.MethodName) ({ cls := "FacetCountsModel", name := "share", desc := "(IIZ)I" } : Jvm.MethodName)) ∈ lw_all := lw_g (lw_at lw_m2 78 rfl) rfl
theorem q331 : (Jvm.Cond.code ({ cls := "FacetCountsModel", name := "share", desc := "(IIZ)I" } : Jvm.MethodName) prog_3_method_23_code (8 : Nat) (Option.some Jvm.ClassFile.FieldType.int)) ∈ lw_all := lw_g (lw_at lw_m2 79 rfl) rfl
theorem q333 : (Jvm.Cond.instanceMethod ({ cls := "FacetCountsModel", name := "changed", desc := "()I" } : Jvm.MethodName)) ∈ lw_all := lw_g (lw_at lw_m2 81 rfl) rfl
theorem q334 : (Jvm.Cond.selects "FacetCountsModel" ({ cls := "FacetCountsModel", name := "changed", desc := "()I" } : Jvm.MethodName) ({ cls := "FacetCountsModel", name := "changed", desc := "()I" } : Jvm.MethodName)) ∈ lw_all := lw_g (lw_at lw_m2 82 rfl) rfl
theorem q335 : (Jvm.Cond.code ({ cls := "FacetCountsModel", name := "changed", desc := "()I" } : Jvm.MethodName) prog_3_method_24_code (5 : Nat) (Option.some Jvm.ClassFile.FieldType.int)) ∈ lw_all := lw_g (lw_at lw_m2 83 rfl) rfl
theorem q337 : (Jvm.Cond.instanceMethod ({ cls := "FacetCountsModel", name := "rows", desc := "()I" } : Jvm.MethodName)) ∈ lw_all := lw_g (lw_at lw_m2 85 rfl) rfl
theorem q338 : (Jvm.Cond.selects "FacetCountsModel" ({ cls := "FacetCountsModel", name := "rows", desc := "()I" } : Jvm.MethodName) ({ cls := "FacetCountsModel", name := "rows", desc := "()I" } : Jvm.MethodName)) ∈ lw_all := lw_g (lw_at lw_m2 86 rfl) rfl
theorem q339 : (Jvm.Cond.code ({ cls := "FacetCountsModel", name := "rows", desc := "()I" } : Jvm.MethodName) prog_3_method_25_code (1 : Nat) (Option.some Jvm.ClassFile.FieldType.int)) ∈ lw_all := lw_g (lw_at lw_m2 87 rfl) rfl
theorem in_X2 : ∀ w ∈ wsX20, w ∈ lw_all := lw_in wsX20 [232, 234, 236, 238, 240, 242, 244] (by decide +kernel) (by decide +kernel)

theorem dX2_init_0 : decode cX2_init 0 = .ok (.aload_n 0, 1) := by decide +kernel
theorem dX2_init_1 : decode cX2_init 1 = .ok (.invokespecial 1, 3) := by decide +kernel
theorem dX2_init_4 : decode cX2_init 4 = .ok (.aload_n 0, 1) := by decide +kernel
theorem dX2_init_5 : decode cX2_init 5 = .ok (.sipush 10240, 3) := by decide +kernel
theorem dX2_init_8 : decode cX2_init 8 = .ok (.newarray .boolean, 2) := by decide +kernel
theorem dX2_init_10 : decode cX2_init 10 = .ok (.putfield 7, 3) := by decide +kernel
theorem dX2_init_13 : decode cX2_init 13 = .ok (.aload_n 0, 1) := by decide +kernel
theorem dX2_init_14 : decode cX2_init 14 = .ok (.bipush 32, 2) := by decide +kernel
theorem dX2_init_16 : decode cX2_init 16 = .ok (.newarray .int, 2) := by decide +kernel
theorem dX2_init_18 : decode cX2_init 18 = .ok (.putfield 13, 3) := by decide +kernel
theorem dX2_init_21 : decode cX2_init 21 = .ok (.aload_n 0, 1) := by decide +kernel
theorem dX2_init_22 : decode cX2_init 22 = .ok (.sipush 256, 3) := by decide +kernel
theorem dX2_init_25 : decode cX2_init 25 = .ok (.newarray .boolean, 2) := by decide +kernel
theorem dX2_init_27 : decode cX2_init 27 = .ok (.putfield 17, 3) := by decide +kernel
theorem dX2_init_30 : decode cX2_init 30 = .ok (.aload_n 0, 1) := by decide +kernel
theorem dX2_init_31 : decode cX2_init 31 = .ok (.sipush 256, 3) := by decide +kernel
theorem dX2_init_34 : decode cX2_init 34 = .ok (.newarray .int, 2) := by decide +kernel
theorem dX2_init_36 : decode cX2_init 36 = .ok (.putfield 20, 3) := by decide +kernel
theorem dX2_init_39 : decode cX2_init 39 = .ok (.aload_n 0, 1) := by decide +kernel
theorem dX2_init_40 : decode cX2_init 40 = .ok (.bipush 32, 2) := by decide +kernel
theorem dX2_init_42 : decode cX2_init 42 = .ok (.newarray .int, 2) := by decide +kernel
theorem dX2_init_44 : decode cX2_init 44 = .ok (.putfield 23, 3) := by decide +kernel
theorem dX2_init_47 : decode cX2_init 47 = .ok (.iconst 0, 1) := by decide +kernel
theorem dX2_init_48 : decode cX2_init 48 = .ok (.istore_n 1, 1) := by decide +kernel
theorem dX2_init_49 : decode cX2_init 49 = .ok (.iload_n 1, 1) := by decide +kernel
theorem dX2_init_50 : decode cX2_init 50 = .ok (.bipush 32, 2) := by decide +kernel
theorem dX2_init_52 : decode cX2_init 52 = .ok (.if_icmp .ge 16, 3) := by decide +kernel
theorem dX2_init_55 : decode cX2_init 55 = .ok (.aload_n 0, 1) := by decide +kernel
theorem dX2_init_56 : decode cX2_init 56 = .ok (.getfield 13, 3) := by decide +kernel
theorem dX2_init_59 : decode cX2_init 59 = .ok (.iload_n 1, 1) := by decide +kernel
theorem dX2_init_60 : decode cX2_init 60 = .ok (.iconst (-1), 1) := by decide +kernel
theorem dX2_init_61 : decode cX2_init 61 = .ok (.iastore, 1) := by decide +kernel
theorem dX2_init_62 : decode cX2_init 62 = .ok (.iinc 1 1, 3) := by decide +kernel
theorem dX2_init_65 : decode cX2_init 65 = .ok (.goto (-16), 3) := by decide +kernel
theorem dX2_init_68 : decode cX2_init 68 = .ok (.return_, 1) := by decide +kernel
theorem dX2_thrown_0 : decode cX2_thrown 0 = .ok (.aload_n 0, 1) := by decide +kernel
theorem dX2_thrown_1 : decode cX2_thrown 1 = .ok (.getfield 26, 3) := by decide +kernel
theorem dX2_thrown_4 : decode cX2_thrown 4 = .ok (.ireturn, 1) := by decide +kernel
theorem dX2_row_0 : decode cX2_row 0 = .ok (.aload_n 0, 1) := by decide +kernel
theorem dX2_row_1 : decode cX2_row 1 = .ok (.iconst 0, 1) := by decide +kernel
theorem dX2_row_2 : decode cX2_row 2 = .ok (.putfield 26, 3) := by decide +kernel
theorem dX2_row_5 : decode cX2_row 5 = .ok (.iload_n 1, 1) := by decide +kernel
theorem dX2_row_6 : decode cX2_row 6 = .ok (.invokestatic 30, 3) := by decide +kernel
theorem dX2_row_9 : decode cX2_row 9 = .ok (.ifCond .eq 17, 3) := by decide +kernel
theorem dX2_row_12 : decode cX2_row 12 = .ok (.iload_n 2, 1) := by decide +kernel
theorem dX2_row_13 : decode cX2_row 13 = .ok (.invokestatic 34, 3) := by decide +kernel
theorem dX2_row_16 : decode cX2_row 16 = .ok (.ifCond .eq 10, 3) := by decide +kernel
theorem dX2_row_19 : decode cX2_row 19 = .ok (.iload_n 3, 1) := by decide +kernel
theorem dX2_row_20 : decode cX2_row 20 = .ok (.invokestatic 37, 3) := by decide +kernel
theorem dX2_row_23 : decode cX2_row 23 = .ok (.ifCond .ne 5, 3) := by decide +kernel
theorem dX2_row_26 : decode cX2_row 26 = .ok (.iconst (-1), 1) := by decide +kernel
theorem dX2_row_27 : decode cX2_row 27 = .ok (.ireturn, 1) := by decide +kernel
theorem dX2_row_28 : decode cX2_row 28 = .ok (.aload_n 0, 1) := by decide +kernel
theorem dX2_row_29 : decode cX2_row 29 = .ok (.getfield 7, 3) := by decide +kernel
theorem dX2_row_32 : decode cX2_row 32 = .ok (.iload_n 1, 1) := by decide +kernel
theorem dX2_row_33 : decode cX2_row 33 = .ok (.iload_n 2, 1) := by decide +kernel
theorem dX2_row_34 : decode cX2_row 34 = .ok (.iload_n 3, 1) := by decide +kernel
theorem dX2_row_35 : decode cX2_row 35 = .ok (.invokestatic 40, 3) := by decide +kernel
theorem dX2_row_38 : decode cX2_row 38 = .ok (.baload, 1) := by decide +kernel
theorem dX2_row_39 : decode cX2_row 39 = .ok (.ifCond .eq 5, 3) := by decide +kernel
theorem dX2_row_42 : decode cX2_row 42 = .ok (.iconst 0, 1) := by decide +kernel
theorem dX2_row_43 : decode cX2_row 43 = .ok (.ireturn, 1) := by decide +kernel
theorem dX2_row_44 : decode cX2_row 44 = .ok (.aload_n 0, 1) := by decide +kernel
theorem dX2_row_45 : decode cX2_row 45 = .ok (.getfield 44, 3) := by decide +kernel
theorem dX2_row_48 : decode cX2_row 48 = .ok (.sipush 300, 3) := by decide +kernel
theorem dX2_row_51 : decode cX2_row 51 = .ok (.if_icmp .ne 6, 3) := by decide +kernel
theorem dX2_row_54 : decode cX2_row 54 = .ok (.bipush (-2), 2) := by decide +kernel
theorem dX2_row_56 : decode cX2_row 56 = .ok (.ireturn, 1) := by decide +kernel
theorem dX2_row_57 : decode cX2_row 57 = .ok (.aload_n 0, 1) := by decide +kernel
theorem dX2_row_58 : decode cX2_row 58 = .ok (.getfield 7, 3) := by decide +kernel
theorem dX2_row_61 : decode cX2_row 61 = .ok (.iload_n 1, 1) := by decide +kernel
theorem dX2_row_62 : decode cX2_row 62 = .ok (.iload_n 2, 1) := by decide +kernel
theorem dX2_row_63 : decode cX2_row 63 = .ok (.iload_n 3, 1) := by decide +kernel
theorem dX2_row_64 : decode cX2_row 64 = .ok (.invokestatic 40, 3) := by decide +kernel
theorem dX2_row_67 : decode cX2_row 67 = .ok (.iconst 1, 1) := by decide +kernel
theorem dX2_row_68 : decode cX2_row 68 = .ok (.bastore, 1) := by decide +kernel
theorem dX2_row_69 : decode cX2_row 69 = .ok (.aload_n 0, 1) := by decide +kernel
theorem dX2_row_70 : decode cX2_row 70 = .ok (.dup, 1) := by decide +kernel
theorem dX2_row_71 : decode cX2_row 71 = .ok (.getfield 44, 3) := by decide +kernel
theorem dX2_row_74 : decode cX2_row 74 = .ok (.iconst 1, 1) := by decide +kernel
theorem dX2_row_75 : decode cX2_row 75 = .ok (.iadd, 1) := by decide +kernel
theorem dX2_row_76 : decode cX2_row 76 = .ok (.putfield 44, 3) := by decide +kernel
theorem dX2_row_79 : decode cX2_row 79 = .ok (.iconst 1, 1) := by decide +kernel
theorem dX2_row_80 : decode cX2_row 80 = .ok (.ireturn, 1) := by decide +kernel
theorem dX2_isThing_0 : decode cX2_isThing 0 = .ok (.iload_n 0, 1) := by decide +kernel
theorem dX2_isThing_1 : decode cX2_isThing 1 = .ok (.ifCond .lt 13, 3) := by decide +kernel
theorem dX2_isThing_4 : decode cX2_isThing 4 = .ok (.iload_n 0, 1) := by decide +kernel
theorem dX2_isThing_5 : decode cX2_isThing 5 = .ok (.bipush 40, 2) := by decide +kernel
theorem dX2_isThing_7 : decode cX2_isThing 7 = .ok (.if_icmp .ge 7, 3) := by decide +kernel
theorem dX2_isThing_10 : decode cX2_isThing 10 = .ok (.iconst 1, 1) := by decide +kernel
theorem dX2_isThing_11 : decode cX2_isThing 11 = .ok (.goto 4, 3) := by decide +kernel
theorem dX2_isThing_14 : decode cX2_isThing 14 = .ok (.iconst 0, 1) := by decide +kernel
theorem dX2_isThing_15 : decode cX2_isThing 15 = .ok (.ireturn, 1) := by decide +kernel
theorem dX2_isHead_0 : decode cX2_isHead 0 = .ok (.iload_n 0, 1) := by decide +kernel
theorem dX2_isHead_1 : decode cX2_isHead 1 = .ok (.ifCond .lt 13, 3) := by decide +kernel
theorem dX2_isHead_4 : decode cX2_isHead 4 = .ok (.iload_n 0, 1) := by decide +kernel
theorem dX2_isHead_5 : decode cX2_isHead 5 = .ok (.bipush 8, 2) := by decide +kernel
theorem dX2_isHead_7 : decode cX2_isHead 7 = .ok (.if_icmp .ge 7, 3) := by decide +kernel
theorem dX2_isHead_10 : decode cX2_isHead 10 = .ok (.iconst 1, 1) := by decide +kernel
theorem dX2_isHead_11 : decode cX2_isHead 11 = .ok (.goto 4, 3) := by decide +kernel
theorem dX2_isHead_14 : decode cX2_isHead 14 = .ok (.iconst 0, 1) := by decide +kernel
theorem dX2_isHead_15 : decode cX2_isHead 15 = .ok (.ireturn, 1) := by decide +kernel
theorem dX2_isValue_0 : decode cX2_isValue 0 = .ok (.iload_n 0, 1) := by decide +kernel
theorem dX2_isValue_1 : decode cX2_isValue 1 = .ok (.ifCond .lt 13, 3) := by decide +kernel
theorem dX2_isValue_4 : decode cX2_isValue 4 = .ok (.iload_n 0, 1) := by decide +kernel
theorem dX2_isValue_5 : decode cX2_isValue 5 = .ok (.bipush 32, 2) := by decide +kernel
theorem dX2_isValue_7 : decode cX2_isValue 7 = .ok (.if_icmp .ge 7, 3) := by decide +kernel
theorem dX2_isValue_10 : decode cX2_isValue 10 = .ok (.iconst 1, 1) := by decide +kernel
theorem dX2_isValue_11 : decode cX2_isValue 11 = .ok (.goto 4, 3) := by decide +kernel
theorem dX2_isValue_14 : decode cX2_isValue 14 = .ok (.iconst 0, 1) := by decide +kernel
theorem dX2_isValue_15 : decode cX2_isValue 15 = .ok (.ireturn, 1) := by decide +kernel
theorem dX2_at_0 : decode cX2_at 0 = .ok (.iload_n 0, 1) := by decide +kernel
theorem dX2_at_1 : decode cX2_at 1 = .ok (.bipush 8, 2) := by decide +kernel
theorem dX2_at_3 : decode cX2_at 3 = .ok (.imul, 1) := by decide +kernel
theorem dX2_at_4 : decode cX2_at 4 = .ok (.iload_n 1, 1) := by decide +kernel
theorem dX2_at_5 : decode cX2_at 5 = .ok (.iadd, 1) := by decide +kernel
theorem dX2_at_6 : decode cX2_at 6 = .ok (.bipush 32, 2) := by decide +kernel
theorem dX2_at_8 : decode cX2_at 8 = .ok (.imul, 1) := by decide +kernel
theorem dX2_at_9 : decode cX2_at 9 = .ok (.iload_n 2, 1) := by decide +kernel
theorem dX2_at_10 : decode cX2_at 10 = .ok (.iadd, 1) := by decide +kernel
theorem dX2_at_11 : decode cX2_at 11 = .ok (.ireturn, 1) := by decide +kernel
theorem dX2_drop_0 : decode cX2_drop 0 = .ok (.aload_n 0, 1) := by decide +kernel
theorem dX2_drop_1 : decode cX2_drop 1 = .ok (.iconst 0, 1) := by decide +kernel
theorem dX2_drop_2 : decode cX2_drop 2 = .ok (.putfield 26, 3) := by decide +kernel
theorem dX2_drop_5 : decode cX2_drop 5 = .ok (.iload_n 1, 1) := by decide +kernel
theorem dX2_drop_6 : decode cX2_drop 6 = .ok (.invokestatic 30, 3) := by decide +kernel
theorem dX2_drop_9 : decode cX2_drop 9 = .ok (.ifCond .eq 17, 3) := by decide +kernel
theorem dX2_drop_12 : decode cX2_drop 12 = .ok (.iload_n 2, 1) := by decide +kernel
theorem dX2_drop_13 : decode cX2_drop 13 = .ok (.invokestatic 34, 3) := by decide +kernel
theorem dX2_drop_16 : decode cX2_drop 16 = .ok (.ifCond .eq 10, 3) := by decide +kernel
theorem dX2_drop_19 : decode cX2_drop 19 = .ok (.iload_n 3, 1) := by decide +kernel
theorem dX2_drop_20 : decode cX2_drop 20 = .ok (.invokestatic 37, 3) := by decide +kernel
theorem dX2_drop_23 : decode cX2_drop 23 = .ok (.ifCond .ne 5, 3) := by decide +kernel
theorem dX2_drop_26 : decode cX2_drop 26 = .ok (.iconst (-1), 1) := by decide +kernel
theorem dX2_drop_27 : decode cX2_drop 27 = .ok (.ireturn, 1) := by decide +kernel
theorem dX2_drop_28 : decode cX2_drop 28 = .ok (.aload_n 0, 1) := by decide +kernel
theorem dX2_drop_29 : decode cX2_drop 29 = .ok (.getfield 7, 3) := by decide +kernel
theorem dX2_drop_32 : decode cX2_drop 32 = .ok (.iload_n 1, 1) := by decide +kernel
theorem dX2_drop_33 : decode cX2_drop 33 = .ok (.iload_n 2, 1) := by decide +kernel
theorem dX2_drop_34 : decode cX2_drop 34 = .ok (.iload_n 3, 1) := by decide +kernel
theorem dX2_drop_35 : decode cX2_drop 35 = .ok (.invokestatic 40, 3) := by decide +kernel
theorem dX2_drop_38 : decode cX2_drop 38 = .ok (.baload, 1) := by decide +kernel
theorem dX2_drop_39 : decode cX2_drop 39 = .ok (.ifCond .ne 5, 3) := by decide +kernel
theorem dX2_drop_42 : decode cX2_drop 42 = .ok (.iconst 0, 1) := by decide +kernel
theorem dX2_drop_43 : decode cX2_drop 43 = .ok (.ireturn, 1) := by decide +kernel
theorem dX2_drop_44 : decode cX2_drop 44 = .ok (.aload_n 0, 1) := by decide +kernel
theorem dX2_drop_45 : decode cX2_drop 45 = .ok (.getfield 7, 3) := by decide +kernel
theorem dX2_drop_48 : decode cX2_drop 48 = .ok (.iload_n 1, 1) := by decide +kernel
theorem dX2_drop_49 : decode cX2_drop 49 = .ok (.iload_n 2, 1) := by decide +kernel
theorem dX2_drop_50 : decode cX2_drop 50 = .ok (.iload_n 3, 1) := by decide +kernel
theorem dX2_drop_51 : decode cX2_drop 51 = .ok (.invokestatic 40, 3) := by decide +kernel
theorem dX2_drop_54 : decode cX2_drop 54 = .ok (.iconst 0, 1) := by decide +kernel
theorem dX2_drop_55 : decode cX2_drop 55 = .ok (.bastore, 1) := by decide +kernel
theorem dX2_drop_56 : decode cX2_drop 56 = .ok (.aload_n 0, 1) := by decide +kernel
theorem dX2_drop_57 : decode cX2_drop 57 = .ok (.dup, 1) := by decide +kernel
theorem dX2_drop_58 : decode cX2_drop 58 = .ok (.getfield 44, 3) := by decide +kernel
theorem dX2_drop_61 : decode cX2_drop 61 = .ok (.iconst 1, 1) := by decide +kernel
theorem dX2_drop_62 : decode cX2_drop 62 = .ok (.isub, 1) := by decide +kernel
theorem dX2_drop_63 : decode cX2_drop 63 = .ok (.putfield 44, 3) := by decide +kernel
theorem dX2_drop_66 : decode cX2_drop 66 = .ok (.iconst 1, 1) := by decide +kernel
theorem dX2_drop_67 : decode cX2_drop 67 = .ok (.ireturn, 1) := by decide +kernel
theorem dX2_above_0 : decode cX2_above 0 = .ok (.aload_n 0, 1) := by decide +kernel
theorem dX2_above_1 : decode cX2_above 1 = .ok (.iconst 0, 1) := by decide +kernel
theorem dX2_above_2 : decode cX2_above 2 = .ok (.putfield 26, 3) := by decide +kernel
theorem dX2_above_5 : decode cX2_above 5 = .ok (.iload_n 1, 1) := by decide +kernel
theorem dX2_above_6 : decode cX2_above 6 = .ok (.invokestatic 37, 3) := by decide +kernel
theorem dX2_above_9 : decode cX2_above 9 = .ok (.ifCond .eq 15, 3) := by decide +kernel
theorem dX2_above_12 : decode cX2_above 12 = .ok (.iload_n 2, 1) := by decide +kernel
theorem dX2_above_13 : decode cX2_above 13 = .ok (.iconst (-1), 1) := by decide +kernel
theorem dX2_above_14 : decode cX2_above 14 = .ok (.if_icmp .eq 12, 3) := by decide +kernel
theorem dX2_above_17 : decode cX2_above 17 = .ok (.iload_n 2, 1) := by decide +kernel
theorem dX2_above_18 : decode cX2_above 18 = .ok (.invokestatic 37, 3) := by decide +kernel
theorem dX2_above_21 : decode cX2_above 21 = .ok (.ifCond .ne 5, 3) := by decide +kernel
theorem dX2_above_24 : decode cX2_above 24 = .ok (.iconst (-1), 1) := by decide +kernel
theorem dX2_above_25 : decode cX2_above 25 = .ok (.ireturn, 1) := by decide +kernel
theorem dX2_above_26 : decode cX2_above 26 = .ok (.aload_n 0, 1) := by decide +kernel
theorem dX2_above_27 : decode cX2_above 27 = .ok (.getfield 13, 3) := by decide +kernel
theorem dX2_above_30 : decode cX2_above 30 = .ok (.iload_n 1, 1) := by decide +kernel
theorem dX2_above_31 : decode cX2_above 31 = .ok (.iaload, 1) := by decide +kernel
theorem dX2_above_32 : decode cX2_above 32 = .ok (.iload_n 2, 1) := by decide +kernel
theorem dX2_above_33 : decode cX2_above 33 = .ok (.if_icmp .ne 5, 3) := by decide +kernel
theorem dX2_above_36 : decode cX2_above 36 = .ok (.iconst 0, 1) := by decide +kernel
theorem dX2_above_37 : decode cX2_above 37 = .ok (.ireturn, 1) := by decide +kernel
theorem dX2_above_38 : decode cX2_above 38 = .ok (.iload_n 2, 1) := by decide +kernel
theorem dX2_above_39 : decode cX2_above 39 = .ok (.iconst (-1), 1) := by decide +kernel
theorem dX2_above_40 : decode cX2_above 40 = .ok (.if_icmp .eq 15, 3) := by decide +kernel
theorem dX2_above_43 : decode cX2_above 43 = .ok (.aload_n 0, 1) := by decide +kernel
theorem dX2_above_44 : decode cX2_above 44 = .ok (.iload_n 2, 1) := by decide +kernel
theorem dX2_above_45 : decode cX2_above 45 = .ok (.iload_n 1, 1) := by decide +kernel
theorem dX2_above_46 : decode cX2_above 46 = .ok (.invokevirtual 47, 3) := by decide +kernel
theorem dX2_above_49 : decode cX2_above 49 = .ok (.ifCond .eq 6, 3) := by decide +kernel
theorem dX2_above_52 : decode cX2_above 52 = .ok (.bipush (-3), 2) := by decide +kernel
theorem dX2_above_54 : decode cX2_above 54 = .ok (.ireturn, 1) := by decide +kernel
theorem dX2_above_55 : decode cX2_above 55 = .ok (.aload_n 0, 1) := by decide +kernel
theorem dX2_above_56 : decode cX2_above 56 = .ok (.getfield 13, 3) := by decide +kernel
theorem dX2_above_59 : decode cX2_above 59 = .ok (.iload_n 1, 1) := by decide +kernel
theorem dX2_above_60 : decode cX2_above 60 = .ok (.iload_n 2, 1) := by decide +kernel
theorem dX2_above_61 : decode cX2_above 61 = .ok (.iastore, 1) := by decide +kernel
theorem dX2_above_62 : decode cX2_above 62 = .ok (.iconst 1, 1) := by decide +kernel
theorem dX2_above_63 : decode cX2_above 63 = .ok (.ireturn, 1) := by decide +kernel
theorem dX2_isUnder_0 : decode cX2_isUnder 0 = .ok (.iload_n 1, 1) := by decide +kernel
theorem dX2_isUnder_1 : decode cX2_isUnder 1 = .ok (.istore_n 3, 1) := by decide +kernel
theorem dX2_isUnder_2 : decode cX2_isUnder 2 = .ok (.iload_n 3, 1) := by decide +kernel
theorem dX2_isUnder_3 : decode cX2_isUnder 3 = .ok (.iconst (-1), 1) := by decide +kernel
theorem dX2_isUnder_4 : decode cX2_isUnder 4 = .ok (.if_icmp .eq 18, 3) := by decide +kernel
theorem dX2_isUnder_7 : decode cX2_isUnder 7 = .ok (.iload_n 3, 1) := by decide +kernel
theorem dX2_isUnder_8 : decode cX2_isUnder 8 = .ok (.iload_n 2, 1) := by decide +kernel
theorem dX2_isUnder_9 : decode cX2_isUnder 9 = .ok (.if_icmp .eq 13, 3) := by decide +kernel
theorem dX2_isUnder_12 : decode cX2_isUnder 12 = .ok (.aload_n 0, 1) := by decide +kernel
theorem dX2_isUnder_13 : decode cX2_isUnder 13 = .ok (.getfield 13, 3) := by decide +kernel
theorem dX2_isUnder_16 : decode cX2_isUnder 16 = .ok (.iload_n 3, 1) := by decide +kernel
theorem dX2_isUnder_17 : decode cX2_isUnder 17 = .ok (.iaload, 1) := by decide +kernel
theorem dX2_isUnder_18 : decode cX2_isUnder 18 = .ok (.istore_n 3, 1) := by decide +kernel
theorem dX2_isUnder_19 : decode cX2_isUnder 19 = .ok (.goto (-17), 3) := by decide +kernel
theorem dX2_isUnder_22 : decode cX2_isUnder 22 = .ok (.iload_n 3, 1) := by decide +kernel
theorem dX2_isUnder_23 : decode cX2_isUnder 23 = .ok (.iconst (-1), 1) := by decide +kernel
theorem dX2_isUnder_24 : decode cX2_isUnder 24 = .ok (.if_icmp .eq 7, 3) := by decide +kernel
theorem dX2_isUnder_27 : decode cX2_isUnder 27 = .ok (.iconst 1, 1) := by decide +kernel
theorem dX2_isUnder_28 : decode cX2_isUnder 28 = .ok (.goto 4, 3) := by decide +kernel
theorem dX2_isUnder_31 : decode cX2_isUnder 31 = .ok (.iconst 0, 1) := by decide +kernel
theorem dX2_isUnder_32 : decode cX2_isUnder 32 = .ok (.ireturn, 1) := by decide +kernel
theorem dX2_choose_0 : decode cX2_choose 0 = .ok (.aload_n 0, 1) := by decide +kernel
theorem dX2_choose_1 : decode cX2_choose 1 = .ok (.iconst 0, 1) := by decide +kernel
theorem dX2_choose_2 : decode cX2_choose 2 = .ok (.putfield 26, 3) := by decide +kernel
theorem dX2_choose_5 : decode cX2_choose 5 = .ok (.iload_n 1, 1) := by decide +kernel
theorem dX2_choose_6 : decode cX2_choose 6 = .ok (.invokestatic 34, 3) := by decide +kernel
theorem dX2_choose_9 : decode cX2_choose 9 = .ok (.ifCond .eq 10, 3) := by decide +kernel
theorem dX2_choose_12 : decode cX2_choose 12 = .ok (.iload_n 2, 1) := by decide +kernel
theorem dX2_choose_13 : decode cX2_choose 13 = .ok (.invokestatic 37, 3) := by decide +kernel
theorem dX2_choose_16 : decode cX2_choose 16 = .ok (.ifCond .ne 5, 3) := by decide +kernel
theorem dX2_choose_19 : decode cX2_choose 19 = .ok (.iconst (-1), 1) := by decide +kernel
theorem dX2_choose_20 : decode cX2_choose 20 = .ok (.ireturn, 1) := by decide +kernel
theorem dX2_choose_21 : decode cX2_choose 21 = .ok (.aload_n 0, 1) := by decide +kernel
theorem dX2_choose_22 : decode cX2_choose 22 = .ok (.getfield 17, 3) := by decide +kernel
theorem dX2_choose_25 : decode cX2_choose 25 = .ok (.bipush 32, 2) := by decide +kernel
theorem dX2_choose_27 : decode cX2_choose 27 = .ok (.iload_n 1, 1) := by decide +kernel
theorem dX2_choose_28 : decode cX2_choose 28 = .ok (.imul, 1) := by decide +kernel
theorem dX2_choose_29 : decode cX2_choose 29 = .ok (.iload_n 2, 1) := by decide +kernel
theorem dX2_choose_30 : decode cX2_choose 30 = .ok (.iadd, 1) := by decide +kernel
theorem dX2_choose_31 : decode cX2_choose 31 = .ok (.iload_n 3, 1) := by decide +kernel
theorem dX2_choose_32 : decode cX2_choose 32 = .ok (.bastore, 1) := by decide +kernel
theorem dX2_choose_33 : decode cX2_choose 33 = .ok (.aload_n 0, 1) := by decide +kernel
theorem dX2_choose_34 : decode cX2_choose 34 = .ok (.iconst (-1), 1) := by decide +kernel
theorem dX2_choose_35 : decode cX2_choose 35 = .ok (.invokevirtual 61, 3) := by decide +kernel
theorem dX2_choose_38 : decode cX2_choose 38 = .ok (.ireturn, 1) := by decide +kernel
theorem dX2_all_0 : decode cX2_all 0 = .ok (.iconst 0, 1) := by decide +kernel
theorem dX2_all_1 : decode cX2_all 1 = .ok (.istore_n 2, 1) := by decide +kernel
theorem dX2_all_2 : decode cX2_all 2 = .ok (.iconst 0, 1) := by decide +kernel
theorem dX2_all_3 : decode cX2_all 3 = .ok (.istore_n 3, 1) := by decide +kernel
theorem dX2_all_4 : decode cX2_all 4 = .ok (.iload_n 3, 1) := by decide +kernel
theorem dX2_all_5 : decode cX2_all 5 = .ok (.bipush 40, 2) := by decide +kernel
theorem dX2_all_7 : decode cX2_all 7 = .ok (.if_icmp .ge 26, 3) := by decide +kernel
theorem dX2_all_10 : decode cX2_all 10 = .ok (.iload_n 2, 1) := by decide +kernel
theorem dX2_all_11 : decode cX2_all 11 = .ok (.aload_n 0, 1) := by decide +kernel
theorem dX2_all_12 : decode cX2_all 12 = .ok (.iload_n 3, 1) := by decide +kernel
theorem dX2_all_13 : decode cX2_all 13 = .ok (.iload_n 1, 1) := by decide +kernel
theorem dX2_all_14 : decode cX2_all 14 = .ok (.invokevirtual 58, 3) := by decide +kernel
theorem dX2_all_17 : decode cX2_all 17 = .ok (.ifCond .eq 7, 3) := by decide +kernel
theorem dX2_all_20 : decode cX2_all 20 = .ok (.iconst 1, 1) := by decide +kernel
theorem dX2_all_21 : decode cX2_all 21 = .ok (.goto 4, 3) := by decide +kernel
theorem dX2_all_24 : decode cX2_all 24 = .ok (.iconst 0, 1) := by decide +kernel
theorem dX2_all_25 : decode cX2_all 25 = .ok (.iadd, 1) := by decide +kernel
theorem dX2_all_26 : decode cX2_all 26 = .ok (.istore_n 2, 1) := by decide +kernel
theorem dX2_all_27 : decode cX2_all 27 = .ok (.iinc 3 1, 3) := by decide +kernel
theorem dX2_all_30 : decode cX2_all 30 = .ok (.goto (-26), 3) := by decide +kernel
theorem dX2_all_33 : decode cX2_all 33 = .ok (.iload_n 2, 1) := by decide +kernel
theorem dX2_all_34 : decode cX2_all 34 = .ok (.ireturn, 1) := by decide +kernel
theorem dX2_isKeptBut_0 : decode cX2_isKeptBut 0 = .ok (.iconst 1, 1) := by decide +kernel
theorem dX2_isKeptBut_1 : decode cX2_isKeptBut 1 = .ok (.istore_n 3, 1) := by decide +kernel
theorem dX2_isKeptBut_2 : decode cX2_isKeptBut 2 = .ok (.iconst 0, 1) := by decide +kernel
theorem dX2_isKeptBut_3 : decode cX2_isKeptBut 3 = .ok (.istore 4, 2) := by decide +kernel
theorem dX2_isKeptBut_5 : decode cX2_isKeptBut 5 = .ok (.iload 4, 2) := by decide +kernel
theorem dX2_isKeptBut_7 : decode cX2_isKeptBut 7 = .ok (.bipush 8, 2) := by decide +kernel
theorem dX2_isKeptBut_9 : decode cX2_isKeptBut 9 = .ok (.if_icmp .ge 35, 3) := by decide +kernel
theorem dX2_isKeptBut_12 : decode cX2_isKeptBut 12 = .ok (.iload_n 3, 1) := by decide +kernel
theorem dX2_isKeptBut_13 : decode cX2_isKeptBut 13 = .ok (.ifCond .eq 23, 3) := by decide +kernel
theorem dX2_isKeptBut_16 : decode cX2_isKeptBut 16 = .ok (.iload 4, 2) := by decide +kernel
theorem dX2_isKeptBut_18 : decode cX2_isKeptBut 18 = .ok (.iload_n 2, 1) := by decide +kernel
theorem dX2_isKeptBut_19 : decode cX2_isKeptBut 19 = .ok (.if_icmp .eq 13, 3) := by decide +kernel
theorem dX2_isKeptBut_22 : decode cX2_isKeptBut 22 = .ok (.aload_n 0, 1) := by decide +kernel
theorem dX2_isKeptBut_23 : decode cX2_isKeptBut 23 = .ok (.iload_n 1, 1) := by decide +kernel
theorem dX2_isKeptBut_24 : decode cX2_isKeptBut 24 = .ok (.iload 4, 2) := by decide +kernel
theorem dX2_isKeptBut_26 : decode cX2_isKeptBut 26 = .ok (.invokevirtual 55, 3) := by decide +kernel
theorem dX2_isKeptBut_29 : decode cX2_isKeptBut 29 = .ok (.ifCond .eq 7, 3) := by decide +kernel
theorem dX2_isKeptBut_32 : decode cX2_isKeptBut 32 = .ok (.iconst 1, 1) := by decide +kernel
theorem dX2_isKeptBut_33 : decode cX2_isKeptBut 33 = .ok (.goto 4, 3) := by decide +kernel
theorem dX2_isKeptBut_36 : decode cX2_isKeptBut 36 = .ok (.iconst 0, 1) := by decide +kernel
theorem dX2_isKeptBut_37 : decode cX2_isKeptBut 37 = .ok (.istore_n 3, 1) := by decide +kernel
theorem dX2_isKeptBut_38 : decode cX2_isKeptBut 38 = .ok (.iinc 4 1, 3) := by decide +kernel
theorem dX2_isKeptBut_41 : decode cX2_isKeptBut 41 = .ok (.goto (-36), 3) := by decide +kernel
theorem dX2_isKeptBut_44 : decode cX2_isKeptBut 44 = .ok (.iload_n 3, 1) := by decide +kernel
theorem dX2_isKeptBut_45 : decode cX2_isKeptBut 45 = .ok (.ireturn, 1) := by decide +kernel
theorem dX2_isMet_0 : decode cX2_isMet 0 = .ok (.iconst 0, 1) := by decide +kernel
theorem dX2_isMet_1 : decode cX2_isMet 1 = .ok (.istore_n 3, 1) := by decide +kernel
theorem dX2_isMet_2 : decode cX2_isMet 2 = .ok (.iconst 0, 1) := by decide +kernel
theorem dX2_isMet_3 : decode cX2_isMet 3 = .ok (.istore 4, 2) := by decide +kernel
theorem dX2_isMet_5 : decode cX2_isMet 5 = .ok (.iconst 0, 1) := by decide +kernel
theorem dX2_isMet_6 : decode cX2_isMet 6 = .ok (.istore 5, 2) := by decide +kernel
theorem dX2_isMet_8 : decode cX2_isMet 8 = .ok (.iload 5, 2) := by decide +kernel
theorem dX2_isMet_10 : decode cX2_isMet 10 = .ok (.bipush 32, 2) := by decide +kernel
theorem dX2_isMet_12 : decode cX2_isMet 12 = .ok (.if_icmp .ge 49, 3) := by decide +kernel
theorem dX2_isMet_15 : decode cX2_isMet 15 = .ok (.aload_n 0, 1) := by decide +kernel
theorem dX2_isMet_16 : decode cX2_isMet 16 = .ok (.getfield 17, 3) := by decide +kernel
theorem dX2_isMet_19 : decode cX2_isMet 19 = .ok (.bipush 32, 2) := by decide +kernel
theorem dX2_isMet_21 : decode cX2_isMet 21 = .ok (.iload_n 2, 1) := by decide +kernel
theorem dX2_isMet_22 : decode cX2_isMet 22 = .ok (.imul, 1) := by decide +kernel
theorem dX2_isMet_23 : decode cX2_isMet 23 = .ok (.iload 5, 2) := by decide +kernel
theorem dX2_isMet_25 : decode cX2_isMet 25 = .ok (.iadd, 1) := by decide +kernel
theorem dX2_isMet_26 : decode cX2_isMet 26 = .ok (.baload, 1) := by decide +kernel
theorem dX2_isMet_27 : decode cX2_isMet 27 = .ok (.ifCond .eq 28, 3) := by decide +kernel
theorem dX2_isMet_30 : decode cX2_isMet 30 = .ok (.iconst 1, 1) := by decide +kernel
theorem dX2_isMet_31 : decode cX2_isMet 31 = .ok (.istore_n 3, 1) := by decide +kernel
theorem dX2_isMet_32 : decode cX2_isMet 32 = .ok (.iload 4, 2) := by decide +kernel
theorem dX2_isMet_34 : decode cX2_isMet 34 = .ok (.ifCond .ne 14, 3) := by decide +kernel
theorem dX2_isMet_37 : decode cX2_isMet 37 = .ok (.aload_n 0, 1) := by decide +kernel
theorem dX2_isMet_38 : decode cX2_isMet 38 = .ok (.iload_n 1, 1) := by decide +kernel
theorem dX2_isMet_39 : decode cX2_isMet 39 = .ok (.iload_n 2, 1) := by decide +kernel
theorem dX2_isMet_40 : decode cX2_isMet 40 = .ok (.iload 5, 2) := by decide +kernel
theorem dX2_isMet_42 : decode cX2_isMet 42 = .ok (.invokevirtual 51, 3) := by decide +kernel
theorem dX2_isMet_45 : decode cX2_isMet 45 = .ok (.ifCond .eq 7, 3) := by decide +kernel
theorem dX2_isMet_48 : decode cX2_isMet 48 = .ok (.iconst 1, 1) := by decide +kernel
theorem dX2_isMet_49 : decode cX2_isMet 49 = .ok (.goto 4, 3) := by decide +kernel
theorem dX2_isMet_52 : decode cX2_isMet 52 = .ok (.iconst 0, 1) := by decide +kernel
theorem dX2_isMet_53 : decode cX2_isMet 53 = .ok (.istore 4, 2) := by decide +kernel
theorem dX2_isMet_55 : decode cX2_isMet 55 = .ok (.iinc 5 1, 3) := by decide +kernel
theorem dX2_isMet_58 : decode cX2_isMet 58 = .ok (.goto (-50), 3) := by decide +kernel
theorem dX2_isMet_61 : decode cX2_isMet 61 = .ok (.iload 4, 2) := by decide +kernel
theorem dX2_isMet_63 : decode cX2_isMet 63 = .ok (.ifCond .ne 7, 3) := by decide +kernel
theorem dX2_isMet_66 : decode cX2_isMet 66 = .ok (.iload_n 3, 1) := by decide +kernel
theorem dX2_isMet_67 : decode cX2_isMet 67 = .ok (.ifCond .ne 7, 3) := by decide +kernel
theorem dX2_isMet_70 : decode cX2_isMet 70 = .ok (.iconst 1, 1) := by decide +kernel
theorem dX2_isMet_71 : decode cX2_isMet 71 = .ok (.goto 4, 3) := by decide +kernel
theorem dX2_isMet_74 : decode cX2_isMet 74 = .ok (.iconst 0, 1) := by decide +kernel
theorem dX2_isMet_75 : decode cX2_isMet 75 = .ok (.ireturn, 1) := by decide +kernel
theorem dX2_owns_0 : decode cX2_owns 0 = .ok (.iload_n 2, 1) := by decide +kernel
theorem dX2_owns_1 : decode cX2_owns 1 = .ok (.ifCond .le 15, 3) := by decide +kernel
theorem dX2_owns_4 : decode cX2_owns 4 = .ok (.aload_n 0, 1) := by decide +kernel
theorem dX2_owns_5 : decode cX2_owns 5 = .ok (.getfield 7, 3) := by decide +kernel
theorem dX2_owns_8 : decode cX2_owns 8 = .ok (.iload_n 1, 1) := by decide +kernel
theorem dX2_owns_9 : decode cX2_owns 9 = .ok (.iload_n 2, 1) := by decide +kernel
theorem dX2_owns_10 : decode cX2_owns 10 = .ok (.iload_n 3, 1) := by decide +kernel
theorem dX2_owns_11 : decode cX2_owns 11 = .ok (.invokestatic 40, 3) := by decide +kernel
theorem dX2_owns_14 : decode cX2_owns 14 = .ok (.baload, 1) := by decide +kernel
theorem dX2_owns_15 : decode cX2_owns 15 = .ok (.ireturn, 1) := by decide +kernel
theorem dX2_owns_16 : decode cX2_owns 16 = .ok (.iconst 0, 1) := by decide +kernel
theorem dX2_owns_17 : decode cX2_owns 17 = .ok (.istore 4, 2) := by decide +kernel
theorem dX2_owns_19 : decode cX2_owns 19 = .ok (.iconst 0, 1) := by decide +kernel
theorem dX2_owns_20 : decode cX2_owns 20 = .ok (.istore 5, 2) := by decide +kernel
theorem dX2_owns_22 : decode cX2_owns 22 = .ok (.iload 5, 2) := by decide +kernel
theorem dX2_owns_24 : decode cX2_owns 24 = .ok (.bipush 32, 2) := by decide +kernel
theorem dX2_owns_26 : decode cX2_owns 26 = .ok (.if_icmp .ge 46, 3) := by decide +kernel
theorem dX2_owns_29 : decode cX2_owns 29 = .ok (.iload 4, 2) := by decide +kernel
theorem dX2_owns_31 : decode cX2_owns 31 = .ok (.ifCond .ne 28, 3) := by decide +kernel
theorem dX2_owns_34 : decode cX2_owns 34 = .ok (.aload_n 0, 1) := by decide +kernel
theorem dX2_owns_35 : decode cX2_owns 35 = .ok (.getfield 7, 3) := by decide +kernel
theorem dX2_owns_38 : decode cX2_owns 38 = .ok (.iload_n 1, 1) := by decide +kernel
theorem dX2_owns_39 : decode cX2_owns 39 = .ok (.iconst 0, 1) := by decide +kernel
theorem dX2_owns_40 : decode cX2_owns 40 = .ok (.iload 5, 2) := by decide +kernel
theorem dX2_owns_42 : decode cX2_owns 42 = .ok (.invokestatic 40, 3) := by decide +kernel
theorem dX2_owns_45 : decode cX2_owns 45 = .ok (.baload, 1) := by decide +kernel
theorem dX2_owns_46 : decode cX2_owns 46 = .ok (.ifCond .eq 17, 3) := by decide +kernel
theorem dX2_owns_49 : decode cX2_owns 49 = .ok (.aload_n 0, 1) := by decide +kernel
theorem dX2_owns_50 : decode cX2_owns 50 = .ok (.iload 5, 2) := by decide +kernel
theorem dX2_owns_52 : decode cX2_owns 52 = .ok (.iload_n 3, 1) := by decide +kernel
theorem dX2_owns_53 : decode cX2_owns 53 = .ok (.invokevirtual 47, 3) := by decide +kernel
theorem dX2_owns_56 : decode cX2_owns 56 = .ok (.ifCond .eq 7, 3) := by decide +kernel
theorem dX2_owns_59 : decode cX2_owns 59 = .ok (.iconst 1, 1) := by decide +kernel
theorem dX2_owns_60 : decode cX2_owns 60 = .ok (.goto 4, 3) := by decide +kernel
theorem dX2_owns_63 : decode cX2_owns 63 = .ok (.iconst 0, 1) := by decide +kernel
theorem dX2_owns_64 : decode cX2_owns 64 = .ok (.istore 4, 2) := by decide +kernel
theorem dX2_owns_66 : decode cX2_owns 66 = .ok (.iinc 5 1, 3) := by decide +kernel
theorem dX2_owns_69 : decode cX2_owns 69 = .ok (.goto (-47), 3) := by decide +kernel
theorem dX2_owns_72 : decode cX2_owns 72 = .ok (.iload 4, 2) := by decide +kernel
theorem dX2_owns_74 : decode cX2_owns 74 = .ok (.ireturn, 1) := by decide +kernel
theorem dX2_kept_0 : decode cX2_kept 0 = .ok (.aload_n 0, 1) := by decide +kernel
theorem dX2_kept_1 : decode cX2_kept 1 = .ok (.iconst 0, 1) := by decide +kernel
theorem dX2_kept_2 : decode cX2_kept 2 = .ok (.putfield 26, 3) := by decide +kernel
theorem dX2_kept_5 : decode cX2_kept 5 = .ok (.aload_n 0, 1) := by decide +kernel
theorem dX2_kept_6 : decode cX2_kept 6 = .ok (.iconst (-1), 1) := by decide +kernel
theorem dX2_kept_7 : decode cX2_kept 7 = .ok (.invokevirtual 61, 3) := by decide +kernel
theorem dX2_kept_10 : decode cX2_kept 10 = .ok (.ireturn, 1) := by decide +kernel
theorem dX2_isKept_0 : decode cX2_isKept 0 = .ok (.aload_n 0, 1) := by decide +kernel
theorem dX2_isKept_1 : decode cX2_isKept 1 = .ok (.iconst 0, 1) := by decide +kernel
theorem dX2_isKept_2 : decode cX2_isKept 2 = .ok (.putfield 26, 3) := by decide +kernel
theorem dX2_isKept_5 : decode cX2_isKept 5 = .ok (.iload_n 1, 1) := by decide +kernel
theorem dX2_isKept_6 : decode cX2_isKept 6 = .ok (.invokestatic 30, 3) := by decide +kernel
theorem dX2_isKept_9 : decode cX2_isKept 9 = .ok (.ifCond .ne 7, 3) := by decide +kernel
theorem dX2_isKept_12 : decode cX2_isKept 12 = .ok (.iconst (-1), 1) := by decide +kernel
theorem dX2_isKept_13 : decode cX2_isKept 13 = .ok (.goto 17, 3) := by decide +kernel
theorem dX2_isKept_16 : decode cX2_isKept 16 = .ok (.aload_n 0, 1) := by decide +kernel
theorem dX2_isKept_17 : decode cX2_isKept 17 = .ok (.iload_n 1, 1) := by decide +kernel
theorem dX2_isKept_18 : decode cX2_isKept 18 = .ok (.iconst (-1), 1) := by decide +kernel
theorem dX2_isKept_19 : decode cX2_isKept 19 = .ok (.invokevirtual 58, 3) := by decide +kernel
theorem dX2_isKept_22 : decode cX2_isKept 22 = .ok (.ifCond .eq 7, 3) := by decide +kernel
theorem dX2_isKept_25 : decode cX2_isKept 25 = .ok (.iconst 1, 1) := by decide +kernel
theorem dX2_isKept_26 : decode cX2_isKept 26 = .ok (.goto 4, 3) := by decide +kernel
theorem dX2_isKept_29 : decode cX2_isKept 29 = .ok (.iconst 0, 1) := by decide +kernel
theorem dX2_isKept_30 : decode cX2_isKept 30 = .ok (.ireturn, 1) := by decide +kernel
theorem dX2_facet_0 : decode cX2_facet 0 = .ok (.aload_n 0, 1) := by decide +kernel
theorem dX2_facet_1 : decode cX2_facet 1 = .ok (.iconst 0, 1) := by decide +kernel
theorem dX2_facet_2 : decode cX2_facet 2 = .ok (.putfield 26, 3) := by decide +kernel
theorem dX2_facet_5 : decode cX2_facet 5 = .ok (.iload_n 1, 1) := by decide +kernel
theorem dX2_facet_6 : decode cX2_facet 6 = .ok (.invokestatic 34, 3) := by decide +kernel
theorem dX2_facet_9 : decode cX2_facet 9 = .ok (.ifCond .eq 19, 3) := by decide +kernel
theorem dX2_facet_12 : decode cX2_facet 12 = .ok (.iload_n 2, 1) := by decide +kernel
theorem dX2_facet_13 : decode cX2_facet 13 = .ok (.invokestatic 37, 3) := by decide +kernel
theorem dX2_facet_16 : decode cX2_facet 16 = .ok (.ifCond .eq 12, 3) := by decide +kernel
theorem dX2_facet_19 : decode cX2_facet 19 = .ok (.aload_n 0, 1) := by decide +kernel
theorem dX2_facet_20 : decode cX2_facet 20 = .ok (.iload_n 1, 1) := by decide +kernel
theorem dX2_facet_21 : decode cX2_facet 21 = .ok (.iload_n 2, 1) := by decide +kernel
theorem dX2_facet_22 : decode cX2_facet 22 = .ok (.invokevirtual 65, 3) := by decide +kernel
theorem dX2_facet_25 : decode cX2_facet 25 = .ok (.goto 4, 3) := by decide +kernel
theorem dX2_facet_28 : decode cX2_facet 28 = .ok (.iconst (-1), 1) := by decide +kernel
theorem dX2_facet_29 : decode cX2_facet 29 = .ok (.ireturn, 1) := by decide +kernel
theorem dX2_count_0 : decode cX2_count 0 = .ok (.iconst 0, 1) := by decide +kernel
theorem dX2_count_1 : decode cX2_count 1 = .ok (.istore_n 3, 1) := by decide +kernel
theorem dX2_count_2 : decode cX2_count 2 = .ok (.iconst 0, 1) := by decide +kernel
theorem dX2_count_3 : decode cX2_count 3 = .ok (.istore 4, 2) := by decide +kernel
theorem dX2_count_5 : decode cX2_count 5 = .ok (.iload 4, 2) := by decide +kernel
theorem dX2_count_7 : decode cX2_count 7 = .ok (.bipush 40, 2) := by decide +kernel
end
section
set_option maxRecDepth 100000
theorem dX2_count_9 : decode cX2_count 9 = .ok (.if_icmp .ge 38, 3) := by decide +kernel
theorem dX2_count_12 : decode cX2_count 12 = .ok (.iload_n 3, 1) := by decide +kernel
theorem dX2_count_13 : decode cX2_count 13 = .ok (.aload_n 0, 1) := by decide +kernel
theorem dX2_count_14 : decode cX2_count 14 = .ok (.iload 4, 2) := by decide +kernel
theorem dX2_count_16 : decode cX2_count 16 = .ok (.iload_n 1, 1) := by decide +kernel
theorem dX2_count_17 : decode cX2_count 17 = .ok (.iload_n 2, 1) := by decide +kernel
theorem dX2_count_18 : decode cX2_count 18 = .ok (.invokevirtual 51, 3) := by decide +kernel
theorem dX2_count_21 : decode cX2_count 21 = .ok (.ifCond .eq 17, 3) := by decide +kernel
theorem dX2_count_24 : decode cX2_count 24 = .ok (.aload_n 0, 1) := by decide +kernel
theorem dX2_count_25 : decode cX2_count 25 = .ok (.iload 4, 2) := by decide +kernel
theorem dX2_count_27 : decode cX2_count 27 = .ok (.iload_n 1, 1) := by decide +kernel
theorem dX2_count_28 : decode cX2_count 28 = .ok (.invokevirtual 58, 3) := by decide +kernel
theorem dX2_count_31 : decode cX2_count 31 = .ok (.ifCond .eq 7, 3) := by decide +kernel
theorem dX2_count_34 : decode cX2_count 34 = .ok (.iconst 1, 1) := by decide +kernel
theorem dX2_count_35 : decode cX2_count 35 = .ok (.goto 4, 3) := by decide +kernel
theorem dX2_count_38 : decode cX2_count 38 = .ok (.iconst 0, 1) := by decide +kernel
theorem dX2_count_39 : decode cX2_count 39 = .ok (.iadd, 1) := by decide +kernel
theorem dX2_count_40 : decode cX2_count 40 = .ok (.istore_n 3, 1) := by decide +kernel
theorem dX2_count_41 : decode cX2_count 41 = .ok (.iinc 4 1, 3) := by decide +kernel
theorem dX2_count_44 : decode cX2_count 44 = .ok (.goto (-39), 3) := by decide +kernel
theorem dX2_count_47 : decode cX2_count 47 = .ok (.iload_n 3, 1) := by decide +kernel
theorem dX2_count_48 : decode cX2_count 48 = .ok (.ireturn, 1) := by decide +kernel
theorem dX2_top_0 : decode cX2_top 0 = .ok (.aload_n 0, 1) := by decide +kernel
theorem dX2_top_1 : decode cX2_top 1 = .ok (.iconst 0, 1) := by decide +kernel
theorem dX2_top_2 : decode cX2_top 2 = .ok (.putfield 26, 3) := by decide +kernel
theorem dX2_top_5 : decode cX2_top 5 = .ok (.iload_n 1, 1) := by decide +kernel
theorem dX2_top_6 : decode cX2_top 6 = .ok (.invokestatic 34, 3) := by decide +kernel
theorem dX2_top_9 : decode cX2_top 9 = .ok (.ifCond .ne 5, 3) := by decide +kernel
theorem dX2_top_12 : decode cX2_top 12 = .ok (.iconst (-1), 1) := by decide +kernel
theorem dX2_top_13 : decode cX2_top 13 = .ok (.ireturn, 1) := by decide +kernel
theorem dX2_top_14 : decode cX2_top 14 = .ok (.iconst 0, 1) := by decide +kernel
theorem dX2_top_15 : decode cX2_top 15 = .ok (.istore_n 3, 1) := by decide +kernel
theorem dX2_top_16 : decode cX2_top 16 = .ok (.iload_n 3, 1) := by decide +kernel
theorem dX2_top_17 : decode cX2_top 17 = .ok (.bipush 32, 2) := by decide +kernel
theorem dX2_top_19 : decode cX2_top 19 = .ok (.if_icmp .ge 21, 3) := by decide +kernel
theorem dX2_top_22 : decode cX2_top 22 = .ok (.aload_n 0, 1) := by decide +kernel
theorem dX2_top_23 : decode cX2_top 23 = .ok (.getfield 23, 3) := by decide +kernel
theorem dX2_top_26 : decode cX2_top 26 = .ok (.iload_n 3, 1) := by decide +kernel
theorem dX2_top_27 : decode cX2_top 27 = .ok (.aload_n 0, 1) := by decide +kernel
theorem dX2_top_28 : decode cX2_top 28 = .ok (.iload_n 1, 1) := by decide +kernel
theorem dX2_top_29 : decode cX2_top 29 = .ok (.iload_n 3, 1) := by decide +kernel
theorem dX2_top_30 : decode cX2_top 30 = .ok (.invokevirtual 65, 3) := by decide +kernel
theorem dX2_top_33 : decode cX2_top 33 = .ok (.iastore, 1) := by decide +kernel
theorem dX2_top_34 : decode cX2_top 34 = .ok (.iinc 3 1, 3) := by decide +kernel
theorem dX2_top_37 : decode cX2_top 37 = .ok (.goto (-21), 3) := by decide +kernel
theorem dX2_top_40 : decode cX2_top 40 = .ok (.iconst 0, 1) := by decide +kernel
theorem dX2_top_41 : decode cX2_top 41 = .ok (.istore_n 3, 1) := by decide +kernel
theorem dX2_top_42 : decode cX2_top 42 = .ok (.iload_n 3, 1) := by decide +kernel
theorem dX2_top_43 : decode cX2_top 43 = .ok (.bipush 32, 2) := by decide +kernel
theorem dX2_top_45 : decode cX2_top 45 = .ok (.if_icmp .ge 89, 3) := by decide +kernel
theorem dX2_top_48 : decode cX2_top 48 = .ok (.aload_n 0, 1) := by decide +kernel
theorem dX2_top_49 : decode cX2_top 49 = .ok (.getfield 23, 3) := by decide +kernel
theorem dX2_top_52 : decode cX2_top 52 = .ok (.iload_n 3, 1) := by decide +kernel
theorem dX2_top_53 : decode cX2_top 53 = .ok (.iaload, 1) := by decide +kernel
theorem dX2_top_54 : decode cX2_top 54 = .ok (.istore 4, 2) := by decide +kernel
theorem dX2_top_56 : decode cX2_top 56 = .ok (.iconst 0, 1) := by decide +kernel
theorem dX2_top_57 : decode cX2_top 57 = .ok (.istore 5, 2) := by decide +kernel
theorem dX2_top_59 : decode cX2_top 59 = .ok (.iconst 0, 1) := by decide +kernel
theorem dX2_top_60 : decode cX2_top 60 = .ok (.istore 6, 2) := by decide +kernel
theorem dX2_top_62 : decode cX2_top 62 = .ok (.iload 6, 2) := by decide +kernel
theorem dX2_top_64 : decode cX2_top 64 = .ok (.bipush 32, 2) := by decide +kernel
theorem dX2_top_66 : decode cX2_top 66 = .ok (.if_icmp .ge 49, 3) := by decide +kernel
theorem dX2_top_69 : decode cX2_top 69 = .ok (.iload 5, 2) := by decide +kernel
theorem dX2_top_71 : decode cX2_top 71 = .ok (.aload_n 0, 1) := by decide +kernel
theorem dX2_top_72 : decode cX2_top 72 = .ok (.getfield 23, 3) := by decide +kernel
theorem dX2_top_75 : decode cX2_top 75 = .ok (.iload 6, 2) := by decide +kernel
theorem dX2_top_77 : decode cX2_top 77 = .ok (.iaload, 1) := by decide +kernel
theorem dX2_top_78 : decode cX2_top 78 = .ok (.iload 4, 2) := by decide +kernel
theorem dX2_top_80 : decode cX2_top 80 = .ok (.if_icmp .gt 21, 3) := by decide +kernel
theorem dX2_top_83 : decode cX2_top 83 = .ok (.aload_n 0, 1) := by decide +kernel
theorem dX2_top_84 : decode cX2_top 84 = .ok (.getfield 23, 3) := by decide +kernel
theorem dX2_top_87 : decode cX2_top 87 = .ok (.iload 6, 2) := by decide +kernel
theorem dX2_top_89 : decode cX2_top 89 = .ok (.iaload, 1) := by decide +kernel
theorem dX2_top_90 : decode cX2_top 90 = .ok (.iload 4, 2) := by decide +kernel
theorem dX2_top_92 : decode cX2_top 92 = .ok (.if_icmp .ne 13, 3) := by decide +kernel
theorem dX2_top_95 : decode cX2_top 95 = .ok (.iload 6, 2) := by decide +kernel
theorem dX2_top_97 : decode cX2_top 97 = .ok (.iload_n 3, 1) := by decide +kernel
theorem dX2_top_98 : decode cX2_top 98 = .ok (.if_icmp .ge 7, 3) := by decide +kernel
theorem dX2_top_101 : decode cX2_top 101 = .ok (.iconst 1, 1) := by decide +kernel
theorem dX2_top_102 : decode cX2_top 102 = .ok (.goto 4, 3) := by decide +kernel
theorem dX2_top_105 : decode cX2_top 105 = .ok (.iconst 0, 1) := by decide +kernel
theorem dX2_top_106 : decode cX2_top 106 = .ok (.iadd, 1) := by decide +kernel
theorem dX2_top_107 : decode cX2_top 107 = .ok (.istore 5, 2) := by decide +kernel
theorem dX2_top_109 : decode cX2_top 109 = .ok (.iinc 6 1, 3) := by decide +kernel
theorem dX2_top_112 : decode cX2_top 112 = .ok (.goto (-50), 3) := by decide +kernel
theorem dX2_top_115 : decode cX2_top 115 = .ok (.iload 4, 2) := by decide +kernel
theorem dX2_top_117 : decode cX2_top 117 = .ok (.ifCond .le 11, 3) := by decide +kernel
theorem dX2_top_120 : decode cX2_top 120 = .ok (.iload 5, 2) := by decide +kernel
theorem dX2_top_122 : decode cX2_top 122 = .ok (.iload_n 2, 1) := by decide +kernel
theorem dX2_top_123 : decode cX2_top 123 = .ok (.if_icmp .ne 5, 3) := by decide +kernel
theorem dX2_top_126 : decode cX2_top 126 = .ok (.iload_n 3, 1) := by decide +kernel
theorem dX2_top_127 : decode cX2_top 127 = .ok (.ireturn, 1) := by decide +kernel
theorem dX2_top_128 : decode cX2_top 128 = .ok (.iinc 3 1, 3) := by decide +kernel
theorem dX2_top_131 : decode cX2_top 131 = .ok (.goto (-89), 3) := by decide +kernel
theorem dX2_top_134 : decode cX2_top 134 = .ok (.iconst (-1), 1) := by decide +kernel
theorem dX2_top_135 : decode cX2_top 135 = .ok (.ireturn, 1) := by decide +kernel
theorem dX2_range_0 : decode cX2_range 0 = .ok (.aload_n 0, 1) := by decide +kernel
theorem dX2_range_1 : decode cX2_range 1 = .ok (.iconst 0, 1) := by decide +kernel
theorem dX2_range_2 : decode cX2_range 2 = .ok (.putfield 26, 3) := by decide +kernel
theorem dX2_range_5 : decode cX2_range 5 = .ok (.iload_n 1, 1) := by decide +kernel
theorem dX2_range_6 : decode cX2_range 6 = .ok (.invokestatic 34, 3) := by decide +kernel
theorem dX2_range_9 : decode cX2_range 9 = .ok (.ifCond .ne 5, 3) := by decide +kernel
theorem dX2_range_12 : decode cX2_range 12 = .ok (.iconst (-1), 1) := by decide +kernel
theorem dX2_range_13 : decode cX2_range 13 = .ok (.ireturn, 1) := by decide +kernel
theorem dX2_range_14 : decode cX2_range 14 = .ok (.iconst 0, 1) := by decide +kernel
theorem dX2_range_15 : decode cX2_range 15 = .ok (.istore 4, 2) := by decide +kernel
theorem dX2_range_17 : decode cX2_range 17 = .ok (.iconst 0, 1) := by decide +kernel
theorem dX2_range_18 : decode cX2_range 18 = .ok (.istore 5, 2) := by decide +kernel
theorem dX2_range_20 : decode cX2_range 20 = .ok (.iload 5, 2) := by decide +kernel
theorem dX2_range_22 : decode cX2_range 22 = .ok (.bipush 40, 2) := by decide +kernel
theorem dX2_range_24 : decode cX2_range 24 = .ok (.if_icmp .ge 89, 3) := by decide +kernel
theorem dX2_range_27 : decode cX2_range 27 = .ok (.iconst 0, 1) := by decide +kernel
theorem dX2_range_28 : decode cX2_range 28 = .ok (.istore 6, 2) := by decide +kernel
theorem dX2_range_30 : decode cX2_range 30 = .ok (.iconst 0, 1) := by decide +kernel
theorem dX2_range_31 : decode cX2_range 31 = .ok (.istore 7, 2) := by decide +kernel
theorem dX2_range_33 : decode cX2_range 33 = .ok (.iload 7, 2) := by decide +kernel
theorem dX2_range_35 : decode cX2_range 35 = .ok (.bipush 32, 2) := by decide +kernel
theorem dX2_range_37 : decode cX2_range 37 = .ok (.if_icmp .ge 45, 3) := by decide +kernel
theorem dX2_range_40 : decode cX2_range 40 = .ok (.iload 6, 2) := by decide +kernel
theorem dX2_range_42 : decode cX2_range 42 = .ok (.ifCond .ne 27, 3) := by decide +kernel
theorem dX2_range_45 : decode cX2_range 45 = .ok (.iload 7, 2) := by decide +kernel
theorem dX2_range_47 : decode cX2_range 47 = .ok (.iload_n 2, 1) := by decide +kernel
theorem dX2_range_48 : decode cX2_range 48 = .ok (.if_icmp .lt 25, 3) := by decide +kernel
theorem dX2_range_51 : decode cX2_range 51 = .ok (.iload 7, 2) := by decide +kernel
theorem dX2_range_53 : decode cX2_range 53 = .ok (.iload_n 3, 1) := by decide +kernel
theorem dX2_range_54 : decode cX2_range 54 = .ok (.if_icmp .gt 19, 3) := by decide +kernel
theorem dX2_range_57 : decode cX2_range 57 = .ok (.aload_n 0, 1) := by decide +kernel
theorem dX2_range_58 : decode cX2_range 58 = .ok (.iload 5, 2) := by decide +kernel
theorem dX2_range_60 : decode cX2_range 60 = .ok (.iload_n 1, 1) := by decide +kernel
theorem dX2_range_61 : decode cX2_range 61 = .ok (.iload 7, 2) := by decide +kernel
theorem dX2_range_63 : decode cX2_range 63 = .ok (.invokevirtual 51, 3) := by decide +kernel
theorem dX2_range_66 : decode cX2_range 66 = .ok (.ifCond .eq 7, 3) := by decide +kernel
theorem dX2_range_69 : decode cX2_range 69 = .ok (.iconst 1, 1) := by decide +kernel
theorem dX2_range_70 : decode cX2_range 70 = .ok (.goto 4, 3) := by decide +kernel
theorem dX2_range_73 : decode cX2_range 73 = .ok (.iconst 0, 1) := by decide +kernel
theorem dX2_range_74 : decode cX2_range 74 = .ok (.istore 6, 2) := by decide +kernel
theorem dX2_range_76 : decode cX2_range 76 = .ok (.iinc 7 1, 3) := by decide +kernel
theorem dX2_range_79 : decode cX2_range 79 = .ok (.goto (-46), 3) := by decide +kernel
theorem dX2_range_82 : decode cX2_range 82 = .ok (.iload 4, 2) := by decide +kernel
theorem dX2_range_84 : decode cX2_range 84 = .ok (.iload 6, 2) := by decide +kernel
theorem dX2_range_86 : decode cX2_range 86 = .ok (.ifCond .eq 17, 3) := by decide +kernel
theorem dX2_range_89 : decode cX2_range 89 = .ok (.aload_n 0, 1) := by decide +kernel
theorem dX2_range_90 : decode cX2_range 90 = .ok (.iload 5, 2) := by decide +kernel
theorem dX2_range_92 : decode cX2_range 92 = .ok (.iload_n 1, 1) := by decide +kernel
theorem dX2_range_93 : decode cX2_range 93 = .ok (.invokevirtual 58, 3) := by decide +kernel
theorem dX2_range_96 : decode cX2_range 96 = .ok (.ifCond .eq 7, 3) := by decide +kernel
theorem dX2_range_99 : decode cX2_range 99 = .ok (.iconst 1, 1) := by decide +kernel
theorem dX2_range_100 : decode cX2_range 100 = .ok (.goto 4, 3) := by decide +kernel
theorem dX2_range_103 : decode cX2_range 103 = .ok (.iconst 0, 1) := by decide +kernel
theorem dX2_range_104 : decode cX2_range 104 = .ok (.iadd, 1) := by decide +kernel
theorem dX2_range_105 : decode cX2_range 105 = .ok (.istore 4, 2) := by decide +kernel
theorem dX2_range_107 : decode cX2_range 107 = .ok (.iinc 5 1, 3) := by decide +kernel
theorem dX2_range_110 : decode cX2_range 110 = .ok (.goto (-90), 3) := by decide +kernel
theorem dX2_range_113 : decode cX2_range 113 = .ok (.iload 4, 2) := by decide +kernel
theorem dX2_range_115 : decode cX2_range 115 = .ok (.ireturn, 1) := by decide +kernel
theorem dX2_sum_0 : decode cX2_sum 0 = .ok (.aload_n 0, 1) := by decide +kernel
theorem dX2_sum_1 : decode cX2_sum 1 = .ok (.iconst 0, 1) := by decide +kernel
theorem dX2_sum_2 : decode cX2_sum 2 = .ok (.putfield 26, 3) := by decide +kernel
theorem dX2_sum_5 : decode cX2_sum 5 = .ok (.iload_n 1, 1) := by decide +kernel
theorem dX2_sum_6 : decode cX2_sum 6 = .ok (.invokestatic 34, 3) := by decide +kernel
theorem dX2_sum_9 : decode cX2_sum 9 = .ok (.ifCond .eq 17, 3) := by decide +kernel
theorem dX2_sum_12 : decode cX2_sum 12 = .ok (.iload_n 2, 1) := by decide +kernel
theorem dX2_sum_13 : decode cX2_sum 13 = .ok (.invokestatic 37, 3) := by decide +kernel
theorem dX2_sum_16 : decode cX2_sum 16 = .ok (.ifCond .eq 10, 3) := by decide +kernel
theorem dX2_sum_19 : decode cX2_sum 19 = .ok (.iload_n 3, 1) := by decide +kernel
theorem dX2_sum_20 : decode cX2_sum 20 = .ok (.invokestatic 34, 3) := by decide +kernel
theorem dX2_sum_23 : decode cX2_sum 23 = .ok (.ifCond .ne 5, 3) := by decide +kernel
theorem dX2_sum_26 : decode cX2_sum 26 = .ok (.iconst (-1), 1) := by decide +kernel
theorem dX2_sum_27 : decode cX2_sum 27 = .ok (.ireturn, 1) := by decide +kernel
theorem dX2_sum_28 : decode cX2_sum 28 = .ok (.iconst 0, 1) := by decide +kernel
theorem dX2_sum_29 : decode cX2_sum 29 = .ok (.istore 4, 2) := by decide +kernel
theorem dX2_sum_31 : decode cX2_sum 31 = .ok (.iconst 0, 1) := by decide +kernel
theorem dX2_sum_32 : decode cX2_sum 32 = .ok (.istore 5, 2) := by decide +kernel
theorem dX2_sum_34 : decode cX2_sum 34 = .ok (.iload 5, 2) := by decide +kernel
theorem dX2_sum_36 : decode cX2_sum 36 = .ok (.bipush 40, 2) := by decide +kernel
theorem dX2_sum_38 : decode cX2_sum 38 = .ok (.if_icmp .ge 81, 3) := by decide +kernel
theorem dX2_sum_41 : decode cX2_sum 41 = .ok (.aload_n 0, 1) := by decide +kernel
theorem dX2_sum_42 : decode cX2_sum 42 = .ok (.iload 5, 2) := by decide +kernel
theorem dX2_sum_44 : decode cX2_sum 44 = .ok (.iload_n 1, 1) := by decide +kernel
theorem dX2_sum_45 : decode cX2_sum 45 = .ok (.iload_n 2, 1) := by decide +kernel
theorem dX2_sum_46 : decode cX2_sum 46 = .ok (.invokevirtual 51, 3) := by decide +kernel
theorem dX2_sum_49 : decode cX2_sum 49 = .ok (.ifCond .eq 17, 3) := by decide +kernel
theorem dX2_sum_52 : decode cX2_sum 52 = .ok (.aload_n 0, 1) := by decide +kernel
theorem dX2_sum_53 : decode cX2_sum 53 = .ok (.iload 5, 2) := by decide +kernel
theorem dX2_sum_55 : decode cX2_sum 55 = .ok (.iconst (-1), 1) := by decide +kernel
theorem dX2_sum_56 : decode cX2_sum 56 = .ok (.invokevirtual 58, 3) := by decide +kernel
theorem dX2_sum_59 : decode cX2_sum 59 = .ok (.ifCond .eq 7, 3) := by decide +kernel
theorem dX2_sum_62 : decode cX2_sum 62 = .ok (.iconst 1, 1) := by decide +kernel
theorem dX2_sum_63 : decode cX2_sum 63 = .ok (.goto 4, 3) := by decide +kernel
theorem dX2_sum_66 : decode cX2_sum 66 = .ok (.iconst 0, 1) := by decide +kernel
theorem dX2_sum_67 : decode cX2_sum 67 = .ok (.istore 6, 2) := by decide +kernel
theorem dX2_sum_69 : decode cX2_sum 69 = .ok (.iconst 0, 1) := by decide +kernel
theorem dX2_sum_70 : decode cX2_sum 70 = .ok (.istore 7, 2) := by decide +kernel
theorem dX2_sum_72 : decode cX2_sum 72 = .ok (.iload 7, 2) := by decide +kernel
theorem dX2_sum_74 : decode cX2_sum 74 = .ok (.bipush 32, 2) := by decide +kernel
theorem dX2_sum_76 : decode cX2_sum 76 = .ok (.if_icmp .ge 37, 3) := by decide +kernel
theorem dX2_sum_79 : decode cX2_sum 79 = .ok (.iload 6, 2) := by decide +kernel
theorem dX2_sum_81 : decode cX2_sum 81 = .ok (.ifCond .eq 32, 3) := by decide +kernel
theorem dX2_sum_84 : decode cX2_sum 84 = .ok (.iload 4, 2) := by decide +kernel
theorem dX2_sum_86 : decode cX2_sum 86 = .ok (.aload_n 0, 1) := by decide +kernel
theorem dX2_sum_87 : decode cX2_sum 87 = .ok (.iload 5, 2) := by decide +kernel
theorem dX2_sum_89 : decode cX2_sum 89 = .ok (.iload_n 3, 1) := by decide +kernel
theorem dX2_sum_90 : decode cX2_sum 90 = .ok (.iload 7, 2) := by decide +kernel
theorem dX2_sum_92 : decode cX2_sum 92 = .ok (.invokevirtual 51, 3) := by decide +kernel
theorem dX2_sum_95 : decode cX2_sum 95 = .ok (.ifCond .eq 8, 3) := by decide +kernel
theorem dX2_sum_98 : decode cX2_sum 98 = .ok (.iload 7, 2) := by decide +kernel
theorem dX2_sum_100 : decode cX2_sum 100 = .ok (.goto 4, 3) := by decide +kernel
theorem dX2_sum_103 : decode cX2_sum 103 = .ok (.iconst 0, 1) := by decide +kernel
theorem dX2_sum_104 : decode cX2_sum 104 = .ok (.iadd, 1) := by decide +kernel
theorem dX2_sum_105 : decode cX2_sum 105 = .ok (.istore 4, 2) := by decide +kernel
theorem dX2_sum_107 : decode cX2_sum 107 = .ok (.iinc 7 1, 3) := by decide +kernel
theorem dX2_sum_110 : decode cX2_sum 110 = .ok (.goto (-38), 3) := by decide +kernel
theorem dX2_sum_113 : decode cX2_sum 113 = .ok (.iinc 5 1, 3) := by decide +kernel
theorem dX2_sum_116 : decode cX2_sum 116 = .ok (.goto (-82), 3) := by decide +kernel
theorem dX2_sum_119 : decode cX2_sum 119 = .ok (.iload 4, 2) := by decide +kernel
theorem dX2_sum_121 : decode cX2_sum 121 = .ok (.ireturn, 1) := by decide +kernel
theorem dX2_share_0 : decode cX2_share 0 = .ok (.iload_n 1, 1) := by decide +kernel
theorem dX2_share_1 : decode cX2_share 1 = .ok (.invokestatic 34, 3) := by decide +kernel
theorem dX2_share_4 : decode cX2_share 4 = .ok (.ifCond .eq 18, 3) := by decide +kernel
theorem dX2_share_7 : decode cX2_share 7 = .ok (.iload_n 2, 1) := by decide +kernel
theorem dX2_share_8 : decode cX2_share 8 = .ok (.invokestatic 37, 3) := by decide +kernel
theorem dX2_share_11 : decode cX2_share 11 = .ok (.ifCond .eq 11, 3) := by decide +kernel
theorem dX2_share_14 : decode cX2_share 14 = .ok (.aload_n 0, 1) := by decide +kernel
theorem dX2_share_15 : decode cX2_share 15 = .ok (.iload_n 1, 1) := by decide +kernel
theorem dX2_share_16 : decode cX2_share 16 = .ok (.invokevirtual 61, 3) := by decide +kernel
theorem dX2_share_19 : decode cX2_share 19 = .ok (.goto 4, 3) := by decide +kernel
theorem dX2_share_22 : decode cX2_share 22 = .ok (.iconst 0, 1) := by decide +kernel
theorem dX2_share_23 : decode cX2_share 23 = .ok (.istore 4, 2) := by decide +kernel
theorem dX2_share_25 : decode cX2_share 25 = .ok (.aload_n 0, 1) := by decide +kernel
theorem dX2_share_26 : decode cX2_share 26 = .ok (.iload 4, 2) := by decide +kernel
theorem dX2_share_28 : decode cX2_share 28 = .ok (.ifCond .ne 7, 3) := by decide +kernel
theorem dX2_share_31 : decode cX2_share 31 = .ok (.iconst 1, 1) := by decide +kernel
theorem dX2_share_32 : decode cX2_share 32 = .ok (.goto 4, 3) := by decide +kernel
theorem dX2_share_35 : decode cX2_share 35 = .ok (.iconst 0, 1) := by decide +kernel
theorem dX2_share_36 : decode cX2_share 36 = .ok (.putfield 26, 3) := by decide +kernel
theorem dX2_share_39 : decode cX2_share 39 = .ok (.aload_n 0, 1) := by decide +kernel
theorem dX2_share_40 : decode cX2_share 40 = .ok (.getfield 26, 3) := by decide +kernel
theorem dX2_share_43 : decode cX2_share 43 = .ok (.ifCond .le 5, 3) := by decide +kernel
theorem dX2_share_46 : decode cX2_share 46 = .ok (.iconst 0, 1) := by decide +kernel
theorem dX2_share_47 : decode cX2_share 47 = .ok (.ireturn, 1) := by decide +kernel
theorem dX2_share_48 : decode cX2_share 48 = .ok (.aload_n 0, 1) := by decide +kernel
theorem dX2_share_49 : decode cX2_share 49 = .ok (.iload_n 1, 1) := by decide +kernel
theorem dX2_share_50 : decode cX2_share 50 = .ok (.iload_n 2, 1) := by decide +kernel
theorem dX2_share_51 : decode cX2_share 51 = .ok (.invokevirtual 65, 3) := by decide +kernel
theorem dX2_share_54 : decode cX2_share 54 = .ok (.istore 5, 2) := by decide +kernel
theorem dX2_share_56 : decode cX2_share 56 = .ok (.iconst 1, 1) := by decide +kernel
theorem dX2_share_57 : decode cX2_share 57 = .ok (.istore 6, 2) := by decide +kernel
theorem dX2_share_59 : decode cX2_share 59 = .ok (.iconst 1, 1) := by decide +kernel
theorem dX2_share_60 : decode cX2_share 60 = .ok (.istore 7, 2) := by decide +kernel
theorem dX2_share_62 : decode cX2_share 62 = .ok (.iload 7, 2) := by decide +kernel
theorem dX2_share_64 : decode cX2_share 64 = .ok (.iload 4, 2) := by decide +kernel
theorem dX2_share_66 : decode cX2_share 66 = .ok (.if_icmp .gt 34, 3) := by decide +kernel
theorem dX2_share_69 : decode cX2_share 69 = .ok (.iload 4, 2) := by decide +kernel
theorem dX2_share_71 : decode cX2_share 71 = .ok (.iload 7, 2) := by decide +kernel
theorem dX2_share_73 : decode cX2_share 73 = .ok (.irem, 1) := by decide +kernel
theorem dX2_share_74 : decode cX2_share 74 = .ok (.ifCond .ne 16, 3) := by decide +kernel
theorem dX2_share_77 : decode cX2_share 77 = .ok (.iload 5, 2) := by decide +kernel
theorem dX2_share_79 : decode cX2_share 79 = .ok (.iload 7, 2) := by decide +kernel
theorem dX2_share_81 : decode cX2_share 81 = .ok (.irem, 1) := by decide +kernel
theorem dX2_share_82 : decode cX2_share 82 = .ok (.ifCond .ne 8, 3) := by decide +kernel
theorem dX2_share_85 : decode cX2_share 85 = .ok (.iload 7, 2) := by decide +kernel
theorem dX2_share_87 : decode cX2_share 87 = .ok (.goto 5, 3) := by decide +kernel
theorem dX2_share_90 : decode cX2_share 90 = .ok (.iload 6, 2) := by decide +kernel
theorem dX2_share_92 : decode cX2_share 92 = .ok (.istore 6, 2) := by decide +kernel
theorem dX2_share_94 : decode cX2_share 94 = .ok (.iinc 7 1, 3) := by decide +kernel
theorem dX2_share_97 : decode cX2_share 97 = .ok (.goto (-35), 3) := by decide +kernel
theorem dX2_share_100 : decode cX2_share 100 = .ok (.iload_n 3, 1) := by decide +kernel
theorem dX2_share_101 : decode cX2_share 101 = .ok (.ifCond .eq 11, 3) := by decide +kernel
theorem dX2_share_104 : decode cX2_share 104 = .ok (.iload 4, 2) := by decide +kernel
theorem dX2_share_106 : decode cX2_share 106 = .ok (.iload 6, 2) := by decide +kernel
theorem dX2_share_108 : decode cX2_share 108 = .ok (.idiv, 1) := by decide +kernel
theorem dX2_share_109 : decode cX2_share 109 = .ok (.goto 8, 3) := by decide +kernel
theorem dX2_share_112 : decode cX2_share 112 = .ok (.iload 5, 2) := by decide +kernel
theorem dX2_share_114 : decode cX2_share 114 = .ok (.iload 6, 2) := by decide +kernel
theorem dX2_share_116 : decode cX2_share 116 = .ok (.idiv, 1) := by decide +kernel
theorem dX2_share_117 : decode cX2_share 117 = .ok (.ireturn, 1) := by decide +kernel
theorem dX2_changed_0 : decode cX2_changed 0 = .ok (.aload_n 0, 1) := by decide +kernel
theorem dX2_changed_1 : decode cX2_changed 1 = .ok (.iconst 0, 1) := by decide +kernel
theorem dX2_changed_2 : decode cX2_changed 2 = .ok (.putfield 26, 3) := by decide +kernel
theorem dX2_changed_5 : decode cX2_changed 5 = .ok (.iconst 0, 1) := by decide +kernel
theorem dX2_changed_6 : decode cX2_changed 6 = .ok (.istore_n 1, 1) := by decide +kernel
theorem dX2_changed_7 : decode cX2_changed 7 = .ok (.iconst 0, 1) := by decide +kernel
theorem dX2_changed_8 : decode cX2_changed 8 = .ok (.istore_n 2, 1) := by decide +kernel
theorem dX2_changed_9 : decode cX2_changed 9 = .ok (.iload_n 2, 1) := by decide +kernel
theorem dX2_changed_10 : decode cX2_changed 10 = .ok (.bipush 8, 2) := by decide +kernel
theorem dX2_changed_12 : decode cX2_changed 12 = .ok (.if_icmp .ge 68, 3) := by decide +kernel
theorem dX2_changed_15 : decode cX2_changed 15 = .ok (.iconst 0, 1) := by decide +kernel
theorem dX2_changed_16 : decode cX2_changed 16 = .ok (.istore_n 3, 1) := by decide +kernel
theorem dX2_changed_17 : decode cX2_changed 17 = .ok (.iload_n 3, 1) := by decide +kernel
theorem dX2_changed_18 : decode cX2_changed 18 = .ok (.bipush 32, 2) := by decide +kernel
theorem dX2_changed_20 : decode cX2_changed 20 = .ok (.if_icmp .ge 54, 3) := by decide +kernel
theorem dX2_changed_23 : decode cX2_changed 23 = .ok (.aload_n 0, 1) := by decide +kernel
theorem dX2_changed_24 : decode cX2_changed 24 = .ok (.iload_n 2, 1) := by decide +kernel
theorem dX2_changed_25 : decode cX2_changed 25 = .ok (.iload_n 3, 1) := by decide +kernel
theorem dX2_changed_26 : decode cX2_changed 26 = .ok (.invokevirtual 65, 3) := by decide +kernel
theorem dX2_changed_29 : decode cX2_changed 29 = .ok (.istore 4, 2) := by decide +kernel
theorem dX2_changed_31 : decode cX2_changed 31 = .ok (.iload_n 1, 1) := by decide +kernel
theorem dX2_changed_32 : decode cX2_changed 32 = .ok (.iload 4, 2) := by decide +kernel
theorem dX2_changed_34 : decode cX2_changed 34 = .ok (.aload_n 0, 1) := by decide +kernel
theorem dX2_changed_35 : decode cX2_changed 35 = .ok (.getfield 20, 3) := by decide +kernel
theorem dX2_changed_38 : decode cX2_changed 38 = .ok (.bipush 32, 2) := by decide +kernel
theorem dX2_changed_40 : decode cX2_changed 40 = .ok (.iload_n 2, 1) := by decide +kernel
theorem dX2_changed_41 : decode cX2_changed 41 = .ok (.imul, 1) := by decide +kernel
theorem dX2_changed_42 : decode cX2_changed 42 = .ok (.iload_n 3, 1) := by decide +kernel
theorem dX2_changed_43 : decode cX2_changed 43 = .ok (.iadd, 1) := by decide +kernel
theorem dX2_changed_44 : decode cX2_changed 44 = .ok (.iaload, 1) := by decide +kernel
theorem dX2_changed_45 : decode cX2_changed 45 = .ok (.if_icmp .eq 7, 3) := by decide +kernel
theorem dX2_changed_48 : decode cX2_changed 48 = .ok (.iconst 1, 1) := by decide +kernel
theorem dX2_changed_49 : decode cX2_changed 49 = .ok (.goto 4, 3) := by decide +kernel
theorem dX2_changed_52 : decode cX2_changed 52 = .ok (.iconst 0, 1) := by decide +kernel
theorem dX2_changed_53 : decode cX2_changed 53 = .ok (.iadd, 1) := by decide +kernel
theorem dX2_changed_54 : decode cX2_changed 54 = .ok (.istore_n 1, 1) := by decide +kernel
theorem dX2_changed_55 : decode cX2_changed 55 = .ok (.aload_n 0, 1) := by decide +kernel
theorem dX2_changed_56 : decode cX2_changed 56 = .ok (.getfield 20, 3) := by decide +kernel
theorem dX2_changed_59 : decode cX2_changed 59 = .ok (.bipush 32, 2) := by decide +kernel
theorem dX2_changed_61 : decode cX2_changed 61 = .ok (.iload_n 2, 1) := by decide +kernel
theorem dX2_changed_62 : decode cX2_changed 62 = .ok (.imul, 1) := by decide +kernel
theorem dX2_changed_63 : decode cX2_changed 63 = .ok (.iload_n 3, 1) := by decide +kernel
theorem dX2_changed_64 : decode cX2_changed 64 = .ok (.iadd, 1) := by decide +kernel
theorem dX2_changed_65 : decode cX2_changed 65 = .ok (.iload 4, 2) := by decide +kernel
theorem dX2_changed_67 : decode cX2_changed 67 = .ok (.iastore, 1) := by decide +kernel
theorem dX2_changed_68 : decode cX2_changed 68 = .ok (.iinc 3 1, 3) := by decide +kernel
theorem dX2_changed_71 : decode cX2_changed 71 = .ok (.goto (-54), 3) := by decide +kernel
theorem dX2_changed_74 : decode cX2_changed 74 = .ok (.iinc 2 1, 3) := by decide +kernel
theorem dX2_changed_77 : decode cX2_changed 77 = .ok (.goto (-68), 3) := by decide +kernel
theorem dX2_changed_80 : decode cX2_changed 80 = .ok (.iload_n 1, 1) := by decide +kernel
theorem dX2_changed_81 : decode cX2_changed 81 = .ok (.ireturn, 1) := by decide +kernel
theorem dX2_rows_0 : decode cX2_rows 0 = .ok (.aload_n 0, 1) := by decide +kernel
theorem dX2_rows_1 : decode cX2_rows 1 = .ok (.iconst 0, 1) := by decide +kernel
theorem dX2_rows_2 : decode cX2_rows 2 = .ok (.putfield 26, 3) := by decide +kernel
theorem dX2_rows_5 : decode cX2_rows 5 = .ok (.aload_n 0, 1) := by decide +kernel
theorem dX2_rows_6 : decode cX2_rows 6 = .ok (.getfield 44, 3) := by decide +kernel
theorem dX2_rows_9 : decode cX2_rows 9 = .ok (.ireturn, 1) := by decide +kernel
end
section
/-! java/lang/Throwable -/
set_option maxRecDepth 100000
def RJ0 : String := "java/lang/Throwable"
def TJ0 : u_T := fun k => match k with
  | 0 => ("java/lang/Throwable", "cause", "Ljava/lang/Throwable;", false)
  | 1 => ("java/lang/Throwable", "stackTrace", "[Ljava/lang/StackTraceElement;", false)
  | 2 => ("java/lang/Throwable", "suppressedExceptions", "Ljava/util/List;", false)
  | 3 => ("java/lang/Throwable", "detailMessage", "Ljava/lang/String;", false)
  | _ => ("java/lang/Throwable", "backtrace", "Ljava/lang/Object;", false)
def tyJ0 : Nat → FieldType := fun k => match k with
  | 0 => .object "java/lang/Throwable"
  | 1 => .array (.object "java/lang/StackTraceElement")
  | 2 => .object "java/util/List"
  | 3 => .object "java/lang/String"
  | _ => .object "java/lang/Object"
abbrev wsJ00 : List Cond := u_ws RJ0 TJ0 5
theorem nmJ0 : ∀ a, a < 5 → ∀ b, b < 5 → a ≠ b → (TJ0 a).2.1 ≠ (TJ0 b).2.1 := by decide +kernel
theorem tyJ0_ok : ∀ k, k < 5 → parseFieldDescriptor (TJ0 k).2.2.1 = some (tyJ0 k) := by decide +kernel
abbrev cJ0_init : ByteArray := prog_8_method_2_code
def yJ0_init : MethodName := ⟨RJ0, "<init>", "(Ljava/lang/String;)V"⟩
theorem dJ0_init_0 : decode cJ0_init 0 = .ok (.aload_n 0, 1) := by decide +kernel
theorem dJ0_init_1 : decode cJ0_init 1 = .ok (.invokespecial 1, 3) := by decide +kernel
theorem dJ0_init_4 : decode cJ0_init 4 = .ok (.aload_n 0, 1) := by decide +kernel
theorem dJ0_init_5 : decode cJ0_init 5 = .ok (.aload_n 0, 1) := by decide +kernel
theorem dJ0_init_6 : decode cJ0_init 6 = .ok (.putfield 7, 3) := by decide +kernel
theorem dJ0_init_9 : decode cJ0_init 9 = .ok (.aload_n 0, 1) := by decide +kernel
theorem dJ0_init_10 : decode cJ0_init 10 = .ok (.getstatic 13, 3) := by decide +kernel
theorem dJ0_init_13 : decode cJ0_init 13 = .ok (.putfield 17, 3) := by decide +kernel
theorem dJ0_init_16 : decode cJ0_init 16 = .ok (.aload_n 0, 1) := by decide +kernel
theorem dJ0_init_17 : decode cJ0_init 17 = .ok (.getstatic 20, 3) := by decide +kernel
theorem dJ0_init_20 : decode cJ0_init 20 = .ok (.putfield 24, 3) := by decide +kernel
theorem dJ0_init_23 : decode cJ0_init 23 = .ok (.aload_n 0, 1) := by decide +kernel
theorem dJ0_init_24 : decode cJ0_init 24 = .ok (.invokevirtual 27, 3) := by decide +kernel
theorem dJ0_init_27 : decode cJ0_init 27 = .ok (.pop, 1) := by decide +kernel
theorem dJ0_init_28 : decode cJ0_init 28 = .ok (.aload_n 0, 1) := by decide +kernel
theorem dJ0_init_29 : decode cJ0_init 29 = .ok (.aload_n 1, 1) := by decide +kernel
theorem dJ0_init_30 : decode cJ0_init 30 = .ok (.putfield 31, 3) := by decide +kernel
theorem dJ0_init_33 : decode cJ0_init 33 = .ok (.return_, 1) := by decide +kernel
abbrev cJ0_init_2 : ByteArray := prog_8_method_1_code
def yJ0_init_2 : MethodName := ⟨RJ0, "<init>", "()V"⟩
theorem dJ0_init_2_0 : decode cJ0_init_2 0 = .ok (.aload_n 0, 1) := by decide +kernel
theorem dJ0_init_2_1 : decode cJ0_init_2 1 = .ok (.invokespecial 1, 3) := by decide +kernel
theorem dJ0_init_2_4 : decode cJ0_init_2 4 = .ok (.aload_n 0, 1) := by decide +kernel
theorem dJ0_init_2_5 : decode cJ0_init_2 5 = .ok (.aload_n 0, 1) := by decide +kernel
theorem dJ0_init_2_6 : decode cJ0_init_2 6 = .ok (.putfield 7, 3) := by decide +kernel
theorem dJ0_init_2_9 : decode cJ0_init_2 9 = .ok (.aload_n 0, 1) := by decide +kernel
theorem dJ0_init_2_10 : decode cJ0_init_2 10 = .ok (.getstatic 13, 3) := by decide +kernel
theorem dJ0_init_2_13 : decode cJ0_init_2 13 = .ok (.putfield 17, 3) := by decide +kernel
theorem dJ0_init_2_16 : decode cJ0_init_2 16 = .ok (.aload_n 0, 1) := by decide +kernel
theorem dJ0_init_2_17 : decode cJ0_init_2 17 = .ok (.getstatic 20, 3) := by decide +kernel
theorem dJ0_init_2_20 : decode cJ0_init_2 20 = .ok (.putfield 24, 3) := by decide +kernel
theorem dJ0_init_2_23 : decode cJ0_init_2 23 = .ok (.aload_n 0, 1) := by decide +kernel
theorem dJ0_init_2_24 : decode cJ0_init_2 24 = .ok (.invokevirtual 27, 3) := by decide +kernel
theorem dJ0_init_2_27 : decode cJ0_init_2 27 = .ok (.pop, 1) := by decide +kernel
theorem dJ0_init_2_28 : decode cJ0_init_2 28 = .ok (.return_, 1) := by decide +kernel
theorem q15 : (Jvm.Cond.initialized "java/lang/Throwable") ∈ lw_all := lw_g (lw_at lw_m1 3 rfl) rfl
theorem q143 : (Jvm.Cond.instanceMethod ({ cls := "java/lang/Throwable", name := "<init>", desc := "(Ljava/lang/String;)V" } : Jvm.MethodName)) ∈ lw_all := lw_g (lw_at lw_m1 131 rfl) rfl
theorem q144 : (Jvm.Cond.code ({ cls := "java/lang/Throwable", name := "<init>", desc := "(Ljava/lang/String;)V" } : Jvm.MethodName) prog_8_method_2_code (2 : Nat) (Option.none : Option Jvm.ClassFile.FieldType)) ∈ lw_all := lw_g (lw_at lw_m1 132 rfl) rfl
theorem q145 : (Jvm.Cond.methodLink "java/lang/Throwable" (1 : Nat) ({ cls := "java/lang/Object", name := "<init>", desc := "()V" } : Jvm.MethodName)) ∈ lw_all := lw_g (lw_at lw_m1 133 rfl) rfl
theorem q146 : (Jvm.Cond.fieldLink "java/lang/Throwable" (13 : Nat) "java/lang/Throwable" "UNASSIGNED_STACK" "[Ljava/lang/StackTraceElement;") ∈ lw_all := lw_g (lw_at lw_m1 134 rfl) rfl
theorem q147 : (Jvm.Cond.laysStatic "java/lang/Throwable" "UNASSIGNED_STACK" "[Ljava/lang/StackTraceElement;") ∈ lw_tbl := lw_at lw_m1 135 rfl
theorem q148 : (Jvm.Cond.fieldLink "java/lang/Throwable" (20 : Nat) "java/lang/Throwable" "SUPPRESSED_SENTINEL" "Ljava/util/List;") ∈ lw_all := lw_g (lw_at lw_m1 136 rfl) rfl
theorem q149 : (Jvm.Cond.laysStatic "java/lang/Throwable" "SUPPRESSED_SENTINEL" "Ljava/util/List;") ∈ lw_tbl := lw_at lw_m1 137 rfl
theorem q150 : (Jvm.Cond.methodLink "java/lang/Throwable" (27 : Nat) ({ cls := "java/lang/Throwable", name := "fillInStackTrace", desc := "()Ljava/lang/Throwable;" } : Jvm.MethodName)) ∈ lw_all := lw_g (lw_at lw_m1 138 rfl) rfl
theorem q151 : (Jvm.Cond.instanceMethod ({ cls := "java/lang/Throwable", name := "fillInStackTrace", desc := "()Ljava/lang/Throwable;" } : Jvm.MethodName)) ∈ lw_all := lw_g (lw_at lw_m1 139 rfl) rfl
theorem q152 : (Jvm.Cond.sameMethod "java/lang/Throwable" "java/lang/Throwable" "fillInStackTrace" "()Ljava/lang/Throwable;") ∈ lw_all := lw_g (lw_at lw_m1 140 rfl) rfl
theorem q154 : (Jvm.Cond.codeSync ({ cls := "java/lang/Throwable", name := "fillInStackTrace", desc := "()Ljava/lang/Throwable;" } : Jvm.MethodName) prog_8_method_18_code (1 : Nat) (Option.some (Jvm.ClassFile.FieldType.object "java/lang/Throwable"))) ∈ lw_all := lw_g (lw_at lw_m1 142 rfl) rfl
theorem q155 : (Jvm.Cond.methodLink "java/lang/Throwable" (202 : Nat) ({ cls := "java/lang/Throwable", name := "fillInStackTrace", desc := "(I)Ljava/lang/Throwable;" } : Jvm.MethodName)) ∈ lw_all := lw_g (lw_at lw_m1 143 rfl) rfl
theorem q156 : (Jvm.Cond.privateMethod ({ cls := "java/lang/Throwable", name := "fillInStackTrace", desc := "(I)Ljava/lang/Throwable;" } : Jvm.MethodName)) ∈ lw_tbl := lw_at lw_m1 144 rfl
theorem q157 : (Jvm.Cond.instanceMethod ({ cls := "java/lang/Throwable", name := "fillInStackTrace", desc := "(I)Ljava/lang/Throwable;" } : Jvm.MethodName)) ∈ lw_all := lw_g (lw_at lw_m1 145 rfl) rfl
theorem q158 : (Jvm.Cond.instantiable "java/lang/Throwable" (6 : Nat)) ∈ lw_all := lw_g (lw_at lw_m1 146 rfl) rfl
theorem q159 : (Jvm.Cond.native ({ cls := "java/lang/Throwable", name := "fillInStackTrace", desc := "(I)Ljava/lang/Throwable;" } : Jvm.MethodName)) ∈ lw_all := lw_g (lw_at lw_m1 147 rfl) rfl
theorem q160 : (Jvm.Cond.fieldLink "java/lang/Throwable" (198 : Nat) "java/lang/Throwable" "backtrace" "Ljava/lang/Object;") ∈ lw_all := lw_g (lw_at lw_m1 148 rfl) rfl
theorem q161 : (Jvm.Cond.fieldLink "java/lang/Throwable" (31 : Nat) "java/lang/Throwable" "detailMessage" "Ljava/lang/String;") ∈ lw_all := lw_g (lw_at lw_m1 149 rfl) rfl
theorem q162 : (Jvm.Cond.fieldLink "java/lang/Throwable" (7 : Nat) "java/lang/Throwable" "cause" "Ljava/lang/Throwable;") ∈ lw_all := lw_g (lw_at lw_m1 150 rfl) rfl
theorem q163 : (Jvm.Cond.fieldLink "java/lang/Throwable" (17 : Nat) "java/lang/Throwable" "stackTrace" "[Ljava/lang/StackTraceElement;") ∈ lw_all := lw_g (lw_at lw_m1 151 rfl) rfl
theorem q164 : (Jvm.Cond.fieldLink "java/lang/Throwable" (24 : Nat) "java/lang/Throwable" "suppressedExceptions" "Ljava/util/List;") ∈ lw_all := lw_g (lw_at lw_m1 152 rfl) rfl
theorem q166 : (Jvm.Cond.soleField "java/lang/Throwable" "backtrace") ∈ lw_all := lw_g (lw_at lw_m1 154 rfl) rfl
theorem q168 : (Jvm.Cond.soleField "java/lang/Throwable" "detailMessage") ∈ lw_all := lw_g (lw_at lw_m1 156 rfl) rfl
theorem q170 : (Jvm.Cond.soleField "java/lang/Throwable" "cause") ∈ lw_all := lw_g (lw_at lw_m1 158 rfl) rfl
theorem q172 : (Jvm.Cond.soleField "java/lang/Throwable" "stackTrace") ∈ lw_all := lw_g (lw_at lw_m1 160 rfl) rfl
theorem q174 : (Jvm.Cond.soleField "java/lang/Throwable" "depth") ∈ lw_all := lw_g (lw_at lw_m1 162 rfl) rfl
theorem q176 : (Jvm.Cond.soleField "java/lang/Throwable" "suppressedExceptions") ∈ lw_all := lw_g (lw_at lw_m1 164 rfl) rfl
theorem q183 : (Jvm.Cond.declares ({ cls := "java/lang/Throwable", name := "<init>", desc := "()V" } : Jvm.MethodName)) ∈ lw_tbl := lw_at lw_m1 171 rfl
theorem q184 : (Jvm.Cond.declares ({ cls := "java/lang/Throwable", name := "<init>", desc := "(Ljava/lang/String;)V" } : Jvm.MethodName)) ∈ lw_tbl := lw_at lw_m1 172 rfl
theorem q186 : (Jvm.Cond.lays "java/lang/Throwable" "java/lang/Throwable" "cause" "Ljava/lang/Throwable;") ∈ lw_all := lw_g (lw_at lw_m1 174 rfl) rfl
theorem q187 : (Jvm.Cond.lays "java/lang/Throwable" "java/lang/Throwable" "stackTrace" "[Ljava/lang/StackTraceElement;") ∈ lw_all := lw_g (lw_at lw_m1 175 rfl) rfl
theorem q188 : (Jvm.Cond.lays "java/lang/Throwable" "java/lang/Throwable" "suppressedExceptions" "Ljava/util/List;") ∈ lw_all := lw_g (lw_at lw_m1 176 rfl) rfl
theorem q189 : (Jvm.Cond.lays "java/lang/Throwable" "java/lang/Throwable" "detailMessage" "Ljava/lang/String;") ∈ lw_all := lw_g (lw_at lw_m1 177 rfl) rfl
theorem q190 : (Jvm.Cond.lays "java/lang/Throwable" "java/lang/Throwable" "backtrace" "Ljava/lang/Object;") ∈ lw_all := lw_g (lw_at lw_m1 178 rfl) rfl
theorem q191 : (Jvm.Cond.fieldLink "java/lang/Throwable" (198 : Nat) "java/lang/Throwable" "backtrace" "Ljava/lang/Object;") ∈ lw_all := lw_g (lw_at lw_m1 179 rfl) rfl
theorem q192 : (Jvm.Cond.superclass "java/lang/Throwable" "java/lang/Object") ∈ lw_all := lw_g (lw_at lw_m1 180 rfl) rfl
theorem q193 : (Jvm.Cond.instanceMethod ({ cls := "java/lang/Throwable", name := "<init>", desc := "()V" } : Jvm.MethodName)) ∈ lw_all := lw_g (lw_at lw_m1 181 rfl) rfl
theorem q194 : (Jvm.Cond.code ({ cls := "java/lang/Throwable", name := "<init>", desc := "()V" } : Jvm.MethodName) prog_8_method_1_code (1 : Nat) (Option.none : Option Jvm.ClassFile.FieldType)) ∈ lw_all := lw_g (lw_at lw_m1 182 rfl) rfl
theorem q341 : (Jvm.Cond.sameMethod "java/lang/Throwable" "java/lang/Throwable" "fillInStackTrace" "(I)Ljava/lang/Throwable;") ∈ lw_all := lw_g (lw_at lw_m2 89 rfl) rfl
theorem in_J0 : ∀ w ∈ wsJ00, w ∈ lw_all := lw_in wsJ00 [186, 187, 188, 189, 190] (by decide +kernel) (by decide +kernel)

/-! java/lang/Exception -/
set_option maxRecDepth 100000
def RJ1 : String := "java/lang/Exception"
abbrev cJ1_init : ByteArray := prog_5_method_2_code
def yJ1_init : MethodName := ⟨RJ1, "<init>", "(Ljava/lang/String;)V"⟩
theorem dJ1_init_0 : decode cJ1_init 0 = .ok (.aload_n 0, 1) := by decide +kernel
theorem dJ1_init_1 : decode cJ1_init 1 = .ok (.aload_n 1, 1) := by decide +kernel
theorem dJ1_init_2 : decode cJ1_init 2 = .ok (.invokespecial 7, 3) := by decide +kernel
theorem dJ1_init_5 : decode cJ1_init 5 = .ok (.return_, 1) := by decide +kernel
abbrev cJ1_init_2 : ByteArray := prog_5_method_1_code
def yJ1_init_2 : MethodName := ⟨RJ1, "<init>", "()V"⟩
theorem dJ1_init_2_0 : decode cJ1_init_2 0 = .ok (.aload_n 0, 1) := by decide +kernel
theorem dJ1_init_2_1 : decode cJ1_init_2 1 = .ok (.invokespecial 1, 3) := by decide +kernel
theorem dJ1_init_2_4 : decode cJ1_init_2 4 = .ok (.return_, 1) := by decide +kernel
theorem q16 : (Jvm.Cond.initialized "java/lang/Exception") ∈ lw_all := lw_g (lw_at lw_m1 4 rfl) rfl
theorem q140 : (Jvm.Cond.instanceMethod ({ cls := "java/lang/Exception", name := "<init>", desc := "(Ljava/lang/String;)V" } : Jvm.MethodName)) ∈ lw_all := lw_g (lw_at lw_m1 128 rfl) rfl
theorem q141 : (Jvm.Cond.code ({ cls := "java/lang/Exception", name := "<init>", desc := "(Ljava/lang/String;)V" } : Jvm.MethodName) prog_5_method_2_code (2 : Nat) (Option.none : Option Jvm.ClassFile.FieldType)) ∈ lw_all := lw_g (lw_at lw_m1 129 rfl) rfl
theorem q142 : (Jvm.Cond.methodLink "java/lang/Exception" (7 : Nat) ({ cls := "java/lang/Throwable", name := "<init>", desc := "(Ljava/lang/String;)V" } : Jvm.MethodName)) ∈ lw_all := lw_g (lw_at lw_m1 130 rfl) rfl
theorem q181 : (Jvm.Cond.declares ({ cls := "java/lang/Exception", name := "<init>", desc := "()V" } : Jvm.MethodName)) ∈ lw_tbl := lw_at lw_m1 169 rfl
theorem q182 : (Jvm.Cond.declares ({ cls := "java/lang/Exception", name := "<init>", desc := "(Ljava/lang/String;)V" } : Jvm.MethodName)) ∈ lw_tbl := lw_at lw_m1 170 rfl
theorem q213 : (Jvm.Cond.instanceMethod ({ cls := "java/lang/Exception", name := "<init>", desc := "()V" } : Jvm.MethodName)) ∈ lw_all := lw_g (lw_at lw_m1 201 rfl) rfl
theorem q214 : (Jvm.Cond.code ({ cls := "java/lang/Exception", name := "<init>", desc := "()V" } : Jvm.MethodName) prog_5_method_1_code (1 : Nat) (Option.none : Option Jvm.ClassFile.FieldType)) ∈ lw_all := lw_g (lw_at lw_m1 202 rfl) rfl
theorem q215 : (Jvm.Cond.methodLink "java/lang/Exception" (1 : Nat) ({ cls := "java/lang/Throwable", name := "<init>", desc := "()V" } : Jvm.MethodName)) ∈ lw_all := lw_g (lw_at lw_m1 203 rfl) rfl

/-! java/lang/RuntimeException -/
set_option maxRecDepth 100000
def RJ2 : String := "java/lang/RuntimeException"
abbrev cJ2_init : ByteArray := prog_6_method_2_code
def yJ2_init : MethodName := ⟨RJ2, "<init>", "(Ljava/lang/String;)V"⟩
theorem dJ2_init_0 : decode cJ2_init 0 = .ok (.aload_n 0, 1) := by decide +kernel
theorem dJ2_init_1 : decode cJ2_init 1 = .ok (.aload_n 1, 1) := by decide +kernel
theorem dJ2_init_2 : decode cJ2_init 2 = .ok (.invokespecial 7, 3) := by decide +kernel
theorem dJ2_init_5 : decode cJ2_init 5 = .ok (.return_, 1) := by decide +kernel
abbrev cJ2_init_2 : ByteArray := prog_6_method_1_code
def yJ2_init_2 : MethodName := ⟨RJ2, "<init>", "()V"⟩
theorem dJ2_init_2_0 : decode cJ2_init_2 0 = .ok (.aload_n 0, 1) := by decide +kernel
theorem dJ2_init_2_1 : decode cJ2_init_2 1 = .ok (.invokespecial 1, 3) := by decide +kernel
theorem dJ2_init_2_4 : decode cJ2_init_2 4 = .ok (.return_, 1) := by decide +kernel
theorem q17 : (Jvm.Cond.initialized "java/lang/RuntimeException") ∈ lw_all := lw_g (lw_at lw_m1 5 rfl) rfl
theorem q137 : (Jvm.Cond.instanceMethod ({ cls := "java/lang/RuntimeException", name := "<init>", desc := "(Ljava/lang/String;)V" } : Jvm.MethodName)) ∈ lw_all := lw_g (lw_at lw_m1 125 rfl) rfl
theorem q138 : (Jvm.Cond.code ({ cls := "java/lang/RuntimeException", name := "<init>", desc := "(Ljava/lang/String;)V" } : Jvm.MethodName) prog_6_method_2_code (2 : Nat) (Option.none : Option Jvm.ClassFile.FieldType)) ∈ lw_all := lw_g (lw_at lw_m1 126 rfl) rfl
theorem q139 : (Jvm.Cond.methodLink "java/lang/RuntimeException" (7 : Nat) ({ cls := "java/lang/Exception", name := "<init>", desc := "(Ljava/lang/String;)V" } : Jvm.MethodName)) ∈ lw_all := lw_g (lw_at lw_m1 127 rfl) rfl
theorem q179 : (Jvm.Cond.declares ({ cls := "java/lang/RuntimeException", name := "<init>", desc := "()V" } : Jvm.MethodName)) ∈ lw_tbl := lw_at lw_m1 167 rfl
theorem q180 : (Jvm.Cond.declares ({ cls := "java/lang/RuntimeException", name := "<init>", desc := "(Ljava/lang/String;)V" } : Jvm.MethodName)) ∈ lw_tbl := lw_at lw_m1 168 rfl
theorem q210 : (Jvm.Cond.instanceMethod ({ cls := "java/lang/RuntimeException", name := "<init>", desc := "()V" } : Jvm.MethodName)) ∈ lw_all := lw_g (lw_at lw_m1 198 rfl) rfl
theorem q211 : (Jvm.Cond.code ({ cls := "java/lang/RuntimeException", name := "<init>", desc := "()V" } : Jvm.MethodName) prog_6_method_1_code (1 : Nat) (Option.none : Option Jvm.ClassFile.FieldType)) ∈ lw_all := lw_g (lw_at lw_m1 199 rfl) rfl
theorem q212 : (Jvm.Cond.methodLink "java/lang/RuntimeException" (1 : Nat) ({ cls := "java/lang/Exception", name := "<init>", desc := "()V" } : Jvm.MethodName)) ∈ lw_all := lw_g (lw_at lw_m1 200 rfl) rfl

/-! java/lang/ArithmeticException -/
set_option maxRecDepth 100000
def RJ3 : String := "java/lang/ArithmeticException"
def TJ3 : u_T := fun k => match k with
  | 0 => ("java/lang/Throwable", "backtrace", "Ljava/lang/Object;", false)
  | 1 => ("java/lang/Throwable", "detailMessage", "Ljava/lang/String;", false)
  | 2 => ("java/lang/Throwable", "cause", "Ljava/lang/Throwable;", false)
  | 3 => ("java/lang/Throwable", "stackTrace", "[Ljava/lang/StackTraceElement;", false)
  | 4 => ("java/lang/Throwable", "depth", "I", false)
  | _ => ("java/lang/Throwable", "suppressedExceptions", "Ljava/util/List;", false)
def tyJ3 : Nat → FieldType := fun k => match k with
  | 0 => .object "java/lang/Object"
  | 1 => .object "java/lang/String"
  | 2 => .object "java/lang/Throwable"
  | 3 => .array (.object "java/lang/StackTraceElement")
  | 4 => .int
  | _ => .object "java/util/List"
abbrev wsJ30 : List Cond := u_ws RJ3 TJ3 6
theorem nmJ3 : ∀ a, a < 6 → ∀ b, b < 6 → a ≠ b → (TJ3 a).2.1 ≠ (TJ3 b).2.1 := by decide +kernel
theorem tyJ3_ok : ∀ k, k < 6 → parseFieldDescriptor (TJ3 k).2.2.1 = some (tyJ3 k) := by decide +kernel
abbrev cJ3_init : ByteArray := prog_4_method_2_code
def yJ3_init : MethodName := ⟨RJ3, "<init>", "(Ljava/lang/String;)V"⟩
theorem dJ3_init_0 : decode cJ3_init 0 = .ok (.aload_n 0, 1) := by decide +kernel
theorem dJ3_init_1 : decode cJ3_init 1 = .ok (.aload_n 1, 1) := by decide +kernel
theorem dJ3_init_2 : decode cJ3_init 2 = .ok (.invokespecial 7, 3) := by decide +kernel
theorem dJ3_init_5 : decode cJ3_init 5 = .ok (.return_, 1) := by decide +kernel
abbrev cJ3_init_2 : ByteArray := prog_4_method_1_code
def yJ3_init_2 : MethodName := ⟨RJ3, "<init>", "()V"⟩
theorem dJ3_init_2_0 : decode cJ3_init_2 0 = .ok (.aload_n 0, 1) := by decide +kernel
theorem dJ3_init_2_1 : decode cJ3_init_2 1 = .ok (.invokespecial 1, 3) := by decide +kernel
theorem dJ3_init_2_4 : decode cJ3_init_2 4 = .ok (.return_, 1) := by decide +kernel
theorem q18 : (Jvm.Cond.initialized "java/lang/ArithmeticException") ∈ lw_all := lw_g (lw_at lw_m1 6 rfl) rfl
theorem q133 : (Jvm.Cond.instantiable "java/lang/ArithmeticException" (6 : Nat)) ∈ lw_all := lw_g (lw_at lw_m1 121 rfl) rfl
theorem q134 : (Jvm.Cond.instanceMethod ({ cls := "java/lang/ArithmeticException", name := "<init>", desc := "(Ljava/lang/String;)V" } : Jvm.MethodName)) ∈ lw_all := lw_g (lw_at lw_m1 122 rfl) rfl
theorem q135 : (Jvm.Cond.code ({ cls := "java/lang/ArithmeticException", name := "<init>", desc := "(Ljava/lang/String;)V" } : Jvm.MethodName) prog_4_method_2_code (2 : Nat) (Option.none : Option Jvm.ClassFile.FieldType)) ∈ lw_all := lw_g (lw_at lw_m1 123 rfl) rfl
theorem q136 : (Jvm.Cond.methodLink "java/lang/ArithmeticException" (7 : Nat) ({ cls := "java/lang/RuntimeException", name := "<init>", desc := "(Ljava/lang/String;)V" } : Jvm.MethodName)) ∈ lw_all := lw_g (lw_at lw_m1 124 rfl) rfl
theorem q153 : (Jvm.Cond.selects "java/lang/ArithmeticException" ({ cls := "java/lang/Throwable", name := "fillInStackTrace", desc := "()Ljava/lang/Throwable;" } : Jvm.MethodName) ({ cls := "java/lang/Throwable", name := "fillInStackTrace", desc := "()Ljava/lang/Throwable;" } : Jvm.MethodName)) ∈ lw_all := lw_g (lw_at lw_m1 141 rfl) rfl
theorem q165 : (Jvm.Cond.lays "java/lang/ArithmeticException" "java/lang/Throwable" "backtrace" "Ljava/lang/Object;") ∈ lw_all := lw_g (lw_at lw_m1 153 rfl) rfl
theorem q167 : (Jvm.Cond.lays "java/lang/ArithmeticException" "java/lang/Throwable" "detailMessage" "Ljava/lang/String;") ∈ lw_all := lw_g (lw_at lw_m1 155 rfl) rfl
theorem q169 : (Jvm.Cond.lays "java/lang/ArithmeticException" "java/lang/Throwable" "cause" "Ljava/lang/Throwable;") ∈ lw_all := lw_g (lw_at lw_m1 157 rfl) rfl
theorem q171 : (Jvm.Cond.lays "java/lang/ArithmeticException" "java/lang/Throwable" "stackTrace" "[Ljava/lang/StackTraceElement;") ∈ lw_all := lw_g (lw_at lw_m1 159 rfl) rfl
theorem q173 : (Jvm.Cond.lays "java/lang/ArithmeticException" "java/lang/Throwable" "depth" "I") ∈ lw_all := lw_g (lw_at lw_m1 161 rfl) rfl
theorem q175 : (Jvm.Cond.lays "java/lang/ArithmeticException" "java/lang/Throwable" "suppressedExceptions" "Ljava/util/List;") ∈ lw_all := lw_g (lw_at lw_m1 163 rfl) rfl
theorem q177 : (Jvm.Cond.superclass "java/lang/ArithmeticException" "java/lang/RuntimeException") ∈ lw_all := lw_g (lw_at lw_m1 165 rfl) rfl
theorem q178 : (Jvm.Cond.castable "java/lang/ArithmeticException" "java/lang/ArithmeticException") ∈ lw_tbl := lw_at lw_m1 166 rfl
theorem q185 : (Jvm.Cond.selects "java/lang/ArithmeticException" ({ cls := "java/lang/Throwable", name := "fillInStackTrace", desc := "(I)Ljava/lang/Throwable;" } : Jvm.MethodName) ({ cls := "java/lang/Throwable", name := "fillInStackTrace", desc := "(I)Ljava/lang/Throwable;" } : Jvm.MethodName)) ∈ lw_all := lw_g (lw_at lw_m1 173 rfl) rfl
theorem q207 : (Jvm.Cond.instanceMethod ({ cls := "java/lang/ArithmeticException", name := "<init>", desc := "()V" } : Jvm.MethodName)) ∈ lw_all := lw_g (lw_at lw_m1 195 rfl) rfl
theorem q208 : (Jvm.Cond.code ({ cls := "java/lang/ArithmeticException", name := "<init>", desc := "()V" } : Jvm.MethodName) prog_4_method_1_code (1 : Nat) (Option.none : Option Jvm.ClassFile.FieldType)) ∈ lw_all := lw_g (lw_at lw_m1 196 rfl) rfl
theorem q209 : (Jvm.Cond.methodLink "java/lang/ArithmeticException" (1 : Nat) ({ cls := "java/lang/RuntimeException", name := "<init>", desc := "()V" } : Jvm.MethodName)) ∈ lw_all := lw_g (lw_at lw_m1 197 rfl) rfl
theorem in_J3 : ∀ w ∈ wsJ30, w ∈ lw_all := lw_in wsJ30 [165, 167, 169, 171, 173, 175] (by decide +kernel) (by decide +kernel)

/-! java/lang/String -/
set_option maxRecDepth 100000
def RJ4 : String := "java/lang/String"
def TJ4 : u_T := fun k => match k with
  | 0 => ("java/lang/String", "value", "[B", true)
  | _ => ("java/lang/String", "coder", "B", true)
def tyJ4 : Nat → FieldType := fun k => match k with
  | 0 => .array .byte
  | _ => .byte
abbrev wsJ40 : List Cond := u_ws RJ4 TJ4 2
theorem nmJ4 : ∀ a, a < 2 → ∀ b, b < 2 → a ≠ b → (TJ4 a).2.1 ≠ (TJ4 b).2.1 := by decide +kernel
theorem tyJ4_ok : ∀ k, k < 2 → parseFieldDescriptor (TJ4 k).2.2.1 = some (tyJ4 k) := by decide +kernel
theorem q19 : (Jvm.Cond.initialized "java/lang/String") ∈ lw_all := lw_g (lw_at lw_m1 7 rfl) rfl
theorem q195 : (Jvm.Cond.instantiable "java/lang/String" (4 : Nat)) ∈ lw_all := lw_g (lw_at lw_m1 183 rfl) rfl
theorem q197 : (Jvm.Cond.laysFinal "java/lang/String" "java/lang/String" "value" "[B") ∈ lw_all := lw_g (lw_at lw_m1 185 rfl) rfl
theorem q198 : (Jvm.Cond.soleField "java/lang/String" "value") ∈ lw_all := lw_g (lw_at lw_m1 186 rfl) rfl
theorem q199 : (Jvm.Cond.laysFinal "java/lang/String" "java/lang/String" "coder" "B") ∈ lw_all := lw_g (lw_at lw_m1 187 rfl) rfl
theorem q200 : (Jvm.Cond.soleField "java/lang/String" "coder") ∈ lw_all := lw_g (lw_at lw_m1 188 rfl) rfl
theorem in_J4 : ∀ w ∈ wsJ40, w ∈ lw_all := lw_in wsJ40 [197, 199] (by decide +kernel) (by decide +kernel)

/-! java/lang/Object -/
set_option maxRecDepth 100000
def RJ5 : String := "java/lang/Object"
abbrev cJ5_init : ByteArray := object_method_1_code
def yJ5_init : MethodName := ⟨RJ5, "<init>", "()V"⟩
theorem dJ5_init_0 : decode cJ5_init 0 = .ok (.return_, 1) := by decide +kernel
theorem q26 : (Jvm.Cond.instanceMethod ({ cls := "java/lang/Object", name := "<init>", desc := "()V" } : Jvm.MethodName)) ∈ lw_all := lw_g (lw_at lw_m1 14 rfl) rfl
theorem q27 : (Jvm.Cond.code ({ cls := "java/lang/Object", name := "<init>", desc := "()V" } : Jvm.MethodName) object_method_1_code (1 : Nat) (Option.none : Option Jvm.ClassFile.FieldType)) ∈ lw_all := lw_g (lw_at lw_m1 15 rfl) rfl

theorem q53 : (Jvm.Cond.arrayClass Jvm.ClassFile.FieldType.int) ∈ lw_all := lw_g (lw_at lw_m1 41 rfl) rfl
set_option maxRecDepth 100000
theorem q196 : (Jvm.Cond.arrayClass Jvm.ClassFile.FieldType.byte) ∈ lw_all := lw_g (lw_at lw_m1 184 rfl) rfl
theorem q247 : (Jvm.Cond.arrayClass Jvm.ClassFile.FieldType.boolean) ∈ lw_all := lw_g (lw_at lw_m1 235 rfl) rfl
theorem q340 : (Jvm.Cond.arrayClass Jvm.ClassFile.FieldType.long) ∈ lw_all := lw_g (lw_at lw_m2 88 rfl) rfl

/-! FacetCountsLaw -/
set_option maxRecDepth 100000
def RX0 : String := "FacetCountsLaw"
abbrev cX0_share : ByteArray := method_3_code
def yX0_share : MethodName := ⟨RX0, "share", "(LFacetCounts;IIZ[J)I"⟩
theorem dX0_share_0 : decode cX0_share 0 = .ok (.aload 4, 2) := by decide +kernel
theorem dX0_share_2 : decode cX0_share 2 = .ok (.iconst 0, 1) := by decide +kernel
theorem dX0_share_3 : decode cX0_share 3 = .ok (.aload_n 0, 1) := by decide +kernel
theorem dX0_share_4 : decode cX0_share 4 = .ok (.iload_n 1, 1) := by decide +kernel
theorem dX0_share_5 : decode cX0_share 5 = .ok (.iload_n 2, 1) := by decide +kernel
theorem dX0_share_6 : decode cX0_share 6 = .ok (.iload_n 3, 1) := by decide +kernel
theorem dX0_share_7 : decode cX0_share 7 = .ok (.invokevirtual 7, 3) := by decide +kernel
theorem dX0_share_10 : decode cX0_share 10 = .ok (.i2l, 1) := by decide +kernel
theorem dX0_share_11 : decode cX0_share 11 = .ok (.lastore, 1) := by decide +kernel
theorem dX0_share_12 : decode cX0_share 12 = .ok (.goto 7, 3) := by decide +kernel
theorem dX0_share_15 : decode cX0_share 15 = .ok (.astore 5, 2) := by decide +kernel
theorem dX0_share_17 : decode cX0_share 17 = .ok (.iconst 1, 1) := by decide +kernel
theorem dX0_share_18 : decode cX0_share 18 = .ok (.ireturn, 1) := by decide +kernel
theorem dX0_share_19 : decode cX0_share 19 = .ok (.iconst 0, 1) := by decide +kernel
theorem dX0_share_20 : decode cX0_share 20 = .ok (.ireturn, 1) := by decide +kernel
theorem q12 : (Jvm.Cond.initialized "FacetCountsLaw") ∈ lw_all := lw_g (lw_at lw_m1 0 rfl) rfl
theorem q20 : (Jvm.Cond.classLink "FacetCountsLaw" (8 : Nat) "FacetCounts") ∈ lw_all := lw_g (lw_at lw_m1 8 rfl) rfl
theorem q22 : (Jvm.Cond.methodLink "FacetCountsLaw" (15 : Nat) ({ cls := "FacetCounts", name := "<init>", desc := "()V" } : Jvm.MethodName)) ∈ lw_all := lw_g (lw_at lw_m1 10 rfl) rfl
theorem q54 : (Jvm.Cond.methodLink "FacetCountsLaw" (19 : Nat) ({ cls := "FacetCounts", name := "row", desc := "(III)I" } : Jvm.MethodName)) ∈ lw_all := lw_g (lw_at lw_m1 42 rfl) rfl
theorem q80 : (Jvm.Cond.methodLink "FacetCountsLaw" (24 : Nat) ({ cls := "FacetCounts", name := "drop", desc := "(III)I" } : Jvm.MethodName)) ∈ lw_all := lw_g (lw_at lw_m1 68 rfl) rfl
theorem q84 : (Jvm.Cond.methodLink "FacetCountsLaw" (28 : Nat) ({ cls := "FacetCounts", name := "above", desc := "(II)I" } : Jvm.MethodName)) ∈ lw_all := lw_g (lw_at lw_m1 72 rfl) rfl
theorem q92 : (Jvm.Cond.methodLink "FacetCountsLaw" (33 : Nat) ({ cls := "FacetCounts", name := "choose", desc := "(IIZ)I" } : Jvm.MethodName)) ∈ lw_all := lw_g (lw_at lw_m1 80 rfl) rfl
theorem q100 : (Jvm.Cond.methodLink "FacetCountsLaw" (37 : Nat) ({ cls := "FacetCounts", name := "kept", desc := "()I" } : Jvm.MethodName)) ∈ lw_all := lw_g (lw_at lw_m1 88 rfl) rfl
theorem q101 : (Jvm.Cond.methodLink "FacetCountsLaw" (42 : Nat) ({ cls := "FacetCounts", name := "isKept", desc := "(I)I" } : Jvm.MethodName)) ∈ lw_all := lw_g (lw_at lw_m1 89 rfl) rfl
theorem q105 : (Jvm.Cond.methodLink "FacetCountsLaw" (47 : Nat) ({ cls := "FacetCounts", name := "facet", desc := "(II)I" } : Jvm.MethodName)) ∈ lw_all := lw_g (lw_at lw_m1 93 rfl) rfl
theorem q109 : (Jvm.Cond.methodLink "FacetCountsLaw" (51 : Nat) ({ cls := "FacetCounts", name := "top", desc := "(II)I" } : Jvm.MethodName)) ∈ lw_all := lw_g (lw_at lw_m1 97 rfl) rfl
theorem q113 : (Jvm.Cond.methodLink "FacetCountsLaw" (55 : Nat) ({ cls := "FacetCounts", name := "range", desc := "(III)I" } : Jvm.MethodName)) ∈ lw_all := lw_g (lw_at lw_m1 101 rfl) rfl
theorem q117 : (Jvm.Cond.methodLink "FacetCountsLaw" (59 : Nat) ({ cls := "FacetCounts", name := "sum", desc := "(III)I" } : Jvm.MethodName)) ∈ lw_all := lw_g (lw_at lw_m1 105 rfl) rfl
theorem q121 : (Jvm.Cond.methodLink "FacetCountsLaw" (72 : Nat) ({ cls := "FacetCounts", name := "changed", desc := "()I" } : Jvm.MethodName)) ∈ lw_all := lw_g (lw_at lw_m1 109 rfl) rfl
theorem q125 : (Jvm.Cond.methodLink "FacetCountsLaw" (76 : Nat) ({ cls := "FacetCounts", name := "rows", desc := "()I" } : Jvm.MethodName)) ∈ lw_all := lw_g (lw_at lw_m1 113 rfl) rfl
theorem q129 : (Jvm.Cond.methodLink "FacetCountsLaw" (63 : Nat) ({ cls := "FacetCountsLaw", name := "share", desc := "(LFacetCounts;IIZ[J)I" } : Jvm.MethodName)) ∈ lw_all := lw_g (lw_at lw_m1 117 rfl) rfl
theorem q130 : (Jvm.Cond.static ({ cls := "FacetCountsLaw", name := "share", desc := "(LFacetCounts;IIZ[J)I" } : Jvm.MethodName)) ∈ lw_all := lw_g (lw_at lw_m1 118 rfl) rfl
theorem q131 : (Jvm.Cond.codeWith ({ cls := "FacetCountsLaw", name := "share", desc := "(LFacetCounts;IIZ[J)I" } : Jvm.MethodName) method_3_code (6 : Nat) (Option.some Jvm.ClassFile.FieldType.int) [((0 : Nat), (12 : Nat), (15 : Nat), (13 : Nat))]) ∈ lw_all := lw_g (lw_at lw_m1 119 rfl) rfl
theorem q132 : (Jvm.Cond.classLink "FacetCountsLaw" (13 : Nat) "java/lang/ArithmeticException") ∈ lw_all := lw_g (lw_at lw_m1 120 rfl) rfl
theorem q201 : (Jvm.Cond.methodLink "FacetCountsLaw" (7 : Nat) ({ cls := "FacetCounts", name := "share", desc := "(IIZ)I" } : Jvm.MethodName)) ∈ lw_all := lw_g (lw_at lw_m1 189 rfl) rfl
theorem q219 : (Jvm.Cond.classLink "FacetCountsLaw" (16 : Nat) "FacetCountsModel") ∈ lw_all := lw_g (lw_at lw_m1 207 rfl) rfl
theorem q221 : (Jvm.Cond.methodLink "FacetCountsLaw" (18 : Nat) ({ cls := "FacetCountsModel", name := "<init>", desc := "()V" } : Jvm.MethodName)) ∈ lw_all := lw_g (lw_at lw_m1 209 rfl) rfl
theorem q248 : (Jvm.Cond.methodLink "FacetCountsLaw" (69 : Nat) ({ cls := "FacetCountsModel", name := "thrown", desc := "()I" } : Jvm.MethodName)) ∈ lw_all := lw_g (lw_at lw_m1 236 rfl) rfl
theorem q252 : (Jvm.Cond.methodLink "FacetCountsLaw" (23 : Nat) ({ cls := "FacetCountsModel", name := "row", desc := "(III)I" } : Jvm.MethodName)) ∈ lw_all := lw_g (lw_at lw_m2 0 rfl) rfl
theorem q268 : (Jvm.Cond.methodLink "FacetCountsLaw" (27 : Nat) ({ cls := "FacetCountsModel", name := "drop", desc := "(III)I" } : Jvm.MethodName)) ∈ lw_all := lw_g (lw_at lw_m2 16 rfl) rfl
theorem q272 : (Jvm.Cond.methodLink "FacetCountsLaw" (32 : Nat) ({ cls := "FacetCountsModel", name := "above", desc := "(II)I" } : Jvm.MethodName)) ∈ lw_all := lw_g (lw_at lw_m2 20 rfl) rfl
theorem q280 : (Jvm.Cond.methodLink "FacetCountsLaw" (36 : Nat) ({ cls := "FacetCountsModel", name := "choose", desc := "(IIZ)I" } : Jvm.MethodName)) ∈ lw_all := lw_g (lw_at lw_m2 28 rfl) rfl
theorem q300 : (Jvm.Cond.methodLink "FacetCountsLaw" (41 : Nat) ({ cls := "FacetCountsModel", name := "kept", desc := "()I" } : Jvm.MethodName)) ∈ lw_all := lw_g (lw_at lw_m2 48 rfl) rfl
theorem q304 : (Jvm.Cond.methodLink "FacetCountsLaw" (46 : Nat) ({ cls := "FacetCountsModel", name := "isKept", desc := "(I)I" } : Jvm.MethodName)) ∈ lw_all := lw_g (lw_at lw_m2 52 rfl) rfl
theorem q308 : (Jvm.Cond.methodLink "FacetCountsLaw" (50 : Nat) ({ cls := "FacetCountsModel", name := "facet", desc := "(II)I" } : Jvm.MethodName)) ∈ lw_all := lw_g (lw_at lw_m2 56 rfl) rfl
theorem q316 : (Jvm.Cond.methodLink "FacetCountsLaw" (54 : Nat) ({ cls := "FacetCountsModel", name := "top", desc := "(II)I" } : Jvm.MethodName)) ∈ lw_all := lw_g (lw_at lw_m2 64 rfl) rfl
theorem q320 : (Jvm.Cond.methodLink "FacetCountsLaw" (58 : Nat) ({ cls := "FacetCountsModel", name := "range", desc := "(III)I" } : Jvm.MethodName)) ∈ lw_all := lw_g (lw_at lw_m2 68 rfl) rfl
theorem q324 : (Jvm.Cond.methodLink "FacetCountsLaw" (62 : Nat) ({ cls := "FacetCountsModel", name := "sum", desc := "(III)I" } : Jvm.MethodName)) ∈ lw_all := lw_g (lw_at lw_m2 72 rfl) rfl
theorem q328 : (Jvm.Cond.methodLink "FacetCountsLaw" (68 : Nat) ({ cls := "FacetCountsModel", name := "share", desc := "(IIZ)I" } : Jvm.MethodName)) ∈ lw_all := lw_g (lw_at lw_m2 76 rfl) rfl
theorem q332 : (Jvm.Cond.methodLink "FacetCountsLaw" (75 : Nat) ({ cls := "FacetCountsModel", name := "changed", desc := "()I" } : Jvm.MethodName)) ∈ lw_all := lw_g (lw_at lw_m2 80 rfl) rfl
theorem q336 : (Jvm.Cond.methodLink "FacetCountsLaw" (79 : Nat) ({ cls := "FacetCountsModel", name := "rows", desc := "()I" } : Jvm.MethodName)) ∈ lw_all := lw_g (lw_at lw_m2 84 rfl) rfl
end
section
/-! the law's own entry -/
set_option maxRecDepth 100000
abbrev cL_law : ByteArray := code

theorem dL_law_0 : decode cL_law 0 = .ok (.new 8, 3) := by decide +kernel
theorem dL_law_3 : decode cL_law 3 = .ok (.dup, 1) := by decide +kernel
theorem dL_law_4 : decode cL_law 4 = .ok (.invokespecial 15, 3) := by decide +kernel
theorem dL_law_7 : decode cL_law 7 = .ok (.astore_n 1, 1) := by decide +kernel
theorem dL_law_8 : decode cL_law 8 = .ok (.new 16, 3) := by decide +kernel
theorem dL_law_11 : decode cL_law 11 = .ok (.dup, 1) := by decide +kernel
theorem dL_law_12 : decode cL_law 12 = .ok (.invokespecial 18, 3) := by decide +kernel
theorem dL_law_15 : decode cL_law 15 = .ok (.astore_n 2, 1) := by decide +kernel
theorem dL_law_16 : decode cL_law 16 = .ok (.iconst 1, 1) := by decide +kernel
theorem dL_law_17 : decode cL_law 17 = .ok (.newarray .long, 2) := by decide +kernel
theorem dL_law_19 : decode cL_law 19 = .ok (.astore_n 3, 1) := by decide +kernel
theorem dL_law_20 : decode cL_law 20 = .ok (.iconst 0, 1) := by decide +kernel
theorem dL_law_21 : decode cL_law 21 = .ok (.istore 4, 2) := by decide +kernel
theorem dL_law_23 : decode cL_law 23 = .ok (.iload 4, 2) := by decide +kernel
theorem dL_law_25 : decode cL_law 25 = .ok (.aload_n 0, 1) := by decide +kernel
theorem dL_law_26 : decode cL_law 26 = .ok (.arraylength, 1) := by decide +kernel
theorem dL_law_27 : decode cL_law 27 = .ok (.iconst 4, 1) := by decide +kernel
theorem dL_law_28 : decode cL_law 28 = .ok (.isub, 1) := by decide +kernel
theorem dL_law_29 : decode cL_law 29 = .ok (.if_icmp .gt 613, 3) := by decide +kernel
theorem dL_law_32 : decode cL_law 32 = .ok (.aload_n 0, 1) := by decide +kernel
theorem dL_law_33 : decode cL_law 33 = .ok (.iload 4, 2) := by decide +kernel
theorem dL_law_35 : decode cL_law 35 = .ok (.iaload, 1) := by decide +kernel
theorem dL_law_36 : decode cL_law 36 = .ok (.bipush 15, 2) := by decide +kernel
theorem dL_law_38 : decode cL_law 38 = .ok (.iand, 1) := by decide +kernel
theorem dL_law_39 : decode cL_law 39 = .ok (.tableswitch 597 0 12 #[65, 114, 163, 200, 265, 278, 303, 340, 377, 426, 475, 571, 584], 65) := by decide +kernel
theorem dL_law_104 : decode cL_law 104 = .ok (.aload_n 1, 1) := by decide +kernel
theorem dL_law_105 : decode cL_law 105 = .ok (.aload_n 0, 1) := by decide +kernel
theorem dL_law_106 : decode cL_law 106 = .ok (.iload 4, 2) := by decide +kernel
theorem dL_law_108 : decode cL_law 108 = .ok (.iconst 1, 1) := by decide +kernel
theorem dL_law_109 : decode cL_law 109 = .ok (.iadd, 1) := by decide +kernel
theorem dL_law_110 : decode cL_law 110 = .ok (.iaload, 1) := by decide +kernel
theorem dL_law_111 : decode cL_law 111 = .ok (.aload_n 0, 1) := by decide +kernel
theorem dL_law_112 : decode cL_law 112 = .ok (.iload 4, 2) := by decide +kernel
theorem dL_law_114 : decode cL_law 114 = .ok (.iconst 2, 1) := by decide +kernel
theorem dL_law_115 : decode cL_law 115 = .ok (.iadd, 1) := by decide +kernel
theorem dL_law_116 : decode cL_law 116 = .ok (.iaload, 1) := by decide +kernel
theorem dL_law_117 : decode cL_law 117 = .ok (.aload_n 0, 1) := by decide +kernel
theorem dL_law_118 : decode cL_law 118 = .ok (.iload 4, 2) := by decide +kernel
theorem dL_law_120 : decode cL_law 120 = .ok (.iconst 3, 1) := by decide +kernel
theorem dL_law_121 : decode cL_law 121 = .ok (.iadd, 1) := by decide +kernel
theorem dL_law_122 : decode cL_law 122 = .ok (.iaload, 1) := by decide +kernel
theorem dL_law_123 : decode cL_law 123 = .ok (.invokevirtual 19, 3) := by decide +kernel
theorem dL_law_126 : decode cL_law 126 = .ok (.aload_n 2, 1) := by decide +kernel
theorem dL_law_127 : decode cL_law 127 = .ok (.aload_n 0, 1) := by decide +kernel
theorem dL_law_128 : decode cL_law 128 = .ok (.iload 4, 2) := by decide +kernel
theorem dL_law_130 : decode cL_law 130 = .ok (.iconst 1, 1) := by decide +kernel
theorem dL_law_131 : decode cL_law 131 = .ok (.iadd, 1) := by decide +kernel
theorem dL_law_132 : decode cL_law 132 = .ok (.iaload, 1) := by decide +kernel
theorem dL_law_133 : decode cL_law 133 = .ok (.aload_n 0, 1) := by decide +kernel
theorem dL_law_134 : decode cL_law 134 = .ok (.iload 4, 2) := by decide +kernel
theorem dL_law_136 : decode cL_law 136 = .ok (.iconst 2, 1) := by decide +kernel
theorem dL_law_137 : decode cL_law 137 = .ok (.iadd, 1) := by decide +kernel
theorem dL_law_138 : decode cL_law 138 = .ok (.iaload, 1) := by decide +kernel
theorem dL_law_139 : decode cL_law 139 = .ok (.aload_n 0, 1) := by decide +kernel
theorem dL_law_140 : decode cL_law 140 = .ok (.iload 4, 2) := by decide +kernel
theorem dL_law_142 : decode cL_law 142 = .ok (.iconst 3, 1) := by decide +kernel
theorem dL_law_143 : decode cL_law 143 = .ok (.iadd, 1) := by decide +kernel
theorem dL_law_144 : decode cL_law 144 = .ok (.iaload, 1) := by decide +kernel
theorem dL_law_145 : decode cL_law 145 = .ok (.invokevirtual 23, 3) := by decide +kernel
theorem dL_law_148 : decode cL_law 148 = .ok (.if_icmp .eq 488, 3) := by decide +kernel
theorem dL_law_151 : decode cL_law 151 = .ok (.iconst 0, 1) := by decide +kernel
theorem dL_law_152 : decode cL_law 152 = .ok (.ireturn, 1) := by decide +kernel
theorem dL_law_153 : decode cL_law 153 = .ok (.aload_n 1, 1) := by decide +kernel
theorem dL_law_154 : decode cL_law 154 = .ok (.aload_n 0, 1) := by decide +kernel
theorem dL_law_155 : decode cL_law 155 = .ok (.iload 4, 2) := by decide +kernel
theorem dL_law_157 : decode cL_law 157 = .ok (.iconst 1, 1) := by decide +kernel
theorem dL_law_158 : decode cL_law 158 = .ok (.iadd, 1) := by decide +kernel
theorem dL_law_159 : decode cL_law 159 = .ok (.iaload, 1) := by decide +kernel
theorem dL_law_160 : decode cL_law 160 = .ok (.aload_n 0, 1) := by decide +kernel
theorem dL_law_161 : decode cL_law 161 = .ok (.iload 4, 2) := by decide +kernel
theorem dL_law_163 : decode cL_law 163 = .ok (.iconst 2, 1) := by decide +kernel
theorem dL_law_164 : decode cL_law 164 = .ok (.iadd, 1) := by decide +kernel
theorem dL_law_165 : decode cL_law 165 = .ok (.iaload, 1) := by decide +kernel
theorem dL_law_166 : decode cL_law 166 = .ok (.aload_n 0, 1) := by decide +kernel
theorem dL_law_167 : decode cL_law 167 = .ok (.iload 4, 2) := by decide +kernel
theorem dL_law_169 : decode cL_law 169 = .ok (.iconst 3, 1) := by decide +kernel
theorem dL_law_170 : decode cL_law 170 = .ok (.iadd, 1) := by decide +kernel
theorem dL_law_171 : decode cL_law 171 = .ok (.iaload, 1) := by decide +kernel
theorem dL_law_172 : decode cL_law 172 = .ok (.invokevirtual 24, 3) := by decide +kernel
theorem dL_law_175 : decode cL_law 175 = .ok (.aload_n 2, 1) := by decide +kernel
theorem dL_law_176 : decode cL_law 176 = .ok (.aload_n 0, 1) := by decide +kernel
theorem dL_law_177 : decode cL_law 177 = .ok (.iload 4, 2) := by decide +kernel
theorem dL_law_179 : decode cL_law 179 = .ok (.iconst 1, 1) := by decide +kernel
theorem dL_law_180 : decode cL_law 180 = .ok (.iadd, 1) := by decide +kernel
theorem dL_law_181 : decode cL_law 181 = .ok (.iaload, 1) := by decide +kernel
theorem dL_law_182 : decode cL_law 182 = .ok (.aload_n 0, 1) := by decide +kernel
theorem dL_law_183 : decode cL_law 183 = .ok (.iload 4, 2) := by decide +kernel
theorem dL_law_185 : decode cL_law 185 = .ok (.iconst 2, 1) := by decide +kernel
theorem dL_law_186 : decode cL_law 186 = .ok (.iadd, 1) := by decide +kernel
theorem dL_law_187 : decode cL_law 187 = .ok (.iaload, 1) := by decide +kernel
theorem dL_law_188 : decode cL_law 188 = .ok (.aload_n 0, 1) := by decide +kernel
theorem dL_law_189 : decode cL_law 189 = .ok (.iload 4, 2) := by decide +kernel
theorem dL_law_191 : decode cL_law 191 = .ok (.iconst 3, 1) := by decide +kernel
theorem dL_law_192 : decode cL_law 192 = .ok (.iadd, 1) := by decide +kernel
theorem dL_law_193 : decode cL_law 193 = .ok (.iaload, 1) := by decide +kernel
theorem dL_law_194 : decode cL_law 194 = .ok (.invokevirtual 27, 3) := by decide +kernel
theorem dL_law_197 : decode cL_law 197 = .ok (.if_icmp .eq 439, 3) := by decide +kernel
theorem dL_law_200 : decode cL_law 200 = .ok (.iconst 0, 1) := by decide +kernel
theorem dL_law_201 : decode cL_law 201 = .ok (.ireturn, 1) := by decide +kernel
theorem dL_law_202 : decode cL_law 202 = .ok (.aload_n 1, 1) := by decide +kernel
theorem dL_law_203 : decode cL_law 203 = .ok (.aload_n 0, 1) := by decide +kernel
theorem dL_law_204 : decode cL_law 204 = .ok (.iload 4, 2) := by decide +kernel
theorem dL_law_206 : decode cL_law 206 = .ok (.iconst 1, 1) := by decide +kernel
theorem dL_law_207 : decode cL_law 207 = .ok (.iadd, 1) := by decide +kernel
theorem dL_law_208 : decode cL_law 208 = .ok (.iaload, 1) := by decide +kernel
end
section
set_option maxRecDepth 100000
theorem dL_law_209 : decode cL_law 209 = .ok (.aload_n 0, 1) := by decide +kernel
theorem dL_law_210 : decode cL_law 210 = .ok (.iload 4, 2) := by decide +kernel
theorem dL_law_212 : decode cL_law 212 = .ok (.iconst 2, 1) := by decide +kernel
theorem dL_law_213 : decode cL_law 213 = .ok (.iadd, 1) := by decide +kernel
theorem dL_law_214 : decode cL_law 214 = .ok (.iaload, 1) := by decide +kernel
theorem dL_law_215 : decode cL_law 215 = .ok (.invokevirtual 28, 3) := by decide +kernel
theorem dL_law_218 : decode cL_law 218 = .ok (.aload_n 2, 1) := by decide +kernel
theorem dL_law_219 : decode cL_law 219 = .ok (.aload_n 0, 1) := by decide +kernel
theorem dL_law_220 : decode cL_law 220 = .ok (.iload 4, 2) := by decide +kernel
theorem dL_law_222 : decode cL_law 222 = .ok (.iconst 1, 1) := by decide +kernel
theorem dL_law_223 : decode cL_law 223 = .ok (.iadd, 1) := by decide +kernel
theorem dL_law_224 : decode cL_law 224 = .ok (.iaload, 1) := by decide +kernel
theorem dL_law_225 : decode cL_law 225 = .ok (.aload_n 0, 1) := by decide +kernel
theorem dL_law_226 : decode cL_law 226 = .ok (.iload 4, 2) := by decide +kernel
theorem dL_law_228 : decode cL_law 228 = .ok (.iconst 2, 1) := by decide +kernel
theorem dL_law_229 : decode cL_law 229 = .ok (.iadd, 1) := by decide +kernel
theorem dL_law_230 : decode cL_law 230 = .ok (.iaload, 1) := by decide +kernel
theorem dL_law_231 : decode cL_law 231 = .ok (.invokevirtual 32, 3) := by decide +kernel
theorem dL_law_234 : decode cL_law 234 = .ok (.if_icmp .eq 402, 3) := by decide +kernel
theorem dL_law_237 : decode cL_law 237 = .ok (.iconst 0, 1) := by decide +kernel
theorem dL_law_238 : decode cL_law 238 = .ok (.ireturn, 1) := by decide +kernel
theorem dL_law_239 : decode cL_law 239 = .ok (.aload_n 1, 1) := by decide +kernel
theorem dL_law_240 : decode cL_law 240 = .ok (.aload_n 0, 1) := by decide +kernel
theorem dL_law_241 : decode cL_law 241 = .ok (.iload 4, 2) := by decide +kernel
theorem dL_law_243 : decode cL_law 243 = .ok (.iconst 1, 1) := by decide +kernel
theorem dL_law_244 : decode cL_law 244 = .ok (.iadd, 1) := by decide +kernel
theorem dL_law_245 : decode cL_law 245 = .ok (.iaload, 1) := by decide +kernel
theorem dL_law_246 : decode cL_law 246 = .ok (.aload_n 0, 1) := by decide +kernel
theorem dL_law_247 : decode cL_law 247 = .ok (.iload 4, 2) := by decide +kernel
theorem dL_law_249 : decode cL_law 249 = .ok (.iconst 2, 1) := by decide +kernel
theorem dL_law_250 : decode cL_law 250 = .ok (.iadd, 1) := by decide +kernel
theorem dL_law_251 : decode cL_law 251 = .ok (.iaload, 1) := by decide +kernel
theorem dL_law_252 : decode cL_law 252 = .ok (.aload_n 0, 1) := by decide +kernel
theorem dL_law_253 : decode cL_law 253 = .ok (.iload 4, 2) := by decide +kernel
theorem dL_law_255 : decode cL_law 255 = .ok (.iconst 3, 1) := by decide +kernel
theorem dL_law_256 : decode cL_law 256 = .ok (.iadd, 1) := by decide +kernel
theorem dL_law_257 : decode cL_law 257 = .ok (.iaload, 1) := by decide +kernel
theorem dL_law_258 : decode cL_law 258 = .ok (.ifCond .eq 7, 3) := by decide +kernel
theorem dL_law_261 : decode cL_law 261 = .ok (.iconst 1, 1) := by decide +kernel
theorem dL_law_262 : decode cL_law 262 = .ok (.goto 4, 3) := by decide +kernel
theorem dL_law_265 : decode cL_law 265 = .ok (.iconst 0, 1) := by decide +kernel
theorem dL_law_266 : decode cL_law 266 = .ok (.invokevirtual 33, 3) := by decide +kernel
theorem dL_law_269 : decode cL_law 269 = .ok (.aload_n 2, 1) := by decide +kernel
theorem dL_law_270 : decode cL_law 270 = .ok (.aload_n 0, 1) := by decide +kernel
theorem dL_law_271 : decode cL_law 271 = .ok (.iload 4, 2) := by decide +kernel
theorem dL_law_273 : decode cL_law 273 = .ok (.iconst 1, 1) := by decide +kernel
theorem dL_law_274 : decode cL_law 274 = .ok (.iadd, 1) := by decide +kernel
theorem dL_law_275 : decode cL_law 275 = .ok (.iaload, 1) := by decide +kernel
theorem dL_law_276 : decode cL_law 276 = .ok (.aload_n 0, 1) := by decide +kernel
theorem dL_law_277 : decode cL_law 277 = .ok (.iload 4, 2) := by decide +kernel
theorem dL_law_279 : decode cL_law 279 = .ok (.iconst 2, 1) := by decide +kernel
theorem dL_law_280 : decode cL_law 280 = .ok (.iadd, 1) := by decide +kernel
theorem dL_law_281 : decode cL_law 281 = .ok (.iaload, 1) := by decide +kernel
theorem dL_law_282 : decode cL_law 282 = .ok (.aload_n 0, 1) := by decide +kernel
theorem dL_law_283 : decode cL_law 283 = .ok (.iload 4, 2) := by decide +kernel
theorem dL_law_285 : decode cL_law 285 = .ok (.iconst 3, 1) := by decide +kernel
theorem dL_law_286 : decode cL_law 286 = .ok (.iadd, 1) := by decide +kernel
theorem dL_law_287 : decode cL_law 287 = .ok (.iaload, 1) := by decide +kernel
theorem dL_law_288 : decode cL_law 288 = .ok (.ifCond .eq 7, 3) := by decide +kernel
theorem dL_law_291 : decode cL_law 291 = .ok (.iconst 1, 1) := by decide +kernel
theorem dL_law_292 : decode cL_law 292 = .ok (.goto 4, 3) := by decide +kernel
theorem dL_law_295 : decode cL_law 295 = .ok (.iconst 0, 1) := by decide +kernel
theorem dL_law_296 : decode cL_law 296 = .ok (.invokevirtual 36, 3) := by decide +kernel
theorem dL_law_299 : decode cL_law 299 = .ok (.if_icmp .eq 337, 3) := by decide +kernel
theorem dL_law_302 : decode cL_law 302 = .ok (.iconst 0, 1) := by decide +kernel
theorem dL_law_303 : decode cL_law 303 = .ok (.ireturn, 1) := by decide +kernel
theorem dL_law_304 : decode cL_law 304 = .ok (.aload_n 1, 1) := by decide +kernel
theorem dL_law_305 : decode cL_law 305 = .ok (.invokevirtual 37, 3) := by decide +kernel
theorem dL_law_308 : decode cL_law 308 = .ok (.aload_n 2, 1) := by decide +kernel
theorem dL_law_309 : decode cL_law 309 = .ok (.invokevirtual 41, 3) := by decide +kernel
theorem dL_law_312 : decode cL_law 312 = .ok (.if_icmp .eq 324, 3) := by decide +kernel
theorem dL_law_315 : decode cL_law 315 = .ok (.iconst 0, 1) := by decide +kernel
theorem dL_law_316 : decode cL_law 316 = .ok (.ireturn, 1) := by decide +kernel
theorem dL_law_317 : decode cL_law 317 = .ok (.aload_n 1, 1) := by decide +kernel
theorem dL_law_318 : decode cL_law 318 = .ok (.aload_n 0, 1) := by decide +kernel
theorem dL_law_319 : decode cL_law 319 = .ok (.iload 4, 2) := by decide +kernel
theorem dL_law_321 : decode cL_law 321 = .ok (.iconst 1, 1) := by decide +kernel
theorem dL_law_322 : decode cL_law 322 = .ok (.iadd, 1) := by decide +kernel
theorem dL_law_323 : decode cL_law 323 = .ok (.iaload, 1) := by decide +kernel
theorem dL_law_324 : decode cL_law 324 = .ok (.invokevirtual 42, 3) := by decide +kernel
theorem dL_law_327 : decode cL_law 327 = .ok (.aload_n 2, 1) := by decide +kernel
theorem dL_law_328 : decode cL_law 328 = .ok (.aload_n 0, 1) := by decide +kernel
theorem dL_law_329 : decode cL_law 329 = .ok (.iload 4, 2) := by decide +kernel
theorem dL_law_331 : decode cL_law 331 = .ok (.iconst 1, 1) := by decide +kernel
theorem dL_law_332 : decode cL_law 332 = .ok (.iadd, 1) := by decide +kernel
theorem dL_law_333 : decode cL_law 333 = .ok (.iaload, 1) := by decide +kernel
theorem dL_law_334 : decode cL_law 334 = .ok (.invokevirtual 46, 3) := by decide +kernel
theorem dL_law_337 : decode cL_law 337 = .ok (.if_icmp .eq 299, 3) := by decide +kernel
theorem dL_law_340 : decode cL_law 340 = .ok (.iconst 0, 1) := by decide +kernel
theorem dL_law_341 : decode cL_law 341 = .ok (.ireturn, 1) := by decide +kernel
theorem dL_law_342 : decode cL_law 342 = .ok (.aload_n 1, 1) := by decide +kernel
theorem dL_law_343 : decode cL_law 343 = .ok (.aload_n 0, 1) := by decide +kernel
theorem dL_law_344 : decode cL_law 344 = .ok (.iload 4, 2) := by decide +kernel
theorem dL_law_346 : decode cL_law 346 = .ok (.iconst 1, 1) := by decide +kernel
theorem dL_law_347 : decode cL_law 347 = .ok (.iadd, 1) := by decide +kernel
theorem dL_law_348 : decode cL_law 348 = .ok (.iaload, 1) := by decide +kernel
theorem dL_law_349 : decode cL_law 349 = .ok (.aload_n 0, 1) := by decide +kernel
theorem dL_law_350 : decode cL_law 350 = .ok (.iload 4, 2) := by decide +kernel
theorem dL_law_352 : decode cL_law 352 = .ok (.iconst 2, 1) := by decide +kernel
theorem dL_law_353 : decode cL_law 353 = .ok (.iadd, 1) := by decide +kernel
theorem dL_law_354 : decode cL_law 354 = .ok (.iaload, 1) := by decide +kernel
theorem dL_law_355 : decode cL_law 355 = .ok (.invokevirtual 47, 3) := by decide +kernel
theorem dL_law_358 : decode cL_law 358 = .ok (.aload_n 2, 1) := by decide +kernel
theorem dL_law_359 : decode cL_law 359 = .ok (.aload_n 0, 1) := by decide +kernel
theorem dL_law_360 : decode cL_law 360 = .ok (.iload 4, 2) := by decide +kernel
end
section
set_option maxRecDepth 100000
theorem dL_law_362 : decode cL_law 362 = .ok (.iconst 1, 1) := by decide +kernel
theorem dL_law_363 : decode cL_law 363 = .ok (.iadd, 1) := by decide +kernel
theorem dL_law_364 : decode cL_law 364 = .ok (.iaload, 1) := by decide +kernel
theorem dL_law_365 : decode cL_law 365 = .ok (.aload_n 0, 1) := by decide +kernel
theorem dL_law_366 : decode cL_law 366 = .ok (.iload 4, 2) := by decide +kernel
theorem dL_law_368 : decode cL_law 368 = .ok (.iconst 2, 1) := by decide +kernel
theorem dL_law_369 : decode cL_law 369 = .ok (.iadd, 1) := by decide +kernel
theorem dL_law_370 : decode cL_law 370 = .ok (.iaload, 1) := by decide +kernel
theorem dL_law_371 : decode cL_law 371 = .ok (.invokevirtual 50, 3) := by decide +kernel
theorem dL_law_374 : decode cL_law 374 = .ok (.if_icmp .eq 262, 3) := by decide +kernel
theorem dL_law_377 : decode cL_law 377 = .ok (.iconst 0, 1) := by decide +kernel
theorem dL_law_378 : decode cL_law 378 = .ok (.ireturn, 1) := by decide +kernel
theorem dL_law_379 : decode cL_law 379 = .ok (.aload_n 1, 1) := by decide +kernel
theorem dL_law_380 : decode cL_law 380 = .ok (.aload_n 0, 1) := by decide +kernel
theorem dL_law_381 : decode cL_law 381 = .ok (.iload 4, 2) := by decide +kernel
theorem dL_law_383 : decode cL_law 383 = .ok (.iconst 1, 1) := by decide +kernel
theorem dL_law_384 : decode cL_law 384 = .ok (.iadd, 1) := by decide +kernel
theorem dL_law_385 : decode cL_law 385 = .ok (.iaload, 1) := by decide +kernel
theorem dL_law_386 : decode cL_law 386 = .ok (.aload_n 0, 1) := by decide +kernel
theorem dL_law_387 : decode cL_law 387 = .ok (.iload 4, 2) := by decide +kernel
theorem dL_law_389 : decode cL_law 389 = .ok (.iconst 2, 1) := by decide +kernel
theorem dL_law_390 : decode cL_law 390 = .ok (.iadd, 1) := by decide +kernel
theorem dL_law_391 : decode cL_law 391 = .ok (.iaload, 1) := by decide +kernel
theorem dL_law_392 : decode cL_law 392 = .ok (.invokevirtual 51, 3) := by decide +kernel
theorem dL_law_395 : decode cL_law 395 = .ok (.aload_n 2, 1) := by decide +kernel
theorem dL_law_396 : decode cL_law 396 = .ok (.aload_n 0, 1) := by decide +kernel
theorem dL_law_397 : decode cL_law 397 = .ok (.iload 4, 2) := by decide +kernel
theorem dL_law_399 : decode cL_law 399 = .ok (.iconst 1, 1) := by decide +kernel
theorem dL_law_400 : decode cL_law 400 = .ok (.iadd, 1) := by decide +kernel
theorem dL_law_401 : decode cL_law 401 = .ok (.iaload, 1) := by decide +kernel
theorem dL_law_402 : decode cL_law 402 = .ok (.aload_n 0, 1) := by decide +kernel
theorem dL_law_403 : decode cL_law 403 = .ok (.iload 4, 2) := by decide +kernel
theorem dL_law_405 : decode cL_law 405 = .ok (.iconst 2, 1) := by decide +kernel
theorem dL_law_406 : decode cL_law 406 = .ok (.iadd, 1) := by decide +kernel
theorem dL_law_407 : decode cL_law 407 = .ok (.iaload, 1) := by decide +kernel
theorem dL_law_408 : decode cL_law 408 = .ok (.invokevirtual 54, 3) := by decide +kernel
theorem dL_law_411 : decode cL_law 411 = .ok (.if_icmp .eq 225, 3) := by decide +kernel
theorem dL_law_414 : decode cL_law 414 = .ok (.iconst 0, 1) := by decide +kernel
theorem dL_law_415 : decode cL_law 415 = .ok (.ireturn, 1) := by decide +kernel
theorem dL_law_416 : decode cL_law 416 = .ok (.aload_n 1, 1) := by decide +kernel
theorem dL_law_417 : decode cL_law 417 = .ok (.aload_n 0, 1) := by decide +kernel
theorem dL_law_418 : decode cL_law 418 = .ok (.iload 4, 2) := by decide +kernel
theorem dL_law_420 : decode cL_law 420 = .ok (.iconst 1, 1) := by decide +kernel
theorem dL_law_421 : decode cL_law 421 = .ok (.iadd, 1) := by decide +kernel
theorem dL_law_422 : decode cL_law 422 = .ok (.iaload, 1) := by decide +kernel
theorem dL_law_423 : decode cL_law 423 = .ok (.aload_n 0, 1) := by decide +kernel
theorem dL_law_424 : decode cL_law 424 = .ok (.iload 4, 2) := by decide +kernel
theorem dL_law_426 : decode cL_law 426 = .ok (.iconst 2, 1) := by decide +kernel
theorem dL_law_427 : decode cL_law 427 = .ok (.iadd, 1) := by decide +kernel
theorem dL_law_428 : decode cL_law 428 = .ok (.iaload, 1) := by decide +kernel
theorem dL_law_429 : decode cL_law 429 = .ok (.aload_n 0, 1) := by decide +kernel
theorem dL_law_430 : decode cL_law 430 = .ok (.iload 4, 2) := by decide +kernel
theorem dL_law_432 : decode cL_law 432 = .ok (.iconst 3, 1) := by decide +kernel
theorem dL_law_433 : decode cL_law 433 = .ok (.iadd, 1) := by decide +kernel
theorem dL_law_434 : decode cL_law 434 = .ok (.iaload, 1) := by decide +kernel
theorem dL_law_435 : decode cL_law 435 = .ok (.invokevirtual 55, 3) := by decide +kernel
theorem dL_law_438 : decode cL_law 438 = .ok (.aload_n 2, 1) := by decide +kernel
theorem dL_law_439 : decode cL_law 439 = .ok (.aload_n 0, 1) := by decide +kernel
theorem dL_law_440 : decode cL_law 440 = .ok (.iload 4, 2) := by decide +kernel
theorem dL_law_442 : decode cL_law 442 = .ok (.iconst 1, 1) := by decide +kernel
theorem dL_law_443 : decode cL_law 443 = .ok (.iadd, 1) := by decide +kernel
theorem dL_law_444 : decode cL_law 444 = .ok (.iaload, 1) := by decide +kernel
theorem dL_law_445 : decode cL_law 445 = .ok (.aload_n 0, 1) := by decide +kernel
theorem dL_law_446 : decode cL_law 446 = .ok (.iload 4, 2) := by decide +kernel
theorem dL_law_448 : decode cL_law 448 = .ok (.iconst 2, 1) := by decide +kernel
theorem dL_law_449 : decode cL_law 449 = .ok (.iadd, 1) := by decide +kernel
theorem dL_law_450 : decode cL_law 450 = .ok (.iaload, 1) := by decide +kernel
theorem dL_law_451 : decode cL_law 451 = .ok (.aload_n 0, 1) := by decide +kernel
theorem dL_law_452 : decode cL_law 452 = .ok (.iload 4, 2) := by decide +kernel
theorem dL_law_454 : decode cL_law 454 = .ok (.iconst 3, 1) := by decide +kernel
theorem dL_law_455 : decode cL_law 455 = .ok (.iadd, 1) := by decide +kernel
theorem dL_law_456 : decode cL_law 456 = .ok (.iaload, 1) := by decide +kernel
theorem dL_law_457 : decode cL_law 457 = .ok (.invokevirtual 58, 3) := by decide +kernel
theorem dL_law_460 : decode cL_law 460 = .ok (.if_icmp .eq 176, 3) := by decide +kernel
theorem dL_law_463 : decode cL_law 463 = .ok (.iconst 0, 1) := by decide +kernel
theorem dL_law_464 : decode cL_law 464 = .ok (.ireturn, 1) := by decide +kernel
theorem dL_law_465 : decode cL_law 465 = .ok (.aload_n 1, 1) := by decide +kernel
theorem dL_law_466 : decode cL_law 466 = .ok (.aload_n 0, 1) := by decide +kernel
theorem dL_law_467 : decode cL_law 467 = .ok (.iload 4, 2) := by decide +kernel
theorem dL_law_469 : decode cL_law 469 = .ok (.iconst 1, 1) := by decide +kernel
theorem dL_law_470 : decode cL_law 470 = .ok (.iadd, 1) := by decide +kernel
theorem dL_law_471 : decode cL_law 471 = .ok (.iaload, 1) := by decide +kernel
theorem dL_law_472 : decode cL_law 472 = .ok (.aload_n 0, 1) := by decide +kernel
theorem dL_law_473 : decode cL_law 473 = .ok (.iload 4, 2) := by decide +kernel
theorem dL_law_475 : decode cL_law 475 = .ok (.iconst 2, 1) := by decide +kernel
theorem dL_law_476 : decode cL_law 476 = .ok (.iadd, 1) := by decide +kernel
theorem dL_law_477 : decode cL_law 477 = .ok (.iaload, 1) := by decide +kernel
theorem dL_law_478 : decode cL_law 478 = .ok (.aload_n 0, 1) := by decide +kernel
theorem dL_law_479 : decode cL_law 479 = .ok (.iload 4, 2) := by decide +kernel
theorem dL_law_481 : decode cL_law 481 = .ok (.iconst 3, 1) := by decide +kernel
theorem dL_law_482 : decode cL_law 482 = .ok (.iadd, 1) := by decide +kernel
theorem dL_law_483 : decode cL_law 483 = .ok (.iaload, 1) := by decide +kernel
theorem dL_law_484 : decode cL_law 484 = .ok (.invokevirtual 59, 3) := by decide +kernel
theorem dL_law_487 : decode cL_law 487 = .ok (.aload_n 2, 1) := by decide +kernel
theorem dL_law_488 : decode cL_law 488 = .ok (.aload_n 0, 1) := by decide +kernel
theorem dL_law_489 : decode cL_law 489 = .ok (.iload 4, 2) := by decide +kernel
theorem dL_law_491 : decode cL_law 491 = .ok (.iconst 1, 1) := by decide +kernel
theorem dL_law_492 : decode cL_law 492 = .ok (.iadd, 1) := by decide +kernel
theorem dL_law_493 : decode cL_law 493 = .ok (.iaload, 1) := by decide +kernel
theorem dL_law_494 : decode cL_law 494 = .ok (.aload_n 0, 1) := by decide +kernel
theorem dL_law_495 : decode cL_law 495 = .ok (.iload 4, 2) := by decide +kernel
theorem dL_law_497 : decode cL_law 497 = .ok (.iconst 2, 1) := by decide +kernel
theorem dL_law_498 : decode cL_law 498 = .ok (.iadd, 1) := by decide +kernel
theorem dL_law_499 : decode cL_law 499 = .ok (.iaload, 1) := by decide +kernel
theorem dL_law_500 : decode cL_law 500 = .ok (.aload_n 0, 1) := by decide +kernel
end
section
set_option maxRecDepth 100000
theorem dL_law_501 : decode cL_law 501 = .ok (.iload 4, 2) := by decide +kernel
theorem dL_law_503 : decode cL_law 503 = .ok (.iconst 3, 1) := by decide +kernel
theorem dL_law_504 : decode cL_law 504 = .ok (.iadd, 1) := by decide +kernel
theorem dL_law_505 : decode cL_law 505 = .ok (.iaload, 1) := by decide +kernel
theorem dL_law_506 : decode cL_law 506 = .ok (.invokevirtual 62, 3) := by decide +kernel
theorem dL_law_509 : decode cL_law 509 = .ok (.if_icmp .eq 127, 3) := by decide +kernel
theorem dL_law_512 : decode cL_law 512 = .ok (.iconst 0, 1) := by decide +kernel
theorem dL_law_513 : decode cL_law 513 = .ok (.ireturn, 1) := by decide +kernel
theorem dL_law_514 : decode cL_law 514 = .ok (.aload_n 1, 1) := by decide +kernel
theorem dL_law_515 : decode cL_law 515 = .ok (.aload_n 0, 1) := by decide +kernel
theorem dL_law_516 : decode cL_law 516 = .ok (.iload 4, 2) := by decide +kernel
theorem dL_law_518 : decode cL_law 518 = .ok (.iconst 1, 1) := by decide +kernel
theorem dL_law_519 : decode cL_law 519 = .ok (.iadd, 1) := by decide +kernel
theorem dL_law_520 : decode cL_law 520 = .ok (.iaload, 1) := by decide +kernel
theorem dL_law_521 : decode cL_law 521 = .ok (.aload_n 0, 1) := by decide +kernel
theorem dL_law_522 : decode cL_law 522 = .ok (.iload 4, 2) := by decide +kernel
theorem dL_law_524 : decode cL_law 524 = .ok (.iconst 2, 1) := by decide +kernel
theorem dL_law_525 : decode cL_law 525 = .ok (.iadd, 1) := by decide +kernel
theorem dL_law_526 : decode cL_law 526 = .ok (.iaload, 1) := by decide +kernel
theorem dL_law_527 : decode cL_law 527 = .ok (.aload_n 0, 1) := by decide +kernel
theorem dL_law_528 : decode cL_law 528 = .ok (.iload 4, 2) := by decide +kernel
theorem dL_law_530 : decode cL_law 530 = .ok (.iconst 3, 1) := by decide +kernel
theorem dL_law_531 : decode cL_law 531 = .ok (.iadd, 1) := by decide +kernel
theorem dL_law_532 : decode cL_law 532 = .ok (.iaload, 1) := by decide +kernel
theorem dL_law_533 : decode cL_law 533 = .ok (.ifCond .eq 7, 3) := by decide +kernel
theorem dL_law_536 : decode cL_law 536 = .ok (.iconst 1, 1) := by decide +kernel
theorem dL_law_537 : decode cL_law 537 = .ok (.goto 4, 3) := by decide +kernel
theorem dL_law_540 : decode cL_law 540 = .ok (.iconst 0, 1) := by decide +kernel
theorem dL_law_541 : decode cL_law 541 = .ok (.aload_n 3, 1) := by decide +kernel
theorem dL_law_542 : decode cL_law 542 = .ok (.invokestatic 63, 3) := by decide +kernel
theorem dL_law_545 : decode cL_law 545 = .ok (.istore 5, 2) := by decide +kernel
theorem dL_law_547 : decode cL_law 547 = .ok (.aload_n 2, 1) := by decide +kernel
theorem dL_law_548 : decode cL_law 548 = .ok (.aload_n 0, 1) := by decide +kernel
theorem dL_law_549 : decode cL_law 549 = .ok (.iload 4, 2) := by decide +kernel
theorem dL_law_551 : decode cL_law 551 = .ok (.iconst 1, 1) := by decide +kernel
theorem dL_law_552 : decode cL_law 552 = .ok (.iadd, 1) := by decide +kernel
theorem dL_law_553 : decode cL_law 553 = .ok (.iaload, 1) := by decide +kernel
theorem dL_law_554 : decode cL_law 554 = .ok (.aload_n 0, 1) := by decide +kernel
theorem dL_law_555 : decode cL_law 555 = .ok (.iload 4, 2) := by decide +kernel
theorem dL_law_557 : decode cL_law 557 = .ok (.iconst 2, 1) := by decide +kernel
theorem dL_law_558 : decode cL_law 558 = .ok (.iadd, 1) := by decide +kernel
theorem dL_law_559 : decode cL_law 559 = .ok (.iaload, 1) := by decide +kernel
theorem dL_law_560 : decode cL_law 560 = .ok (.aload_n 0, 1) := by decide +kernel
theorem dL_law_561 : decode cL_law 561 = .ok (.iload 4, 2) := by decide +kernel
theorem dL_law_563 : decode cL_law 563 = .ok (.iconst 3, 1) := by decide +kernel
theorem dL_law_564 : decode cL_law 564 = .ok (.iadd, 1) := by decide +kernel
theorem dL_law_565 : decode cL_law 565 = .ok (.iaload, 1) := by decide +kernel
theorem dL_law_566 : decode cL_law 566 = .ok (.ifCond .eq 7, 3) := by decide +kernel
theorem dL_law_569 : decode cL_law 569 = .ok (.iconst 1, 1) := by decide +kernel
theorem dL_law_570 : decode cL_law 570 = .ok (.goto 4, 3) := by decide +kernel
theorem dL_law_573 : decode cL_law 573 = .ok (.iconst 0, 1) := by decide +kernel
theorem dL_law_574 : decode cL_law 574 = .ok (.invokevirtual 68, 3) := by decide +kernel
theorem dL_law_577 : decode cL_law 577 = .ok (.istore 6, 2) := by decide +kernel
theorem dL_law_579 : decode cL_law 579 = .ok (.aload_n 2, 1) := by decide +kernel
theorem dL_law_580 : decode cL_law 580 = .ok (.invokevirtual 69, 3) := by decide +kernel
theorem dL_law_583 : decode cL_law 583 = .ok (.iload 5, 2) := by decide +kernel
theorem dL_law_585 : decode cL_law 585 = .ok (.if_icmp .eq 5, 3) := by decide +kernel
theorem dL_law_588 : decode cL_law 588 = .ok (.iconst 0, 1) := by decide +kernel
theorem dL_law_589 : decode cL_law 589 = .ok (.ireturn, 1) := by decide +kernel
theorem dL_law_590 : decode cL_law 590 = .ok (.iload 5, 2) := by decide +kernel
theorem dL_law_592 : decode cL_law 592 = .ok (.ifCond .ne 15, 3) := by decide +kernel
theorem dL_law_595 : decode cL_law 595 = .ok (.aload_n 3, 1) := by decide +kernel
theorem dL_law_596 : decode cL_law 596 = .ok (.iconst 0, 1) := by decide +kernel
theorem dL_law_597 : decode cL_law 597 = .ok (.laload, 1) := by decide +kernel
theorem dL_law_598 : decode cL_law 598 = .ok (.iload 6, 2) := by decide +kernel
theorem dL_law_600 : decode cL_law 600 = .ok (.i2l, 1) := by decide +kernel
theorem dL_law_601 : decode cL_law 601 = .ok (.lcmp, 1) := by decide +kernel
theorem dL_law_602 : decode cL_law 602 = .ok (.ifCond .eq 5, 3) := by decide +kernel
theorem dL_law_605 : decode cL_law 605 = .ok (.iconst 0, 1) := by decide +kernel
theorem dL_law_606 : decode cL_law 606 = .ok (.ireturn, 1) := by decide +kernel
theorem dL_law_607 : decode cL_law 607 = .ok (.goto 29, 3) := by decide +kernel
theorem dL_law_610 : decode cL_law 610 = .ok (.aload_n 1, 1) := by decide +kernel
theorem dL_law_611 : decode cL_law 611 = .ok (.invokevirtual 72, 3) := by decide +kernel
theorem dL_law_614 : decode cL_law 614 = .ok (.aload_n 2, 1) := by decide +kernel
theorem dL_law_615 : decode cL_law 615 = .ok (.invokevirtual 75, 3) := by decide +kernel
theorem dL_law_618 : decode cL_law 618 = .ok (.if_icmp .eq 18, 3) := by decide +kernel
theorem dL_law_621 : decode cL_law 621 = .ok (.iconst 0, 1) := by decide +kernel
theorem dL_law_622 : decode cL_law 622 = .ok (.ireturn, 1) := by decide +kernel
theorem dL_law_623 : decode cL_law 623 = .ok (.aload_n 1, 1) := by decide +kernel
theorem dL_law_624 : decode cL_law 624 = .ok (.invokevirtual 76, 3) := by decide +kernel
theorem dL_law_627 : decode cL_law 627 = .ok (.aload_n 2, 1) := by decide +kernel
theorem dL_law_628 : decode cL_law 628 = .ok (.invokevirtual 79, 3) := by decide +kernel
theorem dL_law_631 : decode cL_law 631 = .ok (.if_icmp .eq 5, 3) := by decide +kernel
theorem dL_law_634 : decode cL_law 634 = .ok (.iconst 0, 1) := by decide +kernel
theorem dL_law_635 : decode cL_law 635 = .ok (.ireturn, 1) := by decide +kernel
theorem dL_law_636 : decode cL_law 636 = .ok (.iinc 4 4, 3) := by decide +kernel
theorem dL_law_639 : decode cL_law 639 = .ok (.goto (-616), 3) := by decide +kernel
theorem dL_law_642 : decode cL_law 642 = .ok (.iconst 1, 1) := by decide +kernel
theorem dL_law_643 : decode cL_law 643 = .ok (.ireturn, 1) := by decide +kernel
end
section
set_option maxRecDepth 100000
/-! ===== BASE: numbers for truth values, counts ===== -/
noncomputable def bN (p : Prop) : Nat := @ite Nat p (Classical.propDecidable p) 1 0
theorem bN_t {p : Prop} (h : p) : bN p = 1 := if_pos h
theorem bN_f {p : Prop} (h : ¬ p) : bN p = 0 := if_neg h
theorem bN_le (p : Prop) : bN p ≤ 1 := by
  by_cases h : p
  · rw [bN_t h]; exact Nat.le_refl 1
  · rw [bN_f h]; exact Nat.zero_le 1
theorem bN_c {p q : Prop} (h : p ↔ q) : bN p = bN q := by rw [propext h]
theorem bN_lt (p : Prop) : bN p < 2 ^ 31 := Nat.lt_of_le_of_lt (bN_le p) (by decide)
theorem nb_0 {p : Prop} : nI (bN p) = 0 ↔ ¬ p := by
  by_cases h : p
  · rw [bN_t h]; exact ⟨fun q => absurd q (by decide), fun q => absurd h q⟩
  · rw [bN_f h]; exact ⟨fun _ => h, fun _ => by decide⟩
theorem nb_n0 {p : Prop} : ¬ nI (bN p) = 0 ↔ p := by rw [nb_0]; exact Classical.not_not
theorem nb_nar (p : Prop) : narrow .boolean (.int (nI (bN p))) = .int (nI (bN p)) := by
  by_cases h : p
  · rw [bN_t h]; rfl
  · rw [bN_f h]; rfl
theorem nb_vn (p : Prop) : vp_nar .boolean (nI (bN p)) = nI (bN p) := by
  unfold vp_nar
  rw [nb_nar]
noncomputable def cnt (P : Nat → Prop) : Nat → Nat
  | 0 => 0
  | n + 1 => cnt P n + bN (P n)
theorem cnt_s (P : Nat → Prop) (n : Nat) : cnt P (n + 1) = cnt P n + bN (P n) := rfl
theorem cnt_le (P : Nat → Prop) : ∀ n, cnt P n ≤ n
  | 0 => Nat.le_refl 0
  | n + 1 => by
    have h1 := cnt_le P n
    have h2 := bN_le (P n)
    rw [cnt_s]
    omega
theorem cnt_c {P P' : Nat → Prop} : ∀ {n : Nat}, (∀ k, k < n → (P k ↔ P' k)) → cnt P n = cnt P' n
  | 0, _ => rfl
  | n + 1, h => by rw [cnt_s, cnt_s, cnt_c (fun k hk => h k (by omega)), bN_c (h n (by omega))]
theorem cnt_0 {P : Nat → Prop} : ∀ {n : Nat}, cnt P n = 0 ↔ ∀ k, k < n → ¬ P k
  | 0 => ⟨fun _ k hk => absurd hk (Nat.not_lt_zero k), fun _ => rfl⟩
  | n + 1 => by
    rw [cnt_s]
    constructor
    · intro h k hk
      have h1 : cnt P n = 0 := by omega
      have h2 : bN (P n) = 0 := by omega
      by_cases e : k = n
      · subst e
        intro q
        rw [bN_t q] at h2
        omega
      · exact cnt_0.mp h1 k (by omega)
    · intro h
      rw [cnt_0.mpr (fun k hk => h k (by omega)), bN_f (h n (by omega))]
theorem cnt_mono {P P' : Nat → Prop} : ∀ {n : Nat}, (∀ k, k < n → P k → P' k) → cnt P n ≤ cnt P' n
  | 0, _ => Nat.le_refl 0
  | n + 1, h => by
    have h1 := cnt_mono (n := n) (fun k hk => h k (by omega))
    rw [cnt_s, cnt_s]
    have h2 : bN (P n) ≤ bN (P' n) := by
      by_cases q : P n
      · rw [bN_t q, bN_t (h n (by omega) q)]; exact Nat.le_refl 1
      · rw [bN_f q]; exact Nat.zero_le _
    omega
/-- one place alone may differ -/
theorem cnt_one {P P' : Nat → Prop} {t : Nat} (h : ∀ k, k ≠ t → (P k ↔ P' k)) : ∀ {n : Nat}, t < n → cnt P' n + bN (P t) = cnt P n + bN (P' t)
  | 0, hn => absurd hn (Nat.not_lt_zero t)
  | n + 1, hn => by
    rw [cnt_s, cnt_s]
    by_cases e : t = n
    · subst e
      rw [cnt_c (P := P) (P' := P') (n := t) (fun k hk => h k (by omega))]
      omega
    · have h1 := cnt_one h (n := n) (by omega)
      rw [bN_c (h n (fun q => e q.symm))]
      omega
theorem inc1 (j : Nat) : nI j + Int32.ofInt 1 = nI (j + 1) := nI_1 j
/-! ===== the worlds ===== -/
abbrev vwCl : List vw_C := [(RX1, TX1, 8), (RX2, TX2, 7)]
abbrev tyW (dA dZ : ClassId) : List (ClassId × FieldType) := [(dA, .int), (dZ, .boolean)]
abbrev fcW (dA : ClassId) (ad : Nat → Nat) (own : Nat → Int32) (rows : Int32) (upp clo cho fai cou see : Nat → Int32) : va_W :=
  [(ad 0, .inr (0, [.ref (ad 1), .int rows, .ref (ad 2), .ref (ad 3), .ref (ad 4), .ref (ad 5), .ref (ad 6), .ref (ad 7)])),
   (ad 1, .inl (dA, 320, .inl own)), (ad 2, .inl (dA, 32, .inl upp)), (ad 3, .inl (dA, 32, .inl clo)), (ad 4, .inl (dA, 8, .inl cho)),
   (ad 5, .inl (dA, 40, .inl fai)), (ad 6, .inl (dA, 256, .inl cou)), (ad 7, .inl (dA, 256, .inl see))]
abbrev mdW (dA dZ : ClassId) (ad : Nat → Nat) (cod : Int32) (has abv cho tol cou : Nat → Int32) (rows : Int32) : va_W :=
  [(ad 0, .inr (1, [.int cod, .ref (ad 1), .ref (ad 2), .ref (ad 3), .ref (ad 4), .ref (ad 5), .int rows])),
   (ad 1, .inl (dZ, 10240, .inl has)), (ad 2, .inl (dA, 32, .inl abv)), (ad 3, .inl (dZ, 256, .inl cho)), (ad 4, .inl (dA, 256, .inl tol)), (ad 5, .inl (dA, 32, .inl cou))]
def wPre (D : va_G) (dA dZ : ClassId) (ws : va_W) (sz : Nat) (U : State) : Prop := U.heap.size = sz ∧ va_P D vwCl ws U.heap ∧ va_K D vwCl (tyW dA dZ) U ∧ va_D (fun _ => True) ws
theorem wPre_blind (av : List Value) (D : va_G) (dA dZ : ClassId) (ws : va_W) (sz : Nat) : FrameBlind (va_Pc av (wPre D dA dZ ws sz)) := by
  intro a U g mk q
  obtain ⟨q0, q1, qP, qK, qD⟩ := q
  exact ⟨q0, q1, qP, va_K.moved (u := U) (U := U.calling g mk a) (Vm.Alike.refl U.vm) qK, qD⟩
/-- a contract of a method that writes nothing and makes nothing -/
abbrev RO (l : Launch) (y : MethodName) (code : ByteArray) (nL : Nat) (ret : Option FieldType) (rm : Room) (av : List Value) (D : va_G) (dA dZ : ClassId) (ws : va_W) (sz : Nat) (post : Int32 → Prop) : Prop :=
  Met l y (ws_ y code nL ret) rm (va_Pc av (wPre D dA dZ ws sz)) (va_Qi (fun r (_ : Unit) => post r) (fun _ _ => True) (fun q => sz ≤ q)) 0 0 (fun q => sz ≤ q)
/-- a contract of a method that leaves its world as Wd u, answer r, post r u -/
abbrev RW (l : Launch) (y : MethodName) (code : ByteArray) (nL : Nat) (ret : Option FieldType) (rm : Room) (av : List Value) (D : va_G) (dA dZ : ClassId) (ws : va_W) (sz : Nat) {S : Type} (post : Int32 → S → Prop) (Wd : S → va_W) : Prop :=
  Met l y (ws_ y code nL ret) rm (va_Pc av (wPre D dA dZ ws sz)) (va_Qi post (fun u t => va_P D vwCl (Wd u) t.heap ∧ va_D (va_A ws sz) (Wd u)) (va_A ws sz)) 0 0 (va_A ws sz)
/-- .. that answers nothing -/
abbrev RV (l : Launch) (y : MethodName) (code : ByteArray) (nL : Nat) (rm : Room) (av : List Value) (D : va_G) (dA dZ : ClassId) (ws : va_W) (sz : Nat) {S : Type} (post : S → Prop) (Wd : S → va_W) : Prop :=
  Met l y (ws_ y code nL none) rm (va_Pc av (wPre D dA dZ ws sz)) (va_Qv post (fun u t => va_P D vwCl (Wd u) t.heap ∧ va_D (va_A ws sz) (Wd u)) (va_A ws sz)) 0 0 (va_A ws sz)
/-! ===== rows ===== -/
section BW
variable {p : Program} {l : Launch} {e : Env} {R : Room} {s : State} {m : MethodId} {args : Array Value} {below : List Frame} {meth : Method} {c : Code} {H : Heap} {locs : List Loc} {cells slots : Nat} {Q : State → Prop}
variable {cc : ByteArray} {pc : Nat} {ls : Array Slot} {rest : List Value} {D : va_G} {A : Nat → Prop} {a : Nat} {tys : List (ClassId × FieldType)} {ws wc : va_W} {H0 : Heap} {dA dZ : ClassId}
theorem bw_top {x y : Int32} (h : x = y) (k : W p l e R s m args below meth c H locs cells slots Q (F0 m pc ls (.int y :: rest))) : W p l e R s m args below meth c H locs cells slots Q (F0 m pc ls (.int x :: rest)) := h ▸ k
theorem bw_add {x y : Nat} (hx : p.tables.exec = Jvm.exec) (hb : c.code = cc) (hdg : decode cc pc = .ok (.iadd, 1)) (k : W p l e R s m args below meth c H locs cells slots Q (F0 m (pc + 1) ls (.int (nI (x + y)) :: rest))) : W p l e R s m args below meth c H locs cells slots Q (F0 m pc ls (.int (nI y) :: .int (nI x) :: rest)) :=
  lv_iadd hx hb hdg (bw_top (nI_add x y) k)
theorem bw_mul {x y : Nat} (hx : p.tables.exec = Jvm.exec) (hb : c.code = cc) (hdg : decode cc pc = .ok (.imul, 1)) (k : W p l e R s m args below meth c H locs cells slots Q (F0 m (pc + 1) ls (.int (nI (x * y)) :: rest))) : W p l e R s m args below meth c H locs cells slots Q (F0 m pc ls (.int (nI y) :: .int (nI x) :: rest)) :=
  lv_imul hx hb hdg (bw_top (pk_mul x y) k)
theorem bw_ge {x y : Nat} (h1 : x < 2 ^ 31) (h2 : y < 2 ^ 31) (hx : p.tables.exec = Jvm.exec) (hb : c.code = cc) {off : Int} {tgt : Nat} (hdg : decode cc pc = .ok (.if_icmp .ge off, 3)) (ht : (pc : Int) + off = (tgt : Int))
    (kt : y ≤ x → W p l e R s m args below meth c H locs cells slots Q (F0 m tgt ls rest)) (kf : x < y → W p l e R s m args below meth c H locs cells slots Q (F0 m (pc + 3) ls rest)) : W p l e R s m args below meth c H locs cells slots Q (F0 m pc ls (.int (nI y) :: .int (nI x) :: rest)) :=
  lv_icmp_ge hx hb hdg ht (fun q => kt ((nI_leI h2 h1).mp q)) (fun q => kf (Nat.not_le.mp fun z => q ((nI_leI h2 h1).mpr z)))
theorem bw_lt {x y : Nat} (h1 : x < 2 ^ 31) (h2 : y < 2 ^ 31) (hx : p.tables.exec = Jvm.exec) (hb : c.code = cc) {off : Int} {tgt : Nat} (hdg : decode cc pc = .ok (.if_icmp .lt off, 3)) (ht : (pc : Int) + off = (tgt : Int))
    (kt : x < y → W p l e R s m args below meth c H locs cells slots Q (F0 m tgt ls rest)) (kf : y ≤ x → W p l e R s m args below meth c H locs cells slots Q (F0 m (pc + 3) ls rest)) : W p l e R s m args below meth c H locs cells slots Q (F0 m pc ls (.int (nI y) :: .int (nI x) :: rest)) :=
  lv_icmp_lt hx hb hdg ht (fun q => kt ((nI_ltI h1 h2).mp q)) (fun q => kf (Nat.not_lt.mp fun z => q ((nI_ltI h1 h2).mpr z)))
theorem bw_gt {x y : Nat} (h1 : x < 2 ^ 31) (h2 : y < 2 ^ 31) (hx : p.tables.exec = Jvm.exec) (hb : c.code = cc) {off : Int} {tgt : Nat} (hdg : decode cc pc = .ok (.if_icmp .gt off, 3)) (ht : (pc : Int) + off = (tgt : Int))
    (kt : y < x → W p l e R s m args below meth c H locs cells slots Q (F0 m tgt ls rest)) (kf : x ≤ y → W p l e R s m args below meth c H locs cells slots Q (F0 m (pc + 3) ls rest)) : W p l e R s m args below meth c H locs cells slots Q (F0 m pc ls (.int (nI y) :: .int (nI x) :: rest)) :=
  lv_icmp_gt hx hb hdg ht (fun q => kt ((nI_ltI h2 h1).mp q)) (fun q => kf (Nat.not_lt.mp fun z => q ((nI_ltI h2 h1).mpr z)))
theorem bw_le {x y : Nat} (h1 : x < 2 ^ 31) (h2 : y < 2 ^ 31) (hx : p.tables.exec = Jvm.exec) (hb : c.code = cc) {off : Int} {tgt : Nat} (hdg : decode cc pc = .ok (.if_icmp .le off, 3)) (ht : (pc : Int) + off = (tgt : Int))
    (kt : x ≤ y → W p l e R s m args below meth c H locs cells slots Q (F0 m tgt ls rest)) (kf : y < x → W p l e R s m args below meth c H locs cells slots Q (F0 m (pc + 3) ls rest)) : W p l e R s m args below meth c H locs cells slots Q (F0 m pc ls (.int (nI y) :: .int (nI x) :: rest)) :=
  lv_icmp_le hx hb hdg ht (fun q => kt ((nI_leI h1 h2).mp q)) (fun q => kf (Nat.not_le.mp fun z => q ((nI_leI h1 h2).mpr z)))
theorem bw_eq {x y : Nat} (h1 : x < 2 ^ 31) (h2 : y < 2 ^ 31) (hx : p.tables.exec = Jvm.exec) (hb : c.code = cc) {off : Int} {tgt : Nat} (hdg : decode cc pc = .ok (.if_icmp .eq off, 3)) (ht : (pc : Int) + off = (tgt : Int))
    (kt : x = y → W p l e R s m args below meth c H locs cells slots Q (F0 m tgt ls rest)) (kf : ¬ x = y → W p l e R s m args below meth c H locs cells slots Q (F0 m (pc + 3) ls rest)) : W p l e R s m args below meth c H locs cells slots Q (F0 m pc ls (.int (nI y) :: .int (nI x) :: rest)) :=
  lv_icmp_eq hx hb hdg ht (fun q => kt ((nI_eq h1 h2).mp q)) (fun q => kf (fun z => q ((nI_eq h1 h2).mpr z)))
theorem bw_ne {x y : Nat} (h1 : x < 2 ^ 31) (h2 : y < 2 ^ 31) (hx : p.tables.exec = Jvm.exec) (hb : c.code = cc) {off : Int} {tgt : Nat} (hdg : decode cc pc = .ok (.if_icmp .ne off, 3)) (ht : (pc : Int) + off = (tgt : Int))
    (kt : ¬ x = y → W p l e R s m args below meth c H locs cells slots Q (F0 m tgt ls rest)) (kf : x = y → W p l e R s m args below meth c H locs cells slots Q (F0 m (pc + 3) ls rest)) : W p l e R s m args below meth c H locs cells slots Q (F0 m pc ls (.int (nI y) :: .int (nI x) :: rest)) :=
  lv_icmp_ne hx hb hdg ht (fun q => kt (fun z => q ((nI_eq h1 h2).mpr z))) (fun q => kf ((nI_eq h1 h2).mp q))
theorem bw_ifeq {P : Prop} (hx : p.tables.exec = Jvm.exec) (hb : c.code = cc) {off : Int} {tgt : Nat} (hdg : decode cc pc = .ok (.ifCond .eq off, 3)) (ht : (pc : Int) + off = (tgt : Int))
    (kt : ¬ P → W p l e R s m args below meth c H locs cells slots Q (F0 m tgt ls rest)) (kf : P → W p l e R s m args below meth c H locs cells slots Q (F0 m (pc + 3) ls rest)) : W p l e R s m args below meth c H locs cells slots Q (F0 m pc ls (.int (nI (bN P)) :: rest)) :=
  lv_if_eq hx hb hdg ht (fun q => kt (nb_0.mp q)) (fun q => kf (nb_n0.mp q))
theorem bw_ifne {P : Prop} (hx : p.tables.exec = Jvm.exec) (hb : c.code = cc) {off : Int} {tgt : Nat} (hdg : decode cc pc = .ok (.ifCond .ne off, 3)) (ht : (pc : Int) + off = (tgt : Int))
    (kt : P → W p l e R s m args below meth c H locs cells slots Q (F0 m tgt ls rest)) (kf : ¬ P → W p l e R s m args below meth c H locs cells slots Q (F0 m (pc + 3) ls rest)) : W p l e R s m args below meth c H locs cells slots Q (F0 m pc ls (.int (nI (bN P)) :: rest)) :=
  lv_if_ne hx hb hdg ht (fun q => kt (nb_n0.mp q)) (fun q => kf (nb_0.mp q))
/-- arrays, the index a number -/
theorem bw_iald (hx : p.tables.exec = Jvm.exec) (hb : c.code = cc) (hK : va_K D vwCl (tyW dA dZ) s) (hP : va_P D vwCl ws H) (q0 : Nat) {n : Nat} {f : Nat → Int32} (ha : ws[q0]? = some (a, .inl (dA, n, .inl f))) (j : Nat) (hj : j < n) (hn : n < 2 ^ 31) (hdg : decode cc pc = .ok (.iaload, 1))
    (kk : W p l e R s m args below meth c H locs cells slots Q (F0 m (pc + 1) ls (.int (f j) :: rest))) : W p l e R s m args below meth c H locs cells slots Q (F0 m pc ls (.int (nI j) :: .ref a :: rest)) :=
  va_iald hx hb hK hP q0 0 ha rfl (vp_in_nI hj hn) hdg (by rw [nI_clamp (Nat.lt_trans hj hn)]; exact kk)
theorem bw_zald (hx : p.tables.exec = Jvm.exec) (hb : c.code = cc) (hK : va_K D vwCl (tyW dA dZ) s) (hP : va_P D vwCl ws H) (q0 : Nat) {n : Nat} {f : Nat → Int32} (ha : ws[q0]? = some (a, .inl (dZ, n, .inl f))) (j : Nat) (hj : j < n) (hn : n < 2 ^ 31) (hdg : decode cc pc = .ok (.baload, 1))
    (kk : W p l e R s m args below meth c H locs cells slots Q (F0 m (pc + 1) ls (.int (f j) :: rest))) : W p l e R s m args below meth c H locs cells slots Q (F0 m pc ls (.int (nI j) :: .ref a :: rest)) :=
  va_zald hx hb hK hP q0 1 ha rfl (vp_in_nI hj hn) hdg (by rw [nI_clamp (Nat.lt_trans hj hn)]; exact kk)
theorem bw_iast (hx : p.tables.exec = Jvm.exec) (hb : c.code = cc) (hK : va_K D vwCl (tyW dA dZ) s) (hP : va_P D vwCl ws H) (hD : va_D A ws) (hS : va_S A H0 H locs) (q0 : Nat) {n : Nat} {f : Nat → Int32} (ha : ws[q0]? = some (a, .inl (dA, n, .inl f))) (j : Nat) (hj : j < n) (hn : n < 2 ^ 31) {x : Int32} (hdg : decode cc pc = .ok (.iastore, 1))
    (kk : ∀ (H1 : Heap) (locs1 : List Loc), va_P D vwCl (ws.set q0 (a, .inl (dA, n, .inl (upd f j x)))) H1 → va_D A (ws.set q0 (a, .inl (dA, n, .inl (upd f j x)))) → va_S A H0 H1 locs1 → W p l e R s m args below meth c H1 locs1 cells slots Q (F0 m (pc + 1) ls rest)) : W p l e R s m args below meth c H locs cells slots Q (F0 m pc ls (.int x :: .int (nI j) :: .ref a :: rest)) :=
  va_iast hx hb hK hP hD hS q0 0 ha rfl (vp_in_nI hj hn) hdg (by rw [nI_clamp (Nat.lt_trans hj hn)]; exact kk)
theorem bw_zast (hx : p.tables.exec = Jvm.exec) (hb : c.code = cc) (hK : va_K D vwCl (tyW dA dZ) s) (hP : va_P D vwCl ws H) (hD : va_D A ws) (hS : va_S A H0 H locs) (q0 : Nat) {n : Nat} {f : Nat → Int32} (ha : ws[q0]? = some (a, .inl (dZ, n, .inl f))) (j : Nat) (hj : j < n) (hn : n < 2 ^ 31) {x : Int32} (hxb : vp_nar .boolean x = x) (hdg : decode cc pc = .ok (.bastore, 1))
    (kk : ∀ (H1 : Heap) (locs1 : List Loc), va_P D vwCl (ws.set q0 (a, .inl (dZ, n, .inl (upd f j x)))) H1 → va_D A (ws.set q0 (a, .inl (dZ, n, .inl (upd f j x)))) → va_S A H0 H1 locs1 → W p l e R s m args below meth c H1 locs1 cells slots Q (F0 m (pc + 1) ls rest)) : W p l e R s m args below meth c H locs cells slots Q (F0 m pc ls (.int x :: .int (nI j) :: .ref a :: rest)) :=
  va_zast hx hb hK hP hD hS q0 1 ha rfl (vp_in_nI hj hn) hdg (by rw [nI_clamp (Nat.lt_trans hj hn), hxb]; exact kk)
/-- a loop that counts up: the head at pc with an empty stack -/
theorem w_loop {σ : Type} (N : Nat) (I : Nat → σ → Heap → List Loc → Array Slot → Prop)
    (step : ∀ (j : Nat) (x : σ) (H : Heap) (locs : List Loc) (ls : Array Slot), j < N → I j x H locs ls → (∀ (x' : σ) (H' : Heap) (locs' : List Loc) (ls' : Array Slot), I (j + 1) x' H' locs' ls' → W p l e R s m args below meth c H' locs' cells slots Q (F0 m pc ls' [])) → W p l e R s m args below meth c H locs cells slots Q (F0 m pc ls []))
    (ex : ∀ (x : σ) (H : Heap) (locs : List Loc) (ls : Array Slot), I N x H locs ls → W p l e R s m args below meth c H locs cells slots Q (F0 m pc ls [])) :
    ∀ (j : Nat) (x : σ) (H : Heap) (locs : List Loc) (ls : Array Slot), j ≤ N → I j x H locs ls → W p l e R s m args below meth c H locs cells slots Q (F0 m pc ls []) := by
  have key : ∀ (n j : Nat) (x : σ) (H : Heap) (locs : List Loc) (ls : Array Slot), j + n = N → I j x H locs ls → W p l e R s m args below meth c H locs cells slots Q (F0 m pc ls []) := by
    intro n
    induction n with
    | zero =>
      intro j x H locs ls hj hI
      have : j = N := by omega
      subst this
      exact ex x H locs ls hI
    | succ n ih =>
      intro j x H locs ls hj hI
      exact step j x H locs ls (by omega) hI (fun x' H' locs' ls' h => ih (j + 1) x' H' locs' ls' (by omega) h)
  intro j x H locs ls hj hI
  exact key (N - j) j x H locs ls (by omega) hI
/-- a loop with a measure that falls -/
theorem w_loopm {σ : Type} (μ : σ → Nat) (I : σ → Heap → List Loc → Array Slot → Prop)
    (step : ∀ (x : σ) (H : Heap) (locs : List Loc) (ls : Array Slot), I x H locs ls → (∀ (x' : σ) (H' : Heap) (locs' : List Loc) (ls' : Array Slot), μ x' < μ x → I x' H' locs' ls' → W p l e R s m args below meth c H' locs' cells slots Q (F0 m pc ls' [])) → W p l e R s m args below meth c H locs cells slots Q (F0 m pc ls [])) :
    ∀ (x : σ) (H : Heap) (locs : List Loc) (ls : Array Slot), I x H locs ls → W p l e R s m args below meth c H locs cells slots Q (F0 m pc ls []) := by
  have key : ∀ (n : Nat) (x : σ) (H : Heap) (locs : List Loc) (ls : Array Slot), μ x < n → I x H locs ls → W p l e R s m args below meth c H locs cells slots Q (F0 m pc ls []) := by
    intro n
    induction n with
    | zero => intro x H locs ls h; exact absurd h (Nat.not_lt_zero _)
    | succ n ih =>
      intro x H locs ls h hI
      exact step x H locs ls hI (fun x' H' locs' ls' h' hI' => ih x' H' locs' ls' (by omega) hI')
  intro x H locs ls hI
  exact key (μ x + 1) x H locs ls (Nat.lt_succ_self _) hI
/-- branches that meet again at pcL, a number on the stack; heap as it stands -/
theorem w_cut {g : JFrame} (pcL : Nat) (ls1 : Array Slot) (rest1 : List Value) (P : Int32 → Prop) (h : (∀ v, P v → W p l e R s m args below meth c H locs cells slots Q (F0 m pcL ls1 (.int v :: rest1))) → W p l e R s m args below meth c H locs cells slots Q g) (k : ∀ v, P v → W p l e R s m args below meth c H locs cells slots Q (F0 m pcL ls1 (.int v :: rest1))) : W p l e R s m args below meth c H locs cells slots Q g := h k
/-- .. the heap moved -/
theorem w_cutH {g : JFrame} (pcL : Nat) (ls1 : Array Slot) (rest1 : List Value) (P : Int32 → Heap → List Loc → Prop) (h : (∀ v H' locs', P v H' locs' → W p l e R s m args below meth c H' locs' cells slots Q (F0 m pcL ls1 (.int v :: rest1))) → W p l e R s m args below meth c H locs cells slots Q g) (k : ∀ v H' locs', P v H' locs' → W p l e R s m args below meth c H' locs' cells slots Q (F0 m pcL ls1 (.int v :: rest1))) : W p l e R s m args below meth c H locs cells slots Q g := h k
/-- .. nothing on the stack, locals moved -/
theorem w_cut0 {g : JFrame} (pcL : Nat) (P : Heap → List Loc → Array Slot → Prop) (h : (∀ H' locs' ls', P H' locs' ls' → W p l e R s m args below meth c H' locs' cells slots Q (F0 m pcL ls' [])) → W p l e R s m args below meth c H locs cells slots Q g) (k : ∀ H' locs' ls', P H' locs' ls' → W p l e R s m args below meth c H' locs' cells slots Q (F0 m pcL ls' [])) : W p l e R s m args below meth c H locs cells slots Q g := h k
/-- the ends -/
theorem ro_iret {post : Int32 → Prop} {v : Int32} (hx : p.tables.exec = Jvm.exec) (hb : c.code = cc) (hr : meth.sig.returnType = some .int) (hlocks : meth.locks = false) (hS : va_S (fun q => s.heap.size ≤ q) s.heap H locs) (hdg : decode cc pc = .ok (.ireturn, 1)) (hv : post v) :
    W p l e R s m args below meth c H locs 0 0 (MQ below (va_Qi (fun r (_ : Unit) => post r) (fun _ _ => True) (fun q => s.heap.size ≤ q)) args s 0 0 (fun q => s.heap.size ≤ q)) (F0 m pc ls [.int v]) :=
  W.iret hx hb hr (fun t ht _ => ⟨⟨v, (), rfl, hv, trivial⟩, hS.F ht⟩) hS.2.2 hdg hlocks
theorem ro_zret {post : Int32 → Prop} {v : Int32} (hn : narrow .boolean (.int v) = .int v) (hx : p.tables.exec = Jvm.exec) (hb : c.code = cc) (hr : meth.sig.returnType = some .boolean) (hlocks : meth.locks = false) (hS : va_S (fun q => s.heap.size ≤ q) s.heap H locs) (hdg : decode cc pc = .ok (.ireturn, 1)) (hv : post v) :
    W p l e R s m args below meth c H locs 0 0 (MQ below (va_Qi (fun r (_ : Unit) => post r) (fun _ _ => True) (fun q => s.heap.size ≤ q)) args s 0 0 (fun q => s.heap.size ≤ q)) (F0 m pc ls [.int v]) :=
  W.zret hx hb hr hn (fun t ht _ => ⟨⟨v, (), rfl, hv, trivial⟩, hS.F ht⟩) hS.2.2 hdg hlocks
theorem rw_iret {S : Type} {post : Int32 → S → Prop} {Wd : S → va_W} {v : Int32} (u : S) (hx : p.tables.exec = Jvm.exec) (hb : c.code = cc) (hr : meth.sig.returnType = some .int) (hlocks : meth.locks = false) (hP : va_P D vwCl (Wd u) H) (hD : va_D A (Wd u)) (hS : va_S A s.heap H locs) (hdg : decode cc pc = .ok (.ireturn, 1)) (hv : post v u) :
    W p l e R s m args below meth c H locs 0 0 (MQ below (va_Qi post (fun u t => va_P D vwCl (Wd u) t.heap ∧ va_D A (Wd u)) A) args s 0 0 A) (F0 m pc ls [.int v]) :=
  W.iret hx hb hr (fun t ht _ => ⟨⟨v, u, rfl, hv, by rw [ht]; exact hP, hD⟩, hS.F ht⟩) hS.2.2 hdg hlocks
theorem rw_vret {S : Type} {post : S → Prop} {Wd : S → va_W} (u : S) (hx : p.tables.exec = Jvm.exec) (hb : c.code = cc) (hr : meth.sig.returnType = none) (hlocks : meth.locks = false) (hP : va_P D vwCl (Wd u) H) (hD : va_D A (Wd u)) (hS : va_S A s.heap H locs) (hdg : decode cc pc = .ok (.return_, 1)) (hv : post u) :
    W p l e R s m args below meth c H locs 0 0 (MQ below (va_Qv post (fun u t => va_P D vwCl (Wd u) t.heap ∧ va_D A (Wd u)) A) args s 0 0 A) (F0 m pc ls []) :=
  W.vret hx hb hr (fun t ht _ => ⟨⟨u, rfl, hv, by rw [ht]; exact hP, hD⟩, hS.F ht⟩) hS.2.2 hdg hlocks
/-! calls -/
theorem va_P.stay {D : va_G} {ws : va_W} {H H1 : Heap} (hP : va_P D vwCl ws H) (hk : ∀ q : Nat, q < H.size → ¬ H.size ≤ q → H1[q]? = H[q]?) : va_P D vwCl ws H1 :=
  hP.kept (fun k q h => hk q.1 (hP k q h).lt (Nat.not_le.mpr (hP k q h).lt))
variable {y : MethodName} {bytes : ByteArray} {maxL nL n index : Nat} {ret : Option FieldType} {rm : Room} {own C : String} {b : Addr} {As : List Value}
/-- a call through an object, nothing written -/
theorem bw_ro {post : Int32 → Prop} (S : CallFix p m c cc nL s args lw_all own) (hM : RO l y bytes maxL ret rm (.ref b :: As) D dA dZ wc H.size post) (cw : CallW R s args own C index y bytes maxL ret (ws_ y bytes maxL ret) rm 0 0 n)
    (hrc : ∃ cell : Cell, H[b]? = some cell ∧ cell.vm.isStatics = false ∧ s.vm.findClass C = some cell.cls) (hK : va_K D vwCl (tyW dA dZ) s) (hPc : va_P D vwCl wc H) (hDc : va_D (fun _ => True) wc) (hP : va_P D vwCl ws H) (hS : va_S A s.heap H locs) (hA : ∀ q, s.heap.size ≤ q → A q)
    {st : List Value} (hst : st = As.reverse ++ .ref b :: rest) (hn : As.length = n) (hsize : ls.size = nL) (hrm : (rest.map fun v => v.category).sum ≤ 8) (hdg : decode cc pc = .ok (.invokevirtual index, 3)) (hcl : cells ≤ R.cells ∧ slots ≤ R.slots)
    (kk : ∀ (r : Int32) (H1 : Heap) (locs1 : List Loc), post r → va_P D vwCl ws H1 → va_S A s.heap H1 locs1 → W p l e R s m args below meth c H1 locs1 cells slots Q (F0 m (pc + 3) ls (.int r :: rest))) : W p l e R s m args below meth c H locs cells slots Q (F0 m pc ls st) := by
  subst hst
  refine va_calli (va_runV (rest := rest) S hM cw ⟨wPre_blind _ D dA dZ wc H.size, hrc, fun U hU hW => ⟨rfl, by rw [hU], by rw [hU]; exact hPc, va_K.moved hW.alike hK, hDc⟩⟩ rfl hn hsize rfl (lv_room hrm) hdg hcl) hS (fun q h1 h2 => absurd h1 (Nat.not_lt.mpr h2)) (fun q h => hA q (Nat.le_trans hS.1 h)) (fun r u t H1 locs1 ht hvm hpo hB hz hk hS1 => ?_)
  exact kk r H1 locs1 hpo (hP.stay hk) hS1
/-- a static call, nothing written, no world asked -/
abbrev RS (l : Launch) (y : MethodName) (code : ByteArray) (nL : Nat) (ret : Option FieldType) (rm : Room) (av : List Value) (sz : Nat) (post : Int32 → Prop) : Prop :=
  Met l y (ws_ y code nL ret) rm (va_Pc av (fun U => U.heap.size = sz)) (va_Qi (fun r (_ : Unit) => post r) (fun _ _ => True) (fun q => sz ≤ q)) 0 0 (fun q => sz ≤ q)
theorem bw_rs {post : Int32 → Prop} (S : CallFix p m c cc nL s args lw_all own) (hM : RS l y bytes maxL ret rm As H.size post) (cw : CallB R s args own index y bytes maxL ret (ws_ y bytes maxL ret) rm 0 0 n ∧ (Cond.static y).before args s = true)
    (hP : va_P D vwCl ws H) (hS : va_S A s.heap H locs) (hA : ∀ q, s.heap.size ≤ q → A q)
    {st : List Value} (hst : st = As.reverse ++ rest) (hn : As.length = n) (hsize : ls.size = nL) (hrm : (rest.map fun v => v.category).sum ≤ 8) (hdg : decode cc pc = .ok (.invokestatic index, 3)) (hcl : cells ≤ R.cells ∧ slots ≤ R.slots)
    (kk : ∀ (r : Int32) (H1 : Heap) (locs1 : List Loc), post r → va_P D vwCl ws H1 → va_S A s.heap H1 locs1 → W p l e R s m args below meth c H1 locs1 cells slots Q (F0 m (pc + 3) ls (.int r :: rest))) : W p l e R s m args below meth c H locs cells slots Q (F0 m pc ls st) := by
  subst hst
  refine va_calli (va_runS (rest := rest) S hM cw ⟨fun a U g mk q => ⟨q.1, q.2⟩, fun U hU hW => ⟨rfl, show U.heap.size = H.size by rw [hU]⟩⟩ rfl hn hsize rfl (lv_room hrm) hdg hcl) hS (fun q h1 h2 => absurd h1 (Nat.not_lt.mpr h2)) (fun q h => hA q (Nat.le_trans hS.1 h)) (fun r u t H1 locs1 ht hvm hpo hB hz hk hS1 => ?_)
  exact kk r H1 locs1 hpo (hP.stay hk) hS1
/-- a call through an object that changes the world, which is the caller's whole world -/
theorem bw_rv {S0 : Type} {post : S0 → Prop} {Wd : S0 → va_W} (S : CallFix p m c cc nL s args lw_all own) (hM : RV l y bytes maxL rm (.ref b :: As) D dA dZ ws H.size post Wd) (cw : CallW R s args own C index y bytes maxL none (ws_ y bytes maxL none) rm 0 0 n)
    (hrc : ∃ cell : Cell, H[b]? = some cell ∧ cell.vm.isStatics = false ∧ s.vm.findClass C = some cell.cls) (hK : va_K D vwCl (tyW dA dZ) s) (hP : va_P D vwCl ws H) (hD : va_D A ws) (hS : va_S A s.heap H locs) (hA : ∀ q, s.heap.size ≤ q → A q)
    {st : List Value} (hst : st = As.reverse ++ .ref b :: rest) (hn : As.length = n) (hsize : ls.size = nL) (hrm : (rest.map fun v => v.category).sum ≤ 8) (hdg : decode cc pc = .ok (.invokevirtual index, 3)) (hcl : cells ≤ R.cells ∧ slots ≤ R.slots)
    (kk : ∀ (u : S0) (H1 : Heap) (locs1 : List Loc), post u → va_P D vwCl (Wd u) H1 → va_D A (Wd u) → va_S A s.heap H1 locs1 → W p l e R s m args below meth c H1 locs1 cells slots Q (F0 m (pc + 3) ls rest)) : W p l e R s m args below meth c H locs cells slots Q (F0 m pc ls st) := by
  subst hst
  have hFc : ∀ q, va_A ws H.size q → A q := by
    intro q h
    rcases h with ⟨k, e, h⟩ | h
    · exact hD.2 k (q, e) h
    · exact hA q (Nat.le_trans hS.1 h)
  refine va_callv (va_runV (rest := rest) S hM cw ⟨wPre_blind _ D dA dZ ws H.size, hrc, fun U hU hW => ⟨rfl, by rw [hU], by rw [hU]; exact hP, va_K.moved hW.alike hK, hD.weaken (fun _ _ _ _ => trivial)⟩⟩ rfl hn hsize rfl (lv_room hrm) hdg hcl) hS (fun q _ h => hFc q h) hFc (fun u t H1 locs1 ht hvm hpo hB hz hk hS1 => ?_)
  exact kk u H1 locs1 hpo (by rw [← ht]; exact hB.1) (hB.2.weaken (fun _ q _ h => hFc q.1 h)) hS1
end BW
end
section
set_option maxRecDepth 100000
/-! ===== PURE: the picture of both sides, in plain words ===== -/
def hsP (has : Nat → Int32) (t h v : Nat) : Prop := has ((t * 8 + h) * 32 + v) = nI 1
def chP (ch : Nat → Int32) (h v : Nat) : Prop := ch (32 * h + v) = nI 1
/-- n steps up from k lead to v -/
def stp (up : Nat → Int32) : Nat → Nat → Nat → Prop
  | 0, k, v => k = v
  | n + 1, k, v => ∃ j, j < 32 ∧ up k = nI j ∧ stp up n j v
def und (up : Nat → Int32) (k v : Nat) : Prop := ∃ n, stp up n k v
theorem und_iff {up : Nat → Int32} {k v : Nat} : und up k v ↔ k = v ∨ ∃ j, j < 32 ∧ up k = nI j ∧ und up j v := by
  constructor
  · rintro ⟨n, h⟩
    cases n with
    | zero => exact Or.inl h
    | succ n =>
      obtain ⟨j, h1, h2, h3⟩ := h
      exact Or.inr ⟨j, h1, h2, n, h3⟩
  · rintro (h | ⟨j, h1, h2, n, h3⟩)
    · exact ⟨0, h⟩
    · exact ⟨n + 1, j, h1, h2, h3⟩
theorem und_rf (up : Nat → Int32) (k : Nat) : und up k k := ⟨0, rfl⟩
theorem m1_nI {j : Nat} (h : j < 2 ^ 31) : ¬ (-1 : Int32) = nI j := by
  intro q
  have h1 := nI_toInt h
  rw [← q] at h1
  have h2 : (-1 : Int32).toInt = -1 := by decide
  omega
/-- the ranks of the kinds: each above is of a lesser rank -/
def rkd (up : Nat → Int32) (rk : Nat → Nat) : Prop := ∀ k, k < 32 → up k = -1 ∨ ∃ j, j < 32 ∧ up k = nI j ∧ rk j < rk k
def acy (up : Nat → Int32) : Prop := ∃ rk, rkd up rk
theorem stp_rk {up : Nat → Int32} {rk : Nat → Nat} (h : rkd up rk) : ∀ n k v, k < 32 → stp up n k v → v < 32 ∧ rk v + n ≤ rk k
  | 0, k, v, hk, q => by cases q; exact ⟨hk, Nat.le_refl _⟩
  | n + 1, k, v, hk, ⟨j, hj, e, q⟩ => by
    obtain ⟨a, b⟩ := stp_rk h n j v hj q
    rcases h k hk with z | ⟨i, hi, e2, r⟩
    · exact absurd (z.symm.trans e) (m1_nI (by omega))
    · have : i = j := (nI_eq (by omega) (by omega)).mp (e2.symm.trans e)
      subst this
      exact ⟨a, by omega⟩
theorem und_lt {up : Nat → Int32} (h : acy up) {k v : Nat} (hk : k < 32) (q : und up k v) : v < 32 := by
  obtain ⟨rk, h⟩ := h
  obtain ⟨n, q⟩ := q
  exact (stp_rk h n k v hk q).1
/-- a kind isn't below what stands right under it -/
theorem und_no {up : Nat → Int32} (h : acy up) {k j : Nat} (hk : k < 32) (hj : j < 32) (e : up k = nI j) : ¬ und up j k := by
  obtain ⟨rk, h⟩ := h
  rintro ⟨n, q⟩
  have h1 := (stp_rk h n j k hj q).2
  rcases h k hk with z | ⟨i, hi, e2, r⟩
  · exact absurd (z.symm.trans e) (m1_nI (by omega))
  · have : i = j := (nI_eq (by omega) (by omega)).mp (e2.symm.trans e)
    subst this
    omega
theorem acy_none {up : Nat → Int32} (h : acy up) (k : Nat) : acy (upd up k (-1)) := by
  obtain ⟨rk, h⟩ := h
  refine ⟨rk, fun x hx => ?_⟩
  by_cases e : x = k
  · exact Or.inl (by rw [e, pk_us])
  · rw [pk_un e]
    exact h x hx
theorem acy_set {up : Nat → Int32} (h : acy up) {k u : Nat} (hk : k < 32) (hu : u < 32) (hn : ¬ und up u k) : acy (upd up k (nI u)) := by
  obtain ⟨rk, h⟩ := h
  refine ⟨fun x => rk x + (rk u + 1) * bN (und up x k), fun x hx => ?_⟩
  by_cases e : x = k
  · subst e
    refine Or.inr ⟨u, hu, by rw [pk_us], ?_⟩
    show rk u + (rk u + 1) * bN (und up u x) < rk x + (rk u + 1) * bN (und up x x)
    rw [bN_f hn, bN_t (und_rf up x)]
    omega
  · rw [pk_un e]
    rcases h x hx with z | ⟨j, hj, e2, r⟩
    · exact Or.inl z
    · refine Or.inr ⟨j, hj, e2, ?_⟩
      show rk j + (rk u + 1) * bN (und up j k) < rk x + (rk u + 1) * bN (und up x k)
      have : bN (und up j k) ≤ bN (und up x k) := by
        by_cases q : und up j k
        · rw [bN_t q, bN_t (und_iff.mpr (Or.inr ⟨j, hj, e2, q⟩))]
          exact Nat.le_refl 1
        · rw [bN_f q]; exact Nat.zero_le _
      have := Nat.mul_le_mul_left (rk u + 1) this
      omega
/-- what a thing has under a head -/
def ow (has up : Nat → Int32) (t h v : Nat) : Prop := (h = 0 ∧ ∃ k, k < 32 ∧ hsP has t 0 k ∧ und up k v) ∨ (h ≠ 0 ∧ hsP has t h v)
theorem ow_0 {has up : Nat → Int32} {t v : Nat} : ow has up t 0 v ↔ ∃ k, k < 32 ∧ hsP has t 0 k ∧ und up k v :=
  ⟨fun h => by rcases h with h | h; exact h.2; exact absurd rfl h.1, fun h => Or.inl ⟨rfl, h⟩⟩
theorem ow_s {has up : Nat → Int32} {t h v : Nat} (hh : 0 < h) : ow has up t h v ↔ hsP has t h v :=
  ⟨fun q => by rcases q with q | q; exact absurd q.1 (by omega); exact q.2, fun q => Or.inr ⟨by omega, q⟩⟩
/-- a head is met -/
def mt (has up ch : Nat → Int32) (t h : Nat) : Prop := (∃ v, v < 32 ∧ chP ch h v ∧ ow has up t h v) ∨ ¬ ∃ v, v < 32 ∧ chP ch h v
/-- all heads but one are met -/
def kb (has up ch : Nat → Int32) (t h : Nat) : Prop := ∀ g, g < 8 → g ≠ h → mt has up ch t g
noncomputable def fN (has up ch : Nat → Int32) (t : Nat) : Nat := cnt (fun h => ¬ mt has up ch t h) 8
noncomputable def cN (has up ch : Nat → Int32) (h v : Nat) : Nat := cnt (fun t => ow has up t h v ∧ kb has up ch t h) 40
noncomputable def aN (has up ch : Nat → Int32) (h : Nat) : Nat := cnt (fun t => kb has up ch t h) 40
theorem fN_le (has up ch : Nat → Int32) (t : Nat) : fN has up ch t ≤ 8 := cnt_le _ 8
theorem cN_le (has up ch : Nat → Int32) (h v : Nat) : cN has up ch h v ≤ 40 := cnt_le _ 40
theorem aN_le (has up ch : Nat → Int32) (h : Nat) : aN has up ch h ≤ 40 := cnt_le _ 40
theorem cN_aN (has up ch : Nat → Int32) (h v : Nat) : cN has up ch h v ≤ aN has up ch h := cnt_mono (fun _ _ q => q.2)
theorem kb_fN {has up ch : Nat → Int32} {t h : Nat} (hh : h < 8) : kb has up ch t h ↔ fN has up ch t = bN (¬ mt has up ch t h) := by
  have h1 := cnt_one (P := fun g => ¬ mt has up ch t g) (P' := fun g => ¬ mt has up ch t g ∧ g ≠ h) (t := h) (fun k hk => ⟨fun q => ⟨q, hk⟩, fun q => q.1⟩) (n := 8) hh
  have h2 : bN (¬ mt has up ch t h ∧ h ≠ h) = 0 := bN_f (fun q => q.2 rfl)
  have h3 : kb has up ch t h ↔ cnt (fun g => ¬ mt has up ch t g ∧ g ≠ h) 8 = 0 := by
    rw [cnt_0]
    constructor
    · intro q g hg z
      exact z.1 (q g hg z.2)
    · intro q g hg hn
      exact Classical.not_not.mp (fun z => q g hg ⟨z, hn⟩)
  rw [h3]
  unfold fN
  rw [h2] at h1
  omega
theorem kb_8 {has up ch : Nat → Int32} {t : Nat} : kb has up ch t 8 ↔ fN has up ch t = 0 := by
  unfold fN
  rw [cnt_0]
  exact ⟨fun q g hg => fun z => z (q g hg (by omega)), fun q g hg _ => Classical.not_not.mp (q g hg)⟩
/-! ===== Int32 by its bits: bt x i ===== -/
def bt (x : Int32) (i : Nat) : Bool := x.toBitVec.getLsbD i
theorem b_ext {x y : Int32} (h : ∀ i, i < 32 → bt x i = bt y i) : x = y := Int32.toBitVec_inj.mp (BitVec.eq_of_getLsbD_eq (fun i hi => h i hi))
theorem b_or (x y : Int32) (i : Nat) : bt (x ||| y) i = (bt x i || bt y i) := by unfold bt; rw [Int32.toBitVec_or, BitVec.getLsbD_or]
theorem b_and (x y : Int32) (i : Nat) : bt (x &&& y) i = (bt x i && bt y i) := by unfold bt; rw [Int32.toBitVec_and, BitVec.getLsbD_and]
theorem b_xor (x y : Int32) (i : Nat) : bt (x ^^^ y) i = (bt x i ^^ bt y i) := by unfold bt; rw [Int32.toBitVec_xor, BitVec.getLsbD_xor]
theorem b_big {x : Int32} {i : Nat} (h : 32 ≤ i) : bt x i = false := BitVec.getLsbD_of_ge _ _ h
theorem b_255 (i : Nat) : bt 255 i = decide (i < 8) := by
  rcases Nat.lt_or_ge i 32 with h | h
  · exact (by decide +kernel : ∀ i, i < 32 → bt 255 i = decide (i < 8)) i h
  · rw [b_big h, decide_eq_false (by omega)]
theorem b_65535 (i : Nat) : bt 65535 i = decide (i < 16) := by
  rcases Nat.lt_or_ge i 32 with h | h
  · exact (by decide +kernel : ∀ i, i < 32 → bt 65535 i = decide (i < 16)) i h
  · rw [b_big h, decide_eq_false (by omega)]
theorem b_m1 : ∀ i, i < 32 → bt (-1) i = true := by decide +kernel
theorem b_0 (i : Nat) : bt 0 i = false := BitVec.getLsbD_zero
theorem s_l : ∀ n, n < 32 → ((nI n &&& 31).toBitVec.smod 32).toNat = n := by decide +kernel
theorem s_u : ∀ n, n < 32 → (((nI n).toUInt32 &&& Int32.toUInt32 31).toBitVec % 32).toNat = n := by decide +kernel
theorem b_shl (n : Nat) (hn : n < 32) (x : Int32) {i : Nat} (hi : i < 32) : bt (x <<< (nI n &&& 31)) i = (decide (n ≤ i) && bt x (i - n)) := by
  unfold bt
  rw [Int32.toBitVec_shiftLeft]
  show (x.toBitVec <<< ((nI n &&& 31).toBitVec.smod 32).toNat).getLsbD i = _
  rw [s_l n hn, BitVec.getLsbD_shiftLeft]
  rcases Nat.lt_or_ge i n with h | h
  · simp [h, Nat.not_le.mpr h]
  · simp [hi, h, Nat.not_lt.mpr h]
theorem b_ushr (n : Nat) (hn : n < 32) (x : Int32) (i : Nat) : bt ((x.toUInt32 >>> ((nI n).toUInt32 &&& Int32.toUInt32 31)).toInt32) i = bt x (n + i) := by
  show (x.toUInt32 >>> ((nI n).toUInt32 &&& Int32.toUInt32 31)).toBitVec.getLsbD i = x.toUInt32.toBitVec.getLsbD (n + i)
  rw [UInt32.toBitVec_shiftRight]
  show (x.toUInt32.toBitVec >>> (((nI n).toUInt32 &&& Int32.toUInt32 31).toBitVec % 32).toNat).getLsbD i = _
  rw [s_u n hn, BitVec.getLsbD_ushiftRight]
theorem b_sshr (n : Nat) (hn : n < 32) (x : Int32) {i : Nat} (hi : i < 32) : bt (x >>> (nI n &&& 31)) i = if n + i < 32 then bt x (n + i) else bt x 31 := by
  unfold bt
  rw [Int32.toBitVec_shiftRight]
  show (x.toBitVec.sshiftRight ((nI n &&& 31).toBitVec.smod 32).toNat).getLsbD i = _
  rw [s_l n hn, BitVec.getLsbD_sshiftRight, BitVec.msb_eq_getLsbD_last]
  simp [hi]
theorem b_shl8 (x : Int32) {i : Nat} (hi : i < 32) : bt (x <<< ((8 : Int32) &&& 31)) i = (decide (8 ≤ i) && bt x (i - 8)) := b_shl 8 (by omega) x hi
theorem b_shl16 (x : Int32) {i : Nat} (hi : i < 32) : bt (x <<< ((16 : Int32) &&& 31)) i = (decide (16 ≤ i) && bt x (i - 16)) := b_shl 16 (by omega) x hi
theorem b_shl24 (x : Int32) {i : Nat} (hi : i < 32) : bt (x <<< ((24 : Int32) &&& 31)) i = (decide (24 ≤ i) && bt x (i - 24)) := b_shl 24 (by omega) x hi
theorem b_sshr8 (x : Int32) {i : Nat} (hi : i < 32) : bt (x >>> ((8 : Int32) &&& 31)) i = if 8 + i < 32 then bt x (8 + i) else bt x 31 := b_sshr 8 (by omega) x hi
theorem b_1 : ∀ i, i < 32 → bt (nI 1) i = decide (i = 0) := by decide +kernel
/-- one bit read -/
theorem b_test (x : Int32) {v : Nat} (hv : v < 32) : (x >>> (nI v &&& 31)) &&& nI 1 = nI (bN (bt x v = true)) := by
  apply b_ext
  intro i hi
  rw [b_and, b_sshr v hv x hi, b_1 i hi]
  by_cases h : bt x v = true
  · rw [bN_t h, b_1 i hi]
    by_cases e : i = 0
    · subst e
      simp [hv, h]
    · simp [e]
  · rw [bN_f h]
    have h0 : bt (nI 0) i = false := b_0 i
    rw [h0]
    by_cases e : i = 0
    · subst e
      simp [hv] at h ⊢
      exact h
    · simp [e]
theorem b_one {v w : Nat} (hv : v < 32) (hw : w < 32) : bt (nI 1 <<< (nI v &&& 31)) w = decide (w = v) := by
  rw [b_shl v hv _ hw]
  by_cases e : w = v
  · subst e
    rw [Nat.sub_self, b_1 0 (by omega)]
    simp
  · by_cases q : v ≤ w
    · rw [b_1 (w - v) (by omega)]
      have : ¬ w - v = 0 := by omega
      simp [e, this]
    · simp [q, e]
theorem b_set (x : Int32) {v w : Nat} (hv : v < 32) (hw : w < 32) : bt (x ||| (nI 1 <<< (nI v &&& 31))) w = true ↔ bt x w = true ∨ w = v := by
  rw [b_or, b_one hv hw]
  simp
theorem b_clr (x : Int32) {v w : Nat} (hv : v < 32) (hw : w < 32) : bt (x &&& ((nI 1 <<< (nI v &&& 31)) ^^^ (-1))) w = true ↔ bt x w = true ∧ w ≠ v := by
  rw [b_and, b_xor, b_one hv hw, b_m1 w hw]
  simp
theorem b_z {x : Int32} : x = 0 ↔ ∀ v, v < 32 → ¬ bt x v = true := by
  constructor
  · intro h v _
    rw [h, b_0]
    decide
  · intro h
    apply b_ext
    intro i hi
    rw [b_0]
    have := h i hi
    revert this
    cases bt x i <;> simp
/-! ===== how the class's cells show the picture ===== -/
def rOwn (own has : Nat → Int32) : Prop := ∀ t, t < 40 → ∀ h, h < 8 → ∀ v, v < 32 → (bt (own (8 * t + h)) v = true ↔ hsP has t h v)
def rClo (clo up : Nat → Int32) : Prop := ∀ k, k < 32 → ∀ v, v < 32 → (bt (clo k) v = true ↔ und up k v)
def rCho (cho ch : Nat → Int32) : Prop := ∀ h, h < 8 → ∀ v, v < 32 → (bt (cho h) v = true ↔ chP ch h v)
def rFai (fai has up ch : Nat → Int32) : Prop := ∀ t, t < 40 → fai t = nI (fN has up ch t)
def rCou (cou has up ch : Nat → Int32) : Prop := ∀ h, h < 8 → ∀ v, v < 32 → cou (32 * h + v) = nI (cN has up ch h v)
theorem rCho_0 {cho ch : Nat → Int32} (H : rCho cho ch) {h : Nat} (hh : h < 8) : cho h = 0 ↔ ¬ ∃ v, v < 32 ∧ chP ch h v := by
  rw [b_z]
  constructor
  · rintro q ⟨v, hv, z⟩
    exact q v hv ((H h hh v hv).mpr z)
  · intro q v hv z
    exact q ⟨v, hv, (H h hh v hv).mp z⟩
theorem rHit {cho ch has up : Nat → Int32} (H : rCho cho ch) {t h : Nat} (hh : h < 8) {r : Int32} (hr : ∀ v, v < 32 → (bt r v = true ↔ ow has up t h v)) : r &&& cho h = 0 ↔ ¬ ∃ v, v < 32 ∧ chP ch h v ∧ ow has up t h v := by
  rw [b_z]
  constructor
  · rintro q ⟨v, hv, z1, z2⟩
    refine q v hv ?_
    rw [b_and, (H h hh v hv).mpr z1, (hr v hv).mpr z2]
    rfl
  · intro q v hv z
    rw [b_and, Bool.and_eq_true] at z
    exact q ⟨v, hv, (H h hh v hv).mp z.2, (hr v hv).mp z.1⟩
end
section
set_option maxRecDepth 100000
section FLD
variable {p : Program} {l : Launch} {e : Env} {R : Room} {s : State} {m : MethodId} {args : Array Value} {below : List Frame} {meth : Method} {c : Code} {H : Heap} {locs : List Loc} {cells slots : Nat} {Q : State → Prop}
variable {cc : ByteArray} {pc : Nat} {ls : Array Slot} {rest : List Value} {D : va_G} {A : Nat → Prop} {H0 : Heap} {dA dZ : ClassId} {ad : Nat → Nat}
variable {own upp clo cho fai cou see has abv tol : Nat → Int32} {rows cod : Int32}
theorem fc_own (hx : p.tables.exec = Jvm.exec) (hb : c.code = cc) (hts : ∀ w ∈ lw_all, w.before args s = true) (hown : s.vm.findClass RX1 = some m.cls) (hK : va_K D vwCl (tyW dA dZ) s) (hP : va_P D vwCl (fcW dA ad own rows upp clo cho fai cou see) H) (hdg : decode cc pc = .ok (.getfield 7, 3))
    (kk : W p l e R s m args below meth c H locs cells slots Q (F0 m (pc + 3) ls (.ref (ad 1) :: rest))) : W p l e R s m args below meth c H locs cells slots Q (F0 m pc ls (.ref (ad 0) :: rest)) :=
  va_get (D := D) (ci := 0) (v := .ref (ad 1)) (C := RX1) (T := TX1) (N := 8) hx hb hts in_X1 hown hK hP 0 rfl rfl 0 (by decide) (hts _ q28) (fun _ h9 => h9) rfl hdg kk
theorem fc_rows (hx : p.tables.exec = Jvm.exec) (hb : c.code = cc) (hts : ∀ w ∈ lw_all, w.before args s = true) (hown : s.vm.findClass RX1 = some m.cls) (hK : va_K D vwCl (tyW dA dZ) s) (hP : va_P D vwCl (fcW dA ad own rows upp clo cho fai cou see) H) (hdg : decode cc pc = .ok (.getfield 53, 3))
    (kk : W p l e R s m args below meth c H locs cells slots Q (F0 m (pc + 3) ls (.int rows :: rest))) : W p l e R s m args below meth c H locs cells slots Q (F0 m pc ls (.ref (ad 0) :: rest)) :=
  va_get (D := D) (ci := 0) (v := .int rows) (C := RX1) (T := TX1) (N := 8) hx hb hts in_X1 hown hK hP 0 rfl rfl 1 (by decide) (hts _ q29) (fun _ h9 => h9) rfl hdg kk
theorem fc_uppers (hx : p.tables.exec = Jvm.exec) (hb : c.code = cc) (hts : ∀ w ∈ lw_all, w.before args s = true) (hown : s.vm.findClass RX1 = some m.cls) (hK : va_K D vwCl (tyW dA dZ) s) (hP : va_P D vwCl (fcW dA ad own rows upp clo cho fai cou see) H) (hdg : decode cc pc = .ok (.getfield 13, 3))
    (kk : W p l e R s m args below meth c H locs cells slots Q (F0 m (pc + 3) ls (.ref (ad 2) :: rest))) : W p l e R s m args below meth c H locs cells slots Q (F0 m pc ls (.ref (ad 0) :: rest)) :=
  va_get (D := D) (ci := 0) (v := .ref (ad 2)) (C := RX1) (T := TX1) (N := 8) hx hb hts in_X1 hown hK hP 0 rfl rfl 2 (by decide) (hts _ q30) (fun _ h9 => h9) rfl hdg kk
theorem fc_closed (hx : p.tables.exec = Jvm.exec) (hb : c.code = cc) (hts : ∀ w ∈ lw_all, w.before args s = true) (hown : s.vm.findClass RX1 = some m.cls) (hK : va_K D vwCl (tyW dA dZ) s) (hP : va_P D vwCl (fcW dA ad own rows upp clo cho fai cou see) H) (hdg : decode cc pc = .ok (.getfield 16, 3))
    (kk : W p l e R s m args below meth c H locs cells slots Q (F0 m (pc + 3) ls (.ref (ad 3) :: rest))) : W p l e R s m args below meth c H locs cells slots Q (F0 m pc ls (.ref (ad 0) :: rest)) :=
  va_get (D := D) (ci := 0) (v := .ref (ad 3)) (C := RX1) (T := TX1) (N := 8) hx hb hts in_X1 hown hK hP 0 rfl rfl 3 (by decide) (hts _ q31) (fun _ h9 => h9) rfl hdg kk
theorem fc_chosen (hx : p.tables.exec = Jvm.exec) (hb : c.code = cc) (hts : ∀ w ∈ lw_all, w.before args s = true) (hown : s.vm.findClass RX1 = some m.cls) (hK : va_K D vwCl (tyW dA dZ) s) (hP : va_P D vwCl (fcW dA ad own rows upp clo cho fai cou see) H) (hdg : decode cc pc = .ok (.getfield 19, 3))
    (kk : W p l e R s m args below meth c H locs cells slots Q (F0 m (pc + 3) ls (.ref (ad 4) :: rest))) : W p l e R s m args below meth c H locs cells slots Q (F0 m pc ls (.ref (ad 0) :: rest)) :=
  va_get (D := D) (ci := 0) (v := .ref (ad 4)) (C := RX1) (T := TX1) (N := 8) hx hb hts in_X1 hown hK hP 0 rfl rfl 4 (by decide) (hts _ q32) (fun _ h9 => h9) rfl hdg kk
theorem fc_fails (hx : p.tables.exec = Jvm.exec) (hb : c.code = cc) (hts : ∀ w ∈ lw_all, w.before args s = true) (hown : s.vm.findClass RX1 = some m.cls) (hK : va_K D vwCl (tyW dA dZ) s) (hP : va_P D vwCl (fcW dA ad own rows upp clo cho fai cou see) H) (hdg : decode cc pc = .ok (.getfield 22, 3))
    (kk : W p l e R s m args below meth c H locs cells slots Q (F0 m (pc + 3) ls (.ref (ad 5) :: rest))) : W p l e R s m args below meth c H locs cells slots Q (F0 m pc ls (.ref (ad 0) :: rest)) :=
  va_get (D := D) (ci := 0) (v := .ref (ad 5)) (C := RX1) (T := TX1) (N := 8) hx hb hts in_X1 hown hK hP 0 rfl rfl 5 (by decide) (hts _ q33) (fun _ h9 => h9) rfl hdg kk
theorem fc_counts (hx : p.tables.exec = Jvm.exec) (hb : c.code = cc) (hts : ∀ w ∈ lw_all, w.before args s = true) (hown : s.vm.findClass RX1 = some m.cls) (hK : va_K D vwCl (tyW dA dZ) s) (hP : va_P D vwCl (fcW dA ad own rows upp clo cho fai cou see) H) (hdg : decode cc pc = .ok (.getfield 25, 3))
    (kk : W p l e R s m args below meth c H locs cells slots Q (F0 m (pc + 3) ls (.ref (ad 6) :: rest))) : W p l e R s m args below meth c H locs cells slots Q (F0 m pc ls (.ref (ad 0) :: rest)) :=
  va_get (D := D) (ci := 0) (v := .ref (ad 6)) (C := RX1) (T := TX1) (N := 8) hx hb hts in_X1 hown hK hP 0 rfl rfl 6 (by decide) (hts _ q34) (fun _ h9 => h9) rfl hdg kk
theorem fc_seen (hx : p.tables.exec = Jvm.exec) (hb : c.code = cc) (hts : ∀ w ∈ lw_all, w.before args s = true) (hown : s.vm.findClass RX1 = some m.cls) (hK : va_K D vwCl (tyW dA dZ) s) (hP : va_P D vwCl (fcW dA ad own rows upp clo cho fai cou see) H) (hdg : decode cc pc = .ok (.getfield 28, 3))
    (kk : W p l e R s m args below meth c H locs cells slots Q (F0 m (pc + 3) ls (.ref (ad 7) :: rest))) : W p l e R s m args below meth c H locs cells slots Q (F0 m pc ls (.ref (ad 0) :: rest)) :=
  va_get (D := D) (ci := 0) (v := .ref (ad 7)) (C := RX1) (T := TX1) (N := 8) hx hb hts in_X1 hown hK hP 0 rfl rfl 7 (by decide) (hts _ q35) (fun _ h9 => h9) rfl hdg kk
theorem md_code (hx : p.tables.exec = Jvm.exec) (hb : c.code = cc) (hts : ∀ w ∈ lw_all, w.before args s = true) (hown : s.vm.findClass RX2 = some m.cls) (hK : va_K D vwCl (tyW dA dZ) s) (hP : va_P D vwCl (mdW dA dZ ad cod has abv cho tol cou rows) H) (hdg : decode cc pc = .ok (.getfield 26, 3))
    (kk : W p l e R s m args below meth c H locs cells slots Q (F0 m (pc + 3) ls (.int cod :: rest))) : W p l e R s m args below meth c H locs cells slots Q (F0 m pc ls (.ref (ad 0) :: rest)) :=
  va_get (D := D) (ci := 1) (v := .int cod) (C := RX2) (T := TX2) (N := 7) hx hb hts in_X2 hown hK hP 0 rfl rfl 0 (by decide) (hts _ q225) (fun _ h9 => h9) rfl hdg kk
theorem md_has (hx : p.tables.exec = Jvm.exec) (hb : c.code = cc) (hts : ∀ w ∈ lw_all, w.before args s = true) (hown : s.vm.findClass RX2 = some m.cls) (hK : va_K D vwCl (tyW dA dZ) s) (hP : va_P D vwCl (mdW dA dZ ad cod has abv cho tol cou rows) H) (hdg : decode cc pc = .ok (.getfield 7, 3))
    (kk : W p l e R s m args below meth c H locs cells slots Q (F0 m (pc + 3) ls (.ref (ad 1) :: rest))) : W p l e R s m args below meth c H locs cells slots Q (F0 m pc ls (.ref (ad 0) :: rest)) :=
  va_get (D := D) (ci := 1) (v := .ref (ad 1)) (C := RX2) (T := TX2) (N := 7) hx hb hts in_X2 hown hK hP 0 rfl rfl 1 (by decide) (hts _ q226) (fun _ h9 => h9) rfl hdg kk
theorem md_above (hx : p.tables.exec = Jvm.exec) (hb : c.code = cc) (hts : ∀ w ∈ lw_all, w.before args s = true) (hown : s.vm.findClass RX2 = some m.cls) (hK : va_K D vwCl (tyW dA dZ) s) (hP : va_P D vwCl (mdW dA dZ ad cod has abv cho tol cou rows) H) (hdg : decode cc pc = .ok (.getfield 13, 3))
    (kk : W p l e R s m args below meth c H locs cells slots Q (F0 m (pc + 3) ls (.ref (ad 2) :: rest))) : W p l e R s m args below meth c H locs cells slots Q (F0 m pc ls (.ref (ad 0) :: rest)) :=
  va_get (D := D) (ci := 1) (v := .ref (ad 2)) (C := RX2) (T := TX2) (N := 7) hx hb hts in_X2 hown hK hP 0 rfl rfl 2 (by decide) (hts _ q227) (fun _ h9 => h9) rfl hdg kk
theorem md_chosen (hx : p.tables.exec = Jvm.exec) (hb : c.code = cc) (hts : ∀ w ∈ lw_all, w.before args s = true) (hown : s.vm.findClass RX2 = some m.cls) (hK : va_K D vwCl (tyW dA dZ) s) (hP : va_P D vwCl (mdW dA dZ ad cod has abv cho tol cou rows) H) (hdg : decode cc pc = .ok (.getfield 17, 3))
    (kk : W p l e R s m args below meth c H locs cells slots Q (F0 m (pc + 3) ls (.ref (ad 3) :: rest))) : W p l e R s m args below meth c H locs cells slots Q (F0 m pc ls (.ref (ad 0) :: rest)) :=
  va_get (D := D) (ci := 1) (v := .ref (ad 3)) (C := RX2) (T := TX2) (N := 7) hx hb hts in_X2 hown hK hP 0 rfl rfl 3 (by decide) (hts _ q228) (fun _ h9 => h9) rfl hdg kk
theorem md_told (hx : p.tables.exec = Jvm.exec) (hb : c.code = cc) (hts : ∀ w ∈ lw_all, w.before args s = true) (hown : s.vm.findClass RX2 = some m.cls) (hK : va_K D vwCl (tyW dA dZ) s) (hP : va_P D vwCl (mdW dA dZ ad cod has abv cho tol cou rows) H) (hdg : decode cc pc = .ok (.getfield 20, 3))
    (kk : W p l e R s m args below meth c H locs cells slots Q (F0 m (pc + 3) ls (.ref (ad 4) :: rest))) : W p l e R s m args below meth c H locs cells slots Q (F0 m pc ls (.ref (ad 0) :: rest)) :=
  va_get (D := D) (ci := 1) (v := .ref (ad 4)) (C := RX2) (T := TX2) (N := 7) hx hb hts in_X2 hown hK hP 0 rfl rfl 4 (by decide) (hts _ q229) (fun _ h9 => h9) rfl hdg kk
theorem md_counts (hx : p.tables.exec = Jvm.exec) (hb : c.code = cc) (hts : ∀ w ∈ lw_all, w.before args s = true) (hown : s.vm.findClass RX2 = some m.cls) (hK : va_K D vwCl (tyW dA dZ) s) (hP : va_P D vwCl (mdW dA dZ ad cod has abv cho tol cou rows) H) (hdg : decode cc pc = .ok (.getfield 23, 3))
    (kk : W p l e R s m args below meth c H locs cells slots Q (F0 m (pc + 3) ls (.ref (ad 5) :: rest))) : W p l e R s m args below meth c H locs cells slots Q (F0 m pc ls (.ref (ad 0) :: rest)) :=
  va_get (D := D) (ci := 1) (v := .ref (ad 5)) (C := RX2) (T := TX2) (N := 7) hx hb hts in_X2 hown hK hP 0 rfl rfl 5 (by decide) (hts _ q230) (fun _ h9 => h9) rfl hdg kk
theorem md_rows (hx : p.tables.exec = Jvm.exec) (hb : c.code = cc) (hts : ∀ w ∈ lw_all, w.before args s = true) (hown : s.vm.findClass RX2 = some m.cls) (hK : va_K D vwCl (tyW dA dZ) s) (hP : va_P D vwCl (mdW dA dZ ad cod has abv cho tol cou rows) H) (hdg : decode cc pc = .ok (.getfield 44, 3))
    (kk : W p l e R s m args below meth c H locs cells slots Q (F0 m (pc + 3) ls (.int rows :: rest))) : W p l e R s m args below meth c H locs cells slots Q (F0 m pc ls (.ref (ad 0) :: rest)) :=
  va_get (D := D) (ci := 1) (v := .int rows) (C := RX2) (T := TX2) (N := 7) hx hb hts in_X2 hown hK hP 0 rfl rfl 6 (by decide) (hts _ q231) (fun _ h9 => h9) rfl hdg kk
theorem fc_put_rows {x : Int32} (hx : p.tables.exec = Jvm.exec) (hb : c.code = cc) (hts : ∀ w ∈ lw_all, w.before args s = true) (hown : s.vm.findClass RX1 = some m.cls) (hK : va_K D vwCl (tyW dA dZ) s) (hP : va_P D vwCl (fcW dA ad own rows upp clo cho fai cou see) H) (hD : va_D A (fcW dA ad own rows upp clo cho fai cou see)) (hS : va_S A H0 H locs) (hdg : decode cc pc = .ok (.putfield 53, 3))
    (kk : ∀ (H1 : Heap) (locs1 : List Loc), va_P D vwCl (fcW dA ad own x upp clo cho fai cou see) H1 → va_D A (fcW dA ad own x upp clo cho fai cou see) → va_S A H0 H1 locs1 → W p l e R s m args below meth c H1 locs1 cells slots Q (F0 m (pc + 3) ls rest)) : W p l e R s m args below meth c H locs cells slots Q (F0 m pc ls (.int x :: .ref (ad 0) :: rest)) :=
  va_put (D := D) (ci := 0) (v := .int x) (ty := .int) (C := RX1) (T := TX1) (N := 8) hx hb hts in_X1 tyX1 tyX1_ok nmX1 hown hK hP hD hS 0 rfl rfl 1 (by decide) (hts _ q29) (fun _ h9 => h9) rfl (by decide +kernel) rfl rfl (Nat.le_of_ble_eq_true rfl) hdg (fun H1 locs1 h1 h2 h3 => kk H1 locs1 h1 h2 h3)
theorem md_put_rows {x : Int32} (hx : p.tables.exec = Jvm.exec) (hb : c.code = cc) (hts : ∀ w ∈ lw_all, w.before args s = true) (hown : s.vm.findClass RX2 = some m.cls) (hK : va_K D vwCl (tyW dA dZ) s) (hP : va_P D vwCl (mdW dA dZ ad cod has abv cho tol cou rows) H) (hD : va_D A (mdW dA dZ ad cod has abv cho tol cou rows)) (hS : va_S A H0 H locs) (hdg : decode cc pc = .ok (.putfield 44, 3))
    (kk : ∀ (H1 : Heap) (locs1 : List Loc), va_P D vwCl (mdW dA dZ ad cod has abv cho tol cou x) H1 → va_D A (mdW dA dZ ad cod has abv cho tol cou x) → va_S A H0 H1 locs1 → W p l e R s m args below meth c H1 locs1 cells slots Q (F0 m (pc + 3) ls rest)) : W p l e R s m args below meth c H locs cells slots Q (F0 m pc ls (.int x :: .ref (ad 0) :: rest)) :=
  va_put (D := D) (ci := 1) (v := .int x) (ty := .int) (C := RX2) (T := TX2) (N := 7) hx hb hts in_X2 tyX2 tyX2_ok nmX2 hown hK hP hD hS 0 rfl rfl 6 (by decide) (hts _ q231) (fun _ h9 => h9) rfl (by decide +kernel) rfl rfl (Nat.le_of_ble_eq_true rfl) hdg (fun H1 locs1 h1 h2 h3 => kk H1 locs1 h1 h2 h3)
theorem md_put_code {x : Int32} (hx : p.tables.exec = Jvm.exec) (hb : c.code = cc) (hts : ∀ w ∈ lw_all, w.before args s = true) (hown : s.vm.findClass RX2 = some m.cls) (hK : va_K D vwCl (tyW dA dZ) s) (hP : va_P D vwCl (mdW dA dZ ad cod has abv cho tol cou rows) H) (hD : va_D A (mdW dA dZ ad cod has abv cho tol cou rows)) (hS : va_S A H0 H locs) (hdg : decode cc pc = .ok (.putfield 26, 3))
    (kk : ∀ (H1 : Heap) (locs1 : List Loc), va_P D vwCl (mdW dA dZ ad x has abv cho tol cou rows) H1 → va_D A (mdW dA dZ ad x has abv cho tol cou rows) → va_S A H0 H1 locs1 → W p l e R s m args below meth c H1 locs1 cells slots Q (F0 m (pc + 3) ls rest)) : W p l e R s m args below meth c H locs cells slots Q (F0 m pc ls (.int x :: .ref (ad 0) :: rest)) :=
  va_put (D := D) (ci := 1) (v := .int x) (ty := .int) (C := RX2) (T := TX2) (N := 7) hx hb hts in_X2 tyX2 tyX2_ok nmX2 hown hK hP hD hS 0 rfl rfl 0 (by decide) (hts _ q225) (fun _ h9 => h9) rfl (by decide +kernel) rfl rfl (Nat.le_of_ble_eq_true rfl) hdg (fun H1 locs1 h1 h2 h3 => kk H1 locs1 h1 h2 h3)
theorem bw_ne1 {P : Prop} (hx : p.tables.exec = Jvm.exec) (hb : c.code = cc) {off : Int} {tgt : Nat} (hdg : decode cc pc = .ok (.if_icmp .ne off, 3)) (ht : (pc : Int) + off = (tgt : Int))
    (kt : ¬ P → W p l e R s m args below meth c H locs cells slots Q (F0 m tgt ls rest)) (kf : P → W p l e R s m args below meth c H locs cells slots Q (F0 m (pc + 3) ls rest)) : W p l e R s m args below meth c H locs cells slots Q (F0 m pc ls (.int (nI 1) :: .int (nI (bN P)) :: rest)) :=
  bw_ne (bN_lt P) (by decide) hx hb hdg ht (fun q => kt (fun z => q (bN_t z))) (fun q => kf (Classical.byContradiction fun z => by rw [bN_f z] at q; omega))
end FLD
abbrev rm_X1_row : Room := { frames := 4, cells := 0, slots := 0, locals := 94 }
abbrev rm_X1_isRow : Room := { frames := 1, cells := 0, slots := 0, locals := 21 }
abbrev rm_X1_isIn : Room := { frames := 0, cells := 0, slots := 0, locals := 0 }
abbrev rm_X1_weigh : Room := { frames := 3, cells := 0, slots := 0, locals := 69 }
abbrev rm_X1_failsAt : Room := { frames := 1, cells := 0, slots := 0, locals := 25 }
abbrev rm_X1_has : Room := { frames := 0, cells := 0, slots := 0, locals := 0 }
abbrev rm_X1_isKeptBut : Room := { frames := 2, cells := 0, slots := 0, locals := 47 }
abbrev rm_X1_drop : Room := { frames := 4, cells := 0, slots := 0, locals := 94 }
abbrev rm_X1_above : Room := { frames := 5, cells := 0, slots := 0, locals := 116 }
abbrev rm_X1_weighAll : Room := { frames := 4, cells := 0, slots := 0, locals := 94 }
abbrev rm_X1_choose : Room := { frames := 5, cells := 0, slots := 0, locals := 116 }
abbrev rm_X1_kept : Room := { frames := 0, cells := 0, slots := 0, locals := 0 }
abbrev rm_X1_isKept : Room := { frames := 1, cells := 0, slots := 0, locals := 21 }
abbrev rm_X1_facet : Room := { frames := 1, cells := 0, slots := 0, locals := 21 }
abbrev rm_X1_top : Room := { frames := 1, cells := 0, slots := 0, locals := 21 }
abbrev rm_X1_range : Room := { frames := 3, cells := 0, slots := 0, locals := 69 }
abbrev rm_X1_sum : Room := { frames := 1, cells := 0, slots := 0, locals := 25 }
abbrev rm_X1_changed : Room := { frames := 0, cells := 0, slots := 0, locals := 0 }
abbrev rm_X1_rows : Room := { frames := 0, cells := 0, slots := 0, locals := 0 }
abbrev rm_X1_common : Room := { frames := 0, cells := 0, slots := 0, locals := 0 }
abbrev rm_X2_thrown : Room := { frames := 0, cells := 0, slots := 0, locals := 0 }
abbrev rm_X2_row : Room := { frames := 1, cells := 0, slots := 0, locals := 22 }
abbrev rm_X2_isThing : Room := { frames := 0, cells := 0, slots := 0, locals := 0 }
abbrev rm_X2_isHead : Room := { frames := 0, cells := 0, slots := 0, locals := 0 }
abbrev rm_X2_isValue : Room := { frames := 0, cells := 0, slots := 0, locals := 0 }
abbrev rm_X2_at : Room := { frames := 0, cells := 0, slots := 0, locals := 0 }
abbrev rm_X2_drop : Room := { frames := 1, cells := 0, slots := 0, locals := 22 }
abbrev rm_X2_above : Room := { frames := 1, cells := 0, slots := 0, locals := 23 }
abbrev rm_X2_isUnder : Room := { frames := 0, cells := 0, slots := 0, locals := 0 }
abbrev rm_X2_choose : Room := { frames := 5, cells := 0, slots := 0, locals := 120 }
abbrev rm_X2_all : Room := { frames := 4, cells := 0, slots := 0, locals := 97 }
abbrev rm_X2_isKeptBut : Room := { frames := 3, cells := 0, slots := 0, locals := 73 }
abbrev rm_X2_isMet : Room := { frames := 2, cells := 0, slots := 0, locals := 48 }
abbrev rm_X2_owns : Room := { frames := 1, cells := 0, slots := 0, locals := 23 }
abbrev rm_X2_kept : Room := { frames := 5, cells := 0, slots := 0, locals := 120 }
abbrev rm_X2_isKept : Room := { frames := 4, cells := 0, slots := 0, locals := 97 }
abbrev rm_X2_facet : Room := { frames := 5, cells := 0, slots := 0, locals := 121 }
abbrev rm_X2_count : Room := { frames := 4, cells := 0, slots := 0, locals := 97 }
abbrev rm_X2_top : Room := { frames := 5, cells := 0, slots := 0, locals := 121 }
abbrev rm_X2_range : Room := { frames := 4, cells := 0, slots := 0, locals := 97 }
abbrev rm_X2_sum : Room := { frames := 4, cells := 0, slots := 0, locals := 97 }
abbrev rm_X2_share : Room := { frames := 5, cells := 0, slots := 0, locals := 121 }
abbrev rm_X2_changed : Room := { frames := 5, cells := 0, slots := 0, locals := 121 }
abbrev rm_X2_rows : Room := { frames := 0, cells := 0, slots := 0, locals := 0 }
theorem cw_X1_31 {R : Room} {s : State} {args : Array Value} (hts : ∀ w ∈ lw_all, w.before args s = true) (hR : rm_X1_isIn.frames + 1 ≤ R.frames ∧ 8 + (2 + 11) + rm_X1_isIn.locals ≤ R.locals) : CallB R s args RX1 31 yX1_isIn cX1_isIn 2 (some .boolean) (ws_ yX1_isIn cX1_isIn 2 (some .boolean)) rm_X1_isIn 0 0 2 ∧ (Cond.static yX1_isIn).before args s = true :=
  va_cwS 2 hts (lw_S q61 q62 q13 q63) rfl rfl rfl (by decide +kernel) hR
theorem cw_X1_35 {R : Room} {s : State} {args : Array Value} (hts : ∀ w ∈ lw_all, w.before args s = true) (hR : rm_X1_has.frames + 1 ≤ R.frames ∧ 8 + (6 + 11) + rm_X1_has.locals ≤ R.locals) : CallW R s args RX1 RX1 35 yX1_has cX1_has 6 (some .int) (ws_ yX1_has cX1_has 6 (some .int)) rm_X1_has 0 0 2 :=
  cwV 2 hts (lw_V q72 q74 qs2 q13 q75) rfl rfl rfl (by decide +kernel) hR
theorem cw_X1_39 {R : Room} {s : State} {args : Array Value} (hts : ∀ w ∈ lw_all, w.before args s = true) (hR : rm_X1_failsAt.frames + 1 ≤ R.frames ∧ 8 + (3 + 11) + rm_X1_failsAt.locals ≤ R.locals) : CallW R s args RX1 RX1 39 yX1_failsAt cX1_failsAt 3 (some .boolean) (ws_ yX1_failsAt cX1_failsAt 3 (some .boolean)) rm_X1_failsAt 0 0 2 :=
  cwV 2 hts (lw_V q68 q70 qs1 q13 q71) rfl rfl rfl (by decide +kernel) hR
theorem cw_X1_42 {R : Room} {s : State} {args : Array Value} (hts : ∀ w ∈ lw_all, w.before args s = true) (hR : rm_X1_isKeptBut.frames + 1 ≤ R.frames ∧ 8 + (3 + 11) + rm_X1_isKeptBut.locals ≤ R.locals) : CallW R s args RX1 RX1 42 yX1_isKeptBut cX1_isKeptBut 3 (some .boolean) (ws_ yX1_isKeptBut cX1_isKeptBut 3 (some .boolean)) rm_X1_isKeptBut 0 0 2 :=
  cwV 2 hts (lw_V q76 q78 qs3 q13 q79) rfl rfl rfl (by decide +kernel) hR
theorem cw_X1_45 {R : Room} {s : State} {args : Array Value} (hts : ∀ w ∈ lw_all, w.before args s = true) (hR : rm_X1_weigh.frames + 1 ≤ R.frames ∧ 8 + (6 + 11) + rm_X1_weigh.locals ≤ R.locals) : CallW R s args RX1 RX1 45 yX1_weigh cX1_weigh 6 none (ws_ yX1_weigh cX1_weigh 6 none) rm_X1_weigh 0 0 2 :=
  cwV 2 hts (lw_V q64 q66 qs0 q13 q67) rfl rfl rfl (by decide +kernel) hR
theorem cw_X1_49 {R : Room} {s : State} {args : Array Value} (hts : ∀ w ∈ lw_all, w.before args s = true) (hR : rm_X1_isRow.frames + 1 ≤ R.frames ∧ 8 + (3 + 11) + rm_X1_isRow.locals ≤ R.locals) : CallB R s args RX1 49 yX1_isRow cX1_isRow 3 (some .boolean) (ws_ yX1_isRow cX1_isRow 3 (some .boolean)) rm_X1_isRow 0 0 3 ∧ (Cond.static yX1_isRow).before args s = true :=
  va_cwS 3 hts (lw_S q58 q59 q13 q60) rfl rfl rfl (by decide +kernel) hR
theorem cw_X1_57 {R : Room} {s : State} {args : Array Value} (hts : ∀ w ∈ lw_all, w.before args s = true) (hR : rm_X1_weighAll.frames + 1 ≤ R.frames ∧ 8 + (3 + 11) + rm_X1_weighAll.locals ≤ R.locals) : CallW R s args RX1 RX1 57 yX1_weighAll cX1_weighAll 3 none (ws_ yX1_weighAll cX1_weighAll 3 none) rm_X1_weighAll 0 0 1 :=
  cwV 1 hts (lw_V q88 q90 qs4 q13 q91) rfl rfl rfl (by decide +kernel) hR
theorem cw_X1_61 {R : Room} {s : State} {args : Array Value} (hts : ∀ w ∈ lw_all, w.before args s = true) (hR : rm_X1_kept.frames + 1 ≤ R.frames ∧ 8 + (3 + 11) + rm_X1_kept.locals ≤ R.locals) : CallW R s args RX1 RX1 61 yX1_kept cX1_kept 3 (some .int) (ws_ yX1_kept cX1_kept 3 (some .int)) rm_X1_kept 0 0 0 :=
  cwV 0 hts (lw_V q96 q97 q98 q13 q99) rfl rfl rfl (by decide +kernel) hR
theorem cw_X1_68 {R : Room} {s : State} {args : Array Value} (hts : ∀ w ∈ lw_all, w.before args s = true) (hR : rm_X1_common.frames + 1 ≤ R.frames ∧ 8 + (5 + 11) + rm_X1_common.locals ≤ R.locals) : CallB R s args RX1 68 yX1_common cX1_common 5 (some .int) (ws_ yX1_common cX1_common 5 (some .int)) rm_X1_common 0 0 2 ∧ (Cond.static yX1_common).before args s = true :=
  va_cwS 2 hts (lw_S q216 q217 q13 q218) rfl rfl rfl (by decide +kernel) hR
theorem cw_X0_19 {R : Room} {s : State} {args : Array Value} (hts : ∀ w ∈ lw_all, w.before args s = true) (hR : rm_X1_row.frames + 1 ≤ R.frames ∧ 8 + (5 + 11) + rm_X1_row.locals ≤ R.locals) : CallW R s args RX0 RX1 19 yX1_row cX1_row 5 (some .int) (ws_ yX1_row cX1_row 5 (some .int)) rm_X1_row 0 0 3 :=
  cwV 3 hts (lw_V q54 q55 q56 q13 q57) rfl rfl rfl (by decide +kernel) hR
theorem cw_X0_23 {R : Room} {s : State} {args : Array Value} (hts : ∀ w ∈ lw_all, w.before args s = true) (hR : rm_X2_row.frames + 1 ≤ R.frames ∧ 8 + (4 + 11) + rm_X2_row.locals ≤ R.locals) : CallW R s args RX0 RX2 23 yX2_row cX2_row 4 (some .int) (ws_ yX2_row cX2_row 4 (some .int)) rm_X2_row 0 0 3 :=
  cwV 3 hts (lw_V q252 q253 q254 q14 q255) rfl rfl rfl (by decide +kernel) hR
theorem cw_X0_24 {R : Room} {s : State} {args : Array Value} (hts : ∀ w ∈ lw_all, w.before args s = true) (hR : rm_X1_drop.frames + 1 ≤ R.frames ∧ 8 + (5 + 11) + rm_X1_drop.locals ≤ R.locals) : CallW R s args RX0 RX1 24 yX1_drop cX1_drop 5 (some .int) (ws_ yX1_drop cX1_drop 5 (some .int)) rm_X1_drop 0 0 3 :=
  cwV 3 hts (lw_V q80 q81 q82 q13 q83) rfl rfl rfl (by decide +kernel) hR
theorem cw_X0_27 {R : Room} {s : State} {args : Array Value} (hts : ∀ w ∈ lw_all, w.before args s = true) (hR : rm_X2_drop.frames + 1 ≤ R.frames ∧ 8 + (4 + 11) + rm_X2_drop.locals ≤ R.locals) : CallW R s args RX0 RX2 27 yX2_drop cX2_drop 4 (some .int) (ws_ yX2_drop cX2_drop 4 (some .int)) rm_X2_drop 0 0 3 :=
  cwV 3 hts (lw_V q268 q269 q270 q14 q271) rfl rfl rfl (by decide +kernel) hR
theorem cw_X0_28 {R : Room} {s : State} {args : Array Value} (hts : ∀ w ∈ lw_all, w.before args s = true) (hR : rm_X1_above.frames + 1 ≤ R.frames ∧ 8 + (5 + 11) + rm_X1_above.locals ≤ R.locals) : CallW R s args RX0 RX1 28 yX1_above cX1_above 5 (some .int) (ws_ yX1_above cX1_above 5 (some .int)) rm_X1_above 0 0 2 :=
  cwV 2 hts (lw_V q84 q85 q86 q13 q87) rfl rfl rfl (by decide +kernel) hR
theorem cw_X0_32 {R : Room} {s : State} {args : Array Value} (hts : ∀ w ∈ lw_all, w.before args s = true) (hR : rm_X2_above.frames + 1 ≤ R.frames ∧ 8 + (3 + 11) + rm_X2_above.locals ≤ R.locals) : CallW R s args RX0 RX2 32 yX2_above cX2_above 3 (some .int) (ws_ yX2_above cX2_above 3 (some .int)) rm_X2_above 0 0 2 :=
  cwV 2 hts (lw_V q272 q273 q274 q14 q275) rfl rfl rfl (by decide +kernel) hR
theorem cw_X0_33 {R : Room} {s : State} {args : Array Value} (hts : ∀ w ∈ lw_all, w.before args s = true) (hR : rm_X1_choose.frames + 1 ≤ R.frames ∧ 8 + (4 + 11) + rm_X1_choose.locals ≤ R.locals) : CallW R s args RX0 RX1 33 yX1_choose cX1_choose 4 (some .int) (ws_ yX1_choose cX1_choose 4 (some .int)) rm_X1_choose 0 0 3 :=
  cwV 3 hts (lw_V q92 q93 q94 q13 q95) rfl rfl rfl (by decide +kernel) hR
theorem cw_X0_36 {R : Room} {s : State} {args : Array Value} (hts : ∀ w ∈ lw_all, w.before args s = true) (hR : rm_X2_choose.frames + 1 ≤ R.frames ∧ 8 + (4 + 11) + rm_X2_choose.locals ≤ R.locals) : CallW R s args RX0 RX2 36 yX2_choose cX2_choose 4 (some .int) (ws_ yX2_choose cX2_choose 4 (some .int)) rm_X2_choose 0 0 3 :=
  cwV 3 hts (lw_V q280 q281 q282 q14 q283) rfl rfl rfl (by decide +kernel) hR
theorem cw_X0_37 {R : Room} {s : State} {args : Array Value} (hts : ∀ w ∈ lw_all, w.before args s = true) (hR : rm_X1_kept.frames + 1 ≤ R.frames ∧ 8 + (3 + 11) + rm_X1_kept.locals ≤ R.locals) : CallW R s args RX0 RX1 37 yX1_kept cX1_kept 3 (some .int) (ws_ yX1_kept cX1_kept 3 (some .int)) rm_X1_kept 0 0 0 :=
  cwV 0 hts (lw_V q100 q97 q98 q13 q99) rfl rfl rfl (by decide +kernel) hR
theorem cw_X0_41 {R : Room} {s : State} {args : Array Value} (hts : ∀ w ∈ lw_all, w.before args s = true) (hR : rm_X2_kept.frames + 1 ≤ R.frames ∧ 8 + (1 + 11) + rm_X2_kept.locals ≤ R.locals) : CallW R s args RX0 RX2 41 yX2_kept cX2_kept 1 (some .int) (ws_ yX2_kept cX2_kept 1 (some .int)) rm_X2_kept 0 0 0 :=
  cwV 0 hts (lw_V q300 q301 q302 q14 q303) rfl rfl rfl (by decide +kernel) hR
theorem cw_X0_42 {R : Room} {s : State} {args : Array Value} (hts : ∀ w ∈ lw_all, w.before args s = true) (hR : rm_X1_isKept.frames + 1 ≤ R.frames ∧ 8 + (2 + 11) + rm_X1_isKept.locals ≤ R.locals) : CallW R s args RX0 RX1 42 yX1_isKept cX1_isKept 2 (some .int) (ws_ yX1_isKept cX1_isKept 2 (some .int)) rm_X1_isKept 0 0 1 :=
  cwV 1 hts (lw_V q101 q102 q103 q13 q104) rfl rfl rfl (by decide +kernel) hR
theorem cw_X0_46 {R : Room} {s : State} {args : Array Value} (hts : ∀ w ∈ lw_all, w.before args s = true) (hR : rm_X2_isKept.frames + 1 ≤ R.frames ∧ 8 + (2 + 11) + rm_X2_isKept.locals ≤ R.locals) : CallW R s args RX0 RX2 46 yX2_isKept cX2_isKept 2 (some .int) (ws_ yX2_isKept cX2_isKept 2 (some .int)) rm_X2_isKept 0 0 1 :=
  cwV 1 hts (lw_V q304 q305 q306 q14 q307) rfl rfl rfl (by decide +kernel) hR
theorem cw_X0_47 {R : Room} {s : State} {args : Array Value} (hts : ∀ w ∈ lw_all, w.before args s = true) (hR : rm_X1_facet.frames + 1 ≤ R.frames ∧ 8 + (3 + 11) + rm_X1_facet.locals ≤ R.locals) : CallW R s args RX0 RX1 47 yX1_facet cX1_facet 3 (some .int) (ws_ yX1_facet cX1_facet 3 (some .int)) rm_X1_facet 0 0 2 :=
  cwV 2 hts (lw_V q105 q106 q107 q13 q108) rfl rfl rfl (by decide +kernel) hR
theorem cw_X0_50 {R : Room} {s : State} {args : Array Value} (hts : ∀ w ∈ lw_all, w.before args s = true) (hR : rm_X2_facet.frames + 1 ≤ R.frames ∧ 8 + (3 + 11) + rm_X2_facet.locals ≤ R.locals) : CallW R s args RX0 RX2 50 yX2_facet cX2_facet 3 (some .int) (ws_ yX2_facet cX2_facet 3 (some .int)) rm_X2_facet 0 0 2 :=
  cwV 2 hts (lw_V q308 q309 q310 q14 q311) rfl rfl rfl (by decide +kernel) hR
theorem cw_X0_51 {R : Room} {s : State} {args : Array Value} (hts : ∀ w ∈ lw_all, w.before args s = true) (hR : rm_X1_top.frames + 1 ≤ R.frames ∧ 8 + (8 + 11) + rm_X1_top.locals ≤ R.locals) : CallW R s args RX0 RX1 51 yX1_top cX1_top 8 (some .int) (ws_ yX1_top cX1_top 8 (some .int)) rm_X1_top 0 0 2 :=
  cwV 2 hts (lw_V q109 q110 q111 q13 q112) rfl rfl rfl (by decide +kernel) hR
theorem cw_X0_54 {R : Room} {s : State} {args : Array Value} (hts : ∀ w ∈ lw_all, w.before args s = true) (hR : rm_X2_top.frames + 1 ≤ R.frames ∧ 8 + (7 + 11) + rm_X2_top.locals ≤ R.locals) : CallW R s args RX0 RX2 54 yX2_top cX2_top 7 (some .int) (ws_ yX2_top cX2_top 7 (some .int)) rm_X2_top 0 0 2 :=
  cwV 2 hts (lw_V q316 q317 q318 q14 q319) rfl rfl rfl (by decide +kernel) hR
theorem cw_X0_55 {R : Room} {s : State} {args : Array Value} (hts : ∀ w ∈ lw_all, w.before args s = true) (hR : rm_X1_range.frames + 1 ≤ R.frames ∧ 8 + (7 + 11) + rm_X1_range.locals ≤ R.locals) : CallW R s args RX0 RX1 55 yX1_range cX1_range 7 (some .int) (ws_ yX1_range cX1_range 7 (some .int)) rm_X1_range 0 0 3 :=
  cwV 3 hts (lw_V q113 q114 q115 q13 q116) rfl rfl rfl (by decide +kernel) hR
theorem cw_X0_58 {R : Room} {s : State} {args : Array Value} (hts : ∀ w ∈ lw_all, w.before args s = true) (hR : rm_X2_range.frames + 1 ≤ R.frames ∧ 8 + (8 + 11) + rm_X2_range.locals ≤ R.locals) : CallW R s args RX0 RX2 58 yX2_range cX2_range 8 (some .int) (ws_ yX2_range cX2_range 8 (some .int)) rm_X2_range 0 0 3 :=
  cwV 3 hts (lw_V q320 q321 q322 q14 q323) rfl rfl rfl (by decide +kernel) hR
theorem cw_X0_59 {R : Room} {s : State} {args : Array Value} (hts : ∀ w ∈ lw_all, w.before args s = true) (hR : rm_X1_sum.frames + 1 ≤ R.frames ∧ 8 + (8 + 11) + rm_X1_sum.locals ≤ R.locals) : CallW R s args RX0 RX1 59 yX1_sum cX1_sum 8 (some .int) (ws_ yX1_sum cX1_sum 8 (some .int)) rm_X1_sum 0 0 3 :=
  cwV 3 hts (lw_V q117 q118 q119 q13 q120) rfl rfl rfl (by decide +kernel) hR
theorem cw_X0_62 {R : Room} {s : State} {args : Array Value} (hts : ∀ w ∈ lw_all, w.before args s = true) (hR : rm_X2_sum.frames + 1 ≤ R.frames ∧ 8 + (8 + 11) + rm_X2_sum.locals ≤ R.locals) : CallW R s args RX0 RX2 62 yX2_sum cX2_sum 8 (some .int) (ws_ yX2_sum cX2_sum 8 (some .int)) rm_X2_sum 0 0 3 :=
  cwV 3 hts (lw_V q324 q325 q326 q14 q327) rfl rfl rfl (by decide +kernel) hR
theorem cw_X0_68 {R : Room} {s : State} {args : Array Value} (hts : ∀ w ∈ lw_all, w.before args s = true) (hR : rm_X2_share.frames + 1 ≤ R.frames ∧ 8 + (8 + 11) + rm_X2_share.locals ≤ R.locals) : CallW R s args RX0 RX2 68 yX2_share cX2_share 8 (some .int) (ws_ yX2_share cX2_share 8 (some .int)) rm_X2_share 0 0 3 :=
  cwV 3 hts (lw_V q328 q329 q330 q14 q331) rfl rfl rfl (by decide +kernel) hR
theorem cw_X0_69 {R : Room} {s : State} {args : Array Value} (hts : ∀ w ∈ lw_all, w.before args s = true) (hR : rm_X2_thrown.frames + 1 ≤ R.frames ∧ 8 + (1 + 11) + rm_X2_thrown.locals ≤ R.locals) : CallW R s args RX0 RX2 69 yX2_thrown cX2_thrown 1 (some .int) (ws_ yX2_thrown cX2_thrown 1 (some .int)) rm_X2_thrown 0 0 0 :=
  cwV 0 hts (lw_V q248 q249 q250 q14 q251) rfl rfl rfl (by decide +kernel) hR
theorem cw_X0_72 {R : Room} {s : State} {args : Array Value} (hts : ∀ w ∈ lw_all, w.before args s = true) (hR : rm_X1_changed.frames + 1 ≤ R.frames ∧ 8 + (3 + 11) + rm_X1_changed.locals ≤ R.locals) : CallW R s args RX0 RX1 72 yX1_changed cX1_changed 3 (some .int) (ws_ yX1_changed cX1_changed 3 (some .int)) rm_X1_changed 0 0 0 :=
  cwV 0 hts (lw_V q121 q122 q123 q13 q124) rfl rfl rfl (by decide +kernel) hR
theorem cw_X0_75 {R : Room} {s : State} {args : Array Value} (hts : ∀ w ∈ lw_all, w.before args s = true) (hR : rm_X2_changed.frames + 1 ≤ R.frames ∧ 8 + (5 + 11) + rm_X2_changed.locals ≤ R.locals) : CallW R s args RX0 RX2 75 yX2_changed cX2_changed 5 (some .int) (ws_ yX2_changed cX2_changed 5 (some .int)) rm_X2_changed 0 0 0 :=
  cwV 0 hts (lw_V q332 q333 q334 q14 q335) rfl rfl rfl (by decide +kernel) hR
theorem cw_X0_76 {R : Room} {s : State} {args : Array Value} (hts : ∀ w ∈ lw_all, w.before args s = true) (hR : rm_X1_rows.frames + 1 ≤ R.frames ∧ 8 + (1 + 11) + rm_X1_rows.locals ≤ R.locals) : CallW R s args RX0 RX1 76 yX1_rows cX1_rows 1 (some .int) (ws_ yX1_rows cX1_rows 1 (some .int)) rm_X1_rows 0 0 0 :=
  cwV 0 hts (lw_V q125 q126 q127 q13 q128) rfl rfl rfl (by decide +kernel) hR
theorem cw_X0_79 {R : Room} {s : State} {args : Array Value} (hts : ∀ w ∈ lw_all, w.before args s = true) (hR : rm_X2_rows.frames + 1 ≤ R.frames ∧ 8 + (1 + 11) + rm_X2_rows.locals ≤ R.locals) : CallW R s args RX0 RX2 79 yX2_rows cX2_rows 1 (some .int) (ws_ yX2_rows cX2_rows 1 (some .int)) rm_X2_rows 0 0 0 :=
  cwV 0 hts (lw_V q336 q337 q338 q14 q339) rfl rfl rfl (by decide +kernel) hR
theorem cw_X2_30 {R : Room} {s : State} {args : Array Value} (hts : ∀ w ∈ lw_all, w.before args s = true) (hR : rm_X2_isThing.frames + 1 ≤ R.frames ∧ 8 + (1 + 11) + rm_X2_isThing.locals ≤ R.locals) : CallB R s args RX2 30 yX2_isThing cX2_isThing 1 (some .boolean) (ws_ yX2_isThing cX2_isThing 1 (some .boolean)) rm_X2_isThing 0 0 1 ∧ (Cond.static yX2_isThing).before args s = true :=
  va_cwS 1 hts (lw_S q256 q257 q14 q258) rfl rfl rfl (by decide +kernel) hR
theorem cw_X2_34 {R : Room} {s : State} {args : Array Value} (hts : ∀ w ∈ lw_all, w.before args s = true) (hR : rm_X2_isHead.frames + 1 ≤ R.frames ∧ 8 + (1 + 11) + rm_X2_isHead.locals ≤ R.locals) : CallB R s args RX2 34 yX2_isHead cX2_isHead 1 (some .boolean) (ws_ yX2_isHead cX2_isHead 1 (some .boolean)) rm_X2_isHead 0 0 1 ∧ (Cond.static yX2_isHead).before args s = true :=
  va_cwS 1 hts (lw_S q259 q260 q14 q261) rfl rfl rfl (by decide +kernel) hR
theorem cw_X2_37 {R : Room} {s : State} {args : Array Value} (hts : ∀ w ∈ lw_all, w.before args s = true) (hR : rm_X2_isValue.frames + 1 ≤ R.frames ∧ 8 + (1 + 11) + rm_X2_isValue.locals ≤ R.locals) : CallB R s args RX2 37 yX2_isValue cX2_isValue 1 (some .boolean) (ws_ yX2_isValue cX2_isValue 1 (some .boolean)) rm_X2_isValue 0 0 1 ∧ (Cond.static yX2_isValue).before args s = true :=
  va_cwS 1 hts (lw_S q262 q263 q14 q264) rfl rfl rfl (by decide +kernel) hR
theorem cw_X2_40 {R : Room} {s : State} {args : Array Value} (hts : ∀ w ∈ lw_all, w.before args s = true) (hR : rm_X2_at.frames + 1 ≤ R.frames ∧ 8 + (3 + 11) + rm_X2_at.locals ≤ R.locals) : CallB R s args RX2 40 yX2_at cX2_at 3 (some .int) (ws_ yX2_at cX2_at 3 (some .int)) rm_X2_at 0 0 3 ∧ (Cond.static yX2_at).before args s = true :=
  va_cwS 3 hts (lw_S q265 q266 q14 q267) rfl rfl rfl (by decide +kernel) hR
theorem cw_X2_47 {R : Room} {s : State} {args : Array Value} (hts : ∀ w ∈ lw_all, w.before args s = true) (hR : rm_X2_isUnder.frames + 1 ≤ R.frames ∧ 8 + (4 + 11) + rm_X2_isUnder.locals ≤ R.locals) : CallW R s args RX2 RX2 47 yX2_isUnder cX2_isUnder 4 (some .boolean) (ws_ yX2_isUnder cX2_isUnder 4 (some .boolean)) rm_X2_isUnder 0 0 2 :=
  cwV 2 hts (lw_V q276 q278 qs6 q14 q279) rfl rfl rfl (by decide +kernel) hR
theorem cw_X2_51 {R : Room} {s : State} {args : Array Value} (hts : ∀ w ∈ lw_all, w.before args s = true) (hR : rm_X2_owns.frames + 1 ≤ R.frames ∧ 8 + (6 + 11) + rm_X2_owns.locals ≤ R.locals) : CallW R s args RX2 RX2 51 yX2_owns cX2_owns 6 (some .boolean) (ws_ yX2_owns cX2_owns 6 (some .boolean)) rm_X2_owns 0 0 3 :=
  cwV 3 hts (lw_V q296 q298 qs10 q14 q299) rfl rfl rfl (by decide +kernel) hR
theorem cw_X2_55 {R : Room} {s : State} {args : Array Value} (hts : ∀ w ∈ lw_all, w.before args s = true) (hR : rm_X2_isMet.frames + 1 ≤ R.frames ∧ 8 + (6 + 11) + rm_X2_isMet.locals ≤ R.locals) : CallW R s args RX2 RX2 55 yX2_isMet cX2_isMet 6 (some .boolean) (ws_ yX2_isMet cX2_isMet 6 (some .boolean)) rm_X2_isMet 0 0 2 :=
  cwV 2 hts (lw_V q292 q294 qs9 q14 q295) rfl rfl rfl (by decide +kernel) hR
theorem cw_X2_58 {R : Room} {s : State} {args : Array Value} (hts : ∀ w ∈ lw_all, w.before args s = true) (hR : rm_X2_isKeptBut.frames + 1 ≤ R.frames ∧ 8 + (5 + 11) + rm_X2_isKeptBut.locals ≤ R.locals) : CallW R s args RX2 RX2 58 yX2_isKeptBut cX2_isKeptBut 5 (some .boolean) (ws_ yX2_isKeptBut cX2_isKeptBut 5 (some .boolean)) rm_X2_isKeptBut 0 0 2 :=
  cwV 2 hts (lw_V q288 q290 qs8 q14 q291) rfl rfl rfl (by decide +kernel) hR
theorem cw_X2_61 {R : Room} {s : State} {args : Array Value} (hts : ∀ w ∈ lw_all, w.before args s = true) (hR : rm_X2_all.frames + 1 ≤ R.frames ∧ 8 + (4 + 11) + rm_X2_all.locals ≤ R.locals) : CallW R s args RX2 RX2 61 yX2_all cX2_all 4 (some .int) (ws_ yX2_all cX2_all 4 (some .int)) rm_X2_all 0 0 1 :=
  cwV 1 hts (lw_V q284 q286 qs7 q14 q287) rfl rfl rfl (by decide +kernel) hR
theorem cw_X2_65 {R : Room} {s : State} {args : Array Value} (hts : ∀ w ∈ lw_all, w.before args s = true) (hR : rm_X2_count.frames + 1 ≤ R.frames ∧ 8 + (5 + 11) + rm_X2_count.locals ≤ R.locals) : CallW R s args RX2 RX2 65 yX2_count cX2_count 5 (some .int) (ws_ yX2_count cX2_count 5 (some .int)) rm_X2_count 0 0 2 :=
  cwV 2 hts (lw_V q312 q314 qs11 q14 q315) rfl rfl rfl (by decide +kernel) hR
end
section
set_option maxRecDepth 100000
/-! ===== numbers in a range; steps of the private methods' loops ===== -/
def inR (v : Int32) (n : Nat) : Prop := ∃ j, j < n ∧ v = nI j
theorem inR_n1 {v : Int32} {n : Nat} (hn : n < 2 ^ 31) (h : v < 0) : ¬ inR v n := by
  rintro ⟨j, hj, rfl⟩
  exact nI_pos (by omega) h
theorem inR_n2 {v : Int32} {n : Nat} (hn : n < 2 ^ 31) (h : nI n ≤ v) : ¬ inR v n := by
  rintro ⟨j, hj, rfl⟩
  exact absurd ((nI_leI hn (by omega)).mp h) (by omega)
theorem inR_y {v : Int32} {n : Nat} (hn : n < 2 ^ 31) (h : ¬ v < 0) (h2 : ¬ nI n ≤ v) : inR v n := by
  obtain ⟨j, hj, rfl⟩ := nI_of h
  exact ⟨j, Nat.not_le.mp (fun q => h2 ((nI_leI hn hj).mpr q)), rfl⟩
theorem inR_m1 {n : Nat} (hn : n < 2 ^ 31) : ¬ inR (-1) n := by
  rintro ⟨j, hj, h⟩
  exact m1_nI (by omega) h
theorem inR_nI {j n : Nat} (h : j < n) : inR (nI j) n := ⟨j, h, rfl⟩
def hasI (has up : Nat → Int32) (t j : Nat) (x : Int32) : Prop := ∀ v, v < 32 → (bt x v = true ↔ ∃ k, k < j ∧ hsP has t 0 k ∧ und up k v)
theorem hasI_0 (has up : Nat → Int32) (t : Nat) : hasI has up t 0 (nI 0) := by
  intro v hv
  constructor
  · intro h
    rw [show bt (nI 0) v = false from b_0 v] at h
    cases h
  · rintro ⟨k, hk, -⟩
    omega
theorem hasI_n {has up : Nat → Int32} {t j : Nat} {x : Int32} (h : hasI has up t j x) (c : ¬ hsP has t 0 j) : hasI has up t (j + 1) x := by
  intro v hv
  rw [h v hv]
  constructor
  · rintro ⟨k, hk, q⟩
    exact ⟨k, by omega, q⟩
  · rintro ⟨k, hk, q1, q2⟩
    by_cases e : k = j
    · subst e
      exact absurd q1 c
    · exact ⟨k, by omega, q1, q2⟩
theorem hasI_y {has up clo : Nat → Int32} {t j : Nat} {x : Int32} (h : hasI has up t j x) (hC : rClo clo up) (hj : j < 32) (c : hsP has t 0 j) : hasI has up t (j + 1) (x ||| clo j) := by
  intro v hv
  rw [b_or, Bool.or_eq_true, h v hv, hC j hj v hv]
  constructor
  · rintro (⟨k, hk, q⟩ | q)
    · exact ⟨k, by omega, q⟩
    · exact ⟨j, by omega, c, q⟩
  · rintro ⟨k, hk, q1, q2⟩
    by_cases e : k = j
    · subst e
      exact Or.inr q2
    · exact Or.inl ⟨k, by omega, q1, q2⟩
theorem mt_no {has up ch : Nat → Int32} {t h : Nat} (q : ¬ ∃ v, v < 32 ∧ chP ch h v) : nI 0 = nI (bN (¬ mt has up ch t h)) := by rw [bN_f (fun z => z (Or.inr q))]
theorem mt_y {has up ch : Nat → Int32} {t h : Nat} (q : ∃ v, v < 32 ∧ chP ch h v ∧ ow has up t h v) : nI 0 = nI (bN (¬ mt has up ch t h)) := by rw [bN_f (fun z => z (Or.inl q))]
theorem mt_f {has up ch : Nat → Int32} {t h : Nat} (q1 : ¬ ¬ ∃ v, v < 32 ∧ chP ch h v) (q2 : ¬ ∃ v, v < 32 ∧ chP ch h v ∧ ow has up t h v) : nI 1 = nI (bN (¬ mt has up ch t h)) := by
  rw [bN_t (fun z => by rcases z with z | z; exact q2 z; exact q1 z)]
theorem sub_0 {f b : Nat} (hf : f ≤ 8) (hb : b ≤ 1) : nI f - nI b = 0 ↔ f = b := by
  have h := pk_sub_toInt (a := f) (b := b) (by omega) (by omega)
  constructor
  · intro q
    rw [q] at h
    have h0 : (0 : Int32).toInt = 0 := by decide
    omega
  · intro q
    subst q
    rw [pk_sub (Nat.le_refl f), Nat.sub_self]
    rfl
theorem kb_sub {has up ch fai : Nat → Int32} {t h : Nat} (hh : h < 8) (hF : fai t = nI (fN has up ch t)) : fai t - nI (bN (¬ mt has up ch t h)) = 0 ↔ kb has up ch t h := by
  rw [hF, sub_0 (fN_le _ _ _ _) (bN_le _), kb_fN hh]
/-- the counts of weigh, up to the place (g, j) -/
def couI (has up ch cou : Nat → Int32) (t : Nat) (by_ : Int32) (g j : Nat) (y : Nat → Int32) : Prop := ∀ h, h < 8 → ∀ v, v < 32 → y (32 * h + v) = cou (32 * h + v) + nI (bN ((ow has up t h v ∧ kb has up ch t h) ∧ (h < g ∨ (h = g ∧ v < j)))) * by_
theorem n0_mul (x : Int32) : nI 0 * x = 0 := Int32.zero_mul
theorem i_add0 (x : Int32) : x + 0 = x := Int32.add_zero x
theorem couI_0 (has up ch cou : Nat → Int32) (t : Nat) (by_ : Int32) : couI has up ch cou t by_ 0 0 cou := by
  intro h hh v hv
  rw [bN_f (fun q => by have := q.2; omega), n0_mul, i_add0]
theorem couI_c {has up ch cou : Nat → Int32} {t : Nat} {by_ : Int32} {g j g' j' : Nat} {y : Nat → Int32} (H : couI has up ch cou t by_ g j y) (hc : ∀ h, h < 8 → ∀ v, v < 32 → ((h < g ∨ (h = g ∧ v < j)) ↔ (h < g' ∨ (h = g' ∧ v < j')))) : couI has up ch cou t by_ g' j' y := by
  intro h hh v hv
  rw [H h hh v hv, bN_c (and_congr_right (fun _ => hc h hh v hv))]
theorem couI_s {has up ch cou : Nat → Int32} {t : Nat} {by_ : Int32} {g j : Nat} {y : Nat → Int32} (hg : g < 8) (hj : j < 32) {x : Int32} (hx : bt x j = true ↔ (ow has up t g j ∧ kb has up ch t g)) (H : couI has up ch cou t by_ g j y) :
    couI has up ch cou t by_ g (j + 1) (upd y (32 * g + j) (y (32 * g + j) + nI (bN (bt x j = true)) * by_)) := by
  intro h hh v hv
  by_cases e : h = g ∧ v = j
  · obtain ⟨rfl, rfl⟩ := e
    rw [pk_us, H h hh v hv, bN_f (p := ((ow has up t h v ∧ kb has up ch t h) ∧ (h < h ∨ (h = h ∧ v < v)))) (fun q => by have := q.2; omega), n0_mul, i_add0, bN_c hx]
    rw [bN_c (p := ((ow has up t h v ∧ kb has up ch t h) ∧ (h < h ∨ (h = h ∧ v < v + 1)))) (q := (ow has up t h v ∧ kb has up ch t h)) ⟨fun q => q.1, fun q => ⟨q, by omega⟩⟩]
  · rw [pk_un (by omega), H h hh v hv]
    rw [bN_c (p := ((ow has up t h v ∧ kb has up ch t h) ∧ (h < g ∨ (h = g ∧ v < j)))) (q := ((ow has up t h v ∧ kb has up ch t h) ∧ (h < g ∨ (h = g ∧ v < j + 1)))) (and_congr_right (fun _ => ⟨fun q => by omega, fun q => by omega⟩))]
theorem couI_e {has up ch cou : Nat → Int32} {t : Nat} {by_ : Int32} {y : Nat → Int32} (H : couI has up ch cou t by_ 8 0 y) : ∀ h, h < 8 → ∀ v, v < 32 → y (32 * h + v) = cou (32 * h + v) + nI (bN (ow has up t h v ∧ kb has up ch t h)) * by_ := by
  intro h hh v hv
  rw [H h hh v hv, bN_c (p := ((ow has up t h v ∧ kb has up ch t h) ∧ (h < 8 ∨ (h = 8 ∧ v < 0)))) (q := (ow has up t h v ∧ kb has up ch t h)) ⟨fun q => q.1, fun q => ⟨q, by omega⟩⟩]
theorem cou_none {has up ch cou : Nat → Int32} {t : Nat} {by_ : Int32} (hf : 1 < fN has up ch t) : ∀ h, h < 8 → ∀ v, v < 32 → cou (32 * h + v) = cou (32 * h + v) + nI (bN (ow has up t h v ∧ kb has up ch t h)) * by_ := by
  intro h hh v hv
  rw [bN_f (fun q => by have h1 := (kb_fN hh).mp q.2; have h2 := bN_le (¬ mt has up ch t h); omega), n0_mul, i_add0]
theorem mul_step (a b : Nat) (x c : Int32) : x + nI a * c + nI b * c = x + nI (a + b) * c := by
  rw [← nI_add, Int32.add_mul, Int32.add_assoc]
section BX
variable {p : Program} {l : Launch} {e : Env} {R : Room} {s : State} {m : MethodId} {args : Array Value} {below : List Frame} {meth : Method} {c : Code} {H : Heap} {locs : List Loc} {cells slots : Nat} {Q : State → Prop}
variable {cc : ByteArray} {pc : Nat} {ls : Array Slot} {rest : List Value}
theorem bw_ifle {x : Nat} (h1 : x < 2 ^ 31) (hx : p.tables.exec = Jvm.exec) (hb : c.code = cc) {off : Int} {tgt : Nat} (hdg : decode cc pc = .ok (.ifCond .le off, 3)) (ht : (pc : Int) + off = (tgt : Int))
    (kt : x = 0 → W p l e R s m args below meth c H locs cells slots Q (F0 m tgt ls rest)) (kf : 0 < x → W p l e R s m args below meth c H locs cells slots Q (F0 m (pc + 3) ls rest)) : W p l e R s m args below meth c H locs cells slots Q (F0 m pc ls (.int (nI x) :: rest)) :=
  lv_if_le hx hb hdg ht (fun q => kt (Nat.le_zero.mp ((nI_leI h1 (b := 0) (by decide)).mp q))) (fun q => kf (Nat.pos_of_ne_zero (fun z => q (by rw [z]; decide))))
theorem bw_ifgt {x : Nat} (h1 : x < 2 ^ 31) (hx : p.tables.exec = Jvm.exec) (hb : c.code = cc) {off : Int} {tgt : Nat} (hdg : decode cc pc = .ok (.ifCond .gt off, 3)) (ht : (pc : Int) + off = (tgt : Int))
    (kt : 0 < x → W p l e R s m args below meth c H locs cells slots Q (F0 m tgt ls rest)) (kf : x = 0 → W p l e R s m args below meth c H locs cells slots Q (F0 m (pc + 3) ls rest)) : W p l e R s m args below meth c H locs cells slots Q (F0 m pc ls (.int (nI x) :: rest)) :=
  lv_if_gt hx hb hdg ht (fun q => kt (Nat.pos_of_ne_zero (fun z => by subst z; exact absurd q (by decide)))) (fun q => kf (Classical.byContradiction fun z => q (nI_lt (a := 0) (Nat.pos_of_ne_zero z) h1)))
theorem bw_ifn {x : Nat} (h1 : x < 2 ^ 31) (hx : p.tables.exec = Jvm.exec) (hb : c.code = cc) {off : Int} {tgt : Nat} (hdg : decode cc pc = .ok (.ifCond .ne off, 3)) (ht : (pc : Int) + off = (tgt : Int))
    (kt : 0 < x → W p l e R s m args below meth c H locs cells slots Q (F0 m tgt ls rest)) (kf : x = 0 → W p l e R s m args below meth c H locs cells slots Q (F0 m (pc + 3) ls rest)) : W p l e R s m args below meth c H locs cells slots Q (F0 m pc ls (.int (nI x) :: rest)) :=
  lv_if_ne hx hb hdg ht (fun q => kt (Nat.pos_of_ne_zero (fun z => by subst z; exact q (by decide)))) (fun q => kf (Classical.byContradiction fun z => nI_ne0 (Nat.pos_of_ne_zero z) h1 q))
theorem bw_ife {x : Nat} (h1 : x < 2 ^ 31) (hx : p.tables.exec = Jvm.exec) (hb : c.code = cc) {off : Int} {tgt : Nat} (hdg : decode cc pc = .ok (.ifCond .eq off, 3)) (ht : (pc : Int) + off = (tgt : Int))
    (kt : x = 0 → W p l e R s m args below meth c H locs cells slots Q (F0 m tgt ls rest)) (kf : 0 < x → W p l e R s m args below meth c H locs cells slots Q (F0 m (pc + 3) ls rest)) : W p l e R s m args below meth c H locs cells slots Q (F0 m pc ls (.int (nI x) :: rest)) :=
  lv_if_eq hx hb hdg ht (fun q => kt (Classical.byContradiction fun z => nI_ne0 (Nat.pos_of_ne_zero z) h1 q)) (fun q => kf (Nat.pos_of_ne_zero (fun z => by subst z; exact q (by decide))))
end BX
end
section
set_option maxRecDepth 100000
set_option maxHeartbeats 4000000 in
set_option maxRecDepth 100000 in
/-- isIn: in the range or not -/
theorem met_X1_isIn (l : Launch) (sz : Nat) (v : Int32) (n : Nat) (hn : n < 2 ^ 31) : RS l yX1_isIn cX1_isIn 2 (some .boolean) rm_X1_isIn [.int v, .int (nI n)] sz (fun r => r = nI (bN (inR v n))) := by
  refine Met.ofW (cc := cX1_isIn) (maxL := 2) (ret := (some .boolean)) (by decide) rfl ?_
  intro p e s m args below meth c s₁ B hml hv
  obtain ⟨rfl, hsz⟩ := hv
  have hsz : s.heap.size = sz := hsz
  have hx := B.exec
  have hb := B.bytes
  have hr := B.returns
  have hts : ∀ w ∈ lw_all, w.before _ s = true := fun w h => atoms_spec (ws := ws_ yX1_isIn cX1_isIn 2 (some .boolean)) B.pre w (List.mem_cons_of_mem _ h)
  have hown : s.vm.findClass RX1 = some m.cls := findClass_of_methodNamed B.named
  have hlocks := B.notSynchronized
  subst hsz
  have hS : va_S (fun q => s.heap.size ≤ q) s.heap s.heap [] := va_S.rf
  have hA : ∀ q : Nat, s.heap.size ≤ q → (fun q => s.heap.size ≤ q) q := fun q h => h
  have hP : va_P ((fun _ => 0), (fun _ _ => 0)) vwCl [] s.heap := fun k q h => by cases h
  have hl := lv_entry ([.int v, .int (nI n)]) (n := 2) (Nat.le_of_ble_eq_true rfl)
  rw [lg_entry_eq]
  generalize (lg_sl ([.int v, .int (nI n)]) ++ List.replicate (2 - (lg_sl ([.int v, .int (nI n)])).length) Slot.unset).toArray = ls at hl ⊢
  have hl : lv_has ls 2 [(0, .int v), (1, .int (nI n))] := hl
  refine lv_iload_n hx hb dX1_isIn_0 rfl (lv_at hl 0 rfl) ?_
  refine lv_if_lt hx hb (tgt := 13) dX1_isIn_1 (by decide) (fun c1 => ?_) (fun c1 => ?_)
  · refine lv_iconst (v := nI 0) hx hb dX1_isIn_13 (by decide) ?_
    exact ro_zret (rfl) hx hb hr hlocks hS dX1_isIn_14 (by rw [bN_f (inR_n1 hn c1)])
  · refine lv_iload_n hx hb dX1_isIn_4 rfl (lv_at hl 0 rfl) ?_
    refine lv_iload_n hx hb dX1_isIn_5 rfl (lv_at hl 1 rfl) ?_
    refine lv_icmp_ge hx hb (tgt := 13) dX1_isIn_6 (by decide) (fun c2 => ?_) (fun c2 => ?_)
    · refine lv_iconst (v := nI 0) hx hb dX1_isIn_13 (by decide) ?_
      exact ro_zret (rfl) hx hb hr hlocks hS dX1_isIn_14 (by rw [bN_f (inR_n2 hn c2)])
    · refine lv_iconst (v := nI 1) hx hb dX1_isIn_9 (by decide) ?_
      refine lv_goto (tgt := 14) hx hb dX1_isIn_10 (by decide) ?_
      exact ro_zret (rfl) hx hb hr hlocks hS dX1_isIn_14 (by rw [bN_t (inR_y hn c1 c2)])

set_option maxHeartbeats 4000000 in
set_option maxRecDepth 100000 in
theorem met_X1_isRow (l : Launch) (sz : Nat) (a b v : Int32) : RS l yX1_isRow cX1_isRow 3 (some .boolean) rm_X1_isRow [.int a, .int b, .int v] sz (fun r => r = nI (bN (inR a 40 ∧ inR b 8 ∧ inR v 32))) := by
  refine Met.ofW (cc := cX1_isRow) (maxL := 3) (ret := (some .boolean)) (by decide) rfl ?_
  intro p e s m args below meth c s₁ B hml hv
  obtain ⟨rfl, hsz⟩ := hv
  have hsz : s.heap.size = sz := hsz
  have hx := B.exec
  have hb := B.bytes
  have hr := B.returns
  have hts : ∀ w ∈ lw_all, w.before _ s = true := fun w h => atoms_spec (ws := ws_ yX1_isRow cX1_isRow 3 (some .boolean)) B.pre w (List.mem_cons_of_mem _ h)
  have hown : s.vm.findClass RX1 = some m.cls := findClass_of_methodNamed B.named
  have hlocks := B.notSynchronized
  subst hsz
  have hS : va_S (fun q => s.heap.size ≤ q) s.heap s.heap [] := va_S.rf
  have hA : ∀ q : Nat, s.heap.size ≤ q → (fun q => s.heap.size ≤ q) q := fun q h => h
  have hP : va_P ((fun _ => 0), (fun _ _ => 0)) vwCl [] s.heap := fun k q h => by cases h
  have hl := lv_entry ([.int a, .int b, .int v]) (n := 3) (Nat.le_of_ble_eq_true rfl)
  rw [lg_entry_eq]
  generalize (lg_sl ([.int a, .int b, .int v]) ++ List.replicate (3 - (lg_sl ([.int a, .int b, .int v])).length) Slot.unset).toArray = ls at hl ⊢
  have hl : lv_has ls 3 [(0, .int a), (1, .int b), (2, .int v)] := hl
  refine lv_iload_n hx hb dX1_isRow_0 rfl (lv_at hl 0 rfl) ?_
  refine lv_bipush (v := nI 40) hx hb dX1_isRow_1 (by decide) ?_
  refine bw_rs (rest := []) ⟨hx, hb, hml, hown, hts⟩ (met_X1_isIn l _ a 40 (by decide)) (cw_X1_31 hts ⟨Nat.le_of_ble_eq_true rfl, Nat.le_of_ble_eq_true rfl⟩) hP hS hA rfl rfl hl.1 (Nat.le_of_ble_eq_true rfl) dX1_isRow_3 ⟨Nat.zero_le _, Nat.zero_le _⟩ (fun r1 H locs hv2 hP hS => ?_)
  subst hv2
  refine bw_ifeq hx hb (tgt := 31) dX1_isRow_6 (by decide) (fun c3 => ?_) (fun c3 => ?_)
  · refine lv_iconst (v := nI 0) hx hb dX1_isRow_31 (by decide) ?_
    exact ro_zret (rfl) hx hb hr hlocks hS dX1_isRow_32 (by rw [bN_f (fun q => c3 q.1)])
  · refine lv_iload_n hx hb dX1_isRow_9 rfl (lv_at hl 1 rfl) ?_
    refine lv_bipush (v := nI 8) hx hb dX1_isRow_10 (by decide) ?_
    refine bw_rs (rest := []) ⟨hx, hb, hml, hown, hts⟩ (met_X1_isIn l _ b 8 (by decide)) (cw_X1_31 hts ⟨Nat.le_of_ble_eq_true rfl, Nat.le_of_ble_eq_true rfl⟩) hP hS hA rfl rfl hl.1 (Nat.le_of_ble_eq_true rfl) dX1_isRow_12 ⟨Nat.zero_le _, Nat.zero_le _⟩ (fun r4 H locs hv5 hP hS => ?_)
    subst hv5
    refine bw_ifeq hx hb (tgt := 31) dX1_isRow_15 (by decide) (fun c6 => ?_) (fun c6 => ?_)
    · refine lv_iconst (v := nI 0) hx hb dX1_isRow_31 (by decide) ?_
      exact ro_zret (rfl) hx hb hr hlocks hS dX1_isRow_32 (by rw [bN_f (fun q => c6 q.2.1)])
    · refine lv_iload_n hx hb dX1_isRow_18 rfl (lv_at hl 2 rfl) ?_
      refine lv_bipush (v := nI 32) hx hb dX1_isRow_19 (by decide) ?_
      refine bw_rs (rest := []) ⟨hx, hb, hml, hown, hts⟩ (met_X1_isIn l _ v 32 (by decide)) (cw_X1_31 hts ⟨Nat.le_of_ble_eq_true rfl, Nat.le_of_ble_eq_true rfl⟩) hP hS hA rfl rfl hl.1 (Nat.le_of_ble_eq_true rfl) dX1_isRow_21 ⟨Nat.zero_le _, Nat.zero_le _⟩ (fun r7 H locs hv8 hP hS => ?_)
      subst hv8
      refine bw_ifeq hx hb (tgt := 31) dX1_isRow_24 (by decide) (fun c9 => ?_) (fun c9 => ?_)
      · refine lv_iconst (v := nI 0) hx hb dX1_isRow_31 (by decide) ?_
        exact ro_zret (rfl) hx hb hr hlocks hS dX1_isRow_32 (by rw [bN_f (fun q => c9 q.2.2)])
      · refine lv_iconst (v := nI 1) hx hb dX1_isRow_27 (by decide) ?_
        refine lv_goto (tgt := 32) hx hb dX1_isRow_28 (by decide) ?_
        exact ro_zret (rfl) hx hb hr hlocks hS dX1_isRow_32 (by rw [bN_t ⟨c3, c6, c9⟩])

set_option maxHeartbeats 4000000 in
set_option maxRecDepth 100000 in
theorem met_X1_has (l : Launch) (D : va_G) (dA dZ : ClassId) (ad : Nat → Nat) (sz : Nat) {own : Nat → Int32} {rows : Int32} {upp clo cho fai cou see : Nat → Int32} {has up : Nat → Int32} (hO : rOwn own has) (hC : rClo clo up) (t h : Nat) (ht : t < 40) (hh : h < 8) : RO l yX1_has cX1_has 6 (some .int) rm_X1_has [.ref (ad 0), .int (nI t), .int (nI h)] D dA dZ (fcW dA ad own rows upp clo cho fai cou see) sz (fun r => ∀ v, v < 32 → (bt r v = true ↔ ow has up t h v)) := by
  refine Met.ofW (cc := cX1_has) (maxL := 6) (ret := (some .int)) (by decide) rfl ?_
  intro p e s m args below meth c s₁ B hml hv
  obtain ⟨rfl, hsz, hP, hK, hDT⟩ := hv
  have hx := B.exec
  have hb := B.bytes
  have hr := B.returns
  have hts : ∀ w ∈ lw_all, w.before _ s = true := fun w h => atoms_spec (ws := ws_ yX1_has cX1_has 6 (some .int)) B.pre w (List.mem_cons_of_mem _ h)
  have hown : s.vm.findClass RX1 = some m.cls := findClass_of_methodNamed B.named
  have hlocks := B.notSynchronized
  subst hsz
  have hS : va_S (fun q => s.heap.size ≤ q) s.heap s.heap [] := va_S.rf
  have hA : ∀ q : Nat, s.heap.size ≤ q → (fun q => s.heap.size ≤ q) q := fun q h => h
  have hl := lv_entry ([.ref (ad 0), .int (nI t), .int (nI h)]) (n := 6) (Nat.le_of_ble_eq_true rfl)
  rw [lg_entry_eq]
  generalize (lg_sl ([.ref (ad 0), .int (nI t), .int (nI h)]) ++ List.replicate (6 - (lg_sl ([.ref (ad 0), .int (nI t), .int (nI h)])).length) Slot.unset).toArray = ls at hl ⊢
  have hl : lv_has ls 6 [(0, .ref (ad 0)), (1, .int (nI t)), (2, .int (nI h))] := hl
  refine lv_aload_n hx hb dX1_has_0 rfl (lv_at hl 0 rfl) ?_
  refine fc_own hx hb hts hown hK hP dX1_has_1 ?_
  refine lv_bipush (v := nI 8) hx hb dX1_has_4 (by decide) ?_
  refine lv_iload_n hx hb dX1_has_6 rfl (lv_at hl 1 rfl) ?_
  refine bw_mul hx hb dX1_has_7 ?_
  refine lv_iload_n hx hb dX1_has_8 rfl (lv_at hl 2 rfl) ?_
  refine bw_add hx hb dX1_has_9 ?_
  refine bw_iald hx hb hK hP 1 rfl (((8 * t) + h)) (by omega) (by decide) dX1_has_10 ?_
  refine lv_istore_n (lv' := [(3, .int (own (((8 * t) + h)))), (0, .ref (ad 0)), (1, .int (nI t)), (2, .int (nI h))]) hx hb dX1_has_11 rfl hl (by decide) rfl (fun ls hl => ?_)
  refine lv_iload_n hx hb dX1_has_12 rfl (lv_at hl 3 rfl) ?_
  refine bw_ifle (by omega) hx hb (tgt := 18) dX1_has_13 (by decide) (fun c1 => ?_) (fun c1 => ?_)
  · subst c1
    refine lv_iconst (v := nI 0) hx hb dX1_has_18 (by decide) ?_
    refine lv_istore (lv' := [(4, .int (nI 0)), (3, .int (own (((8 * t) + 0)))), (0, .ref (ad 0)), (1, .int (nI t)), (2, .int (nI 0))]) hx hb dX1_has_19 hl (by decide) rfl (fun ls hl => ?_)
    refine lv_iconst (v := nI 0) hx hb dX1_has_21 (by decide) ?_
    refine lv_istore (lv' := [(5, .int (nI 0)), (4, .int (nI 0)), (3, .int (own (((8 * t) + 0)))), (0, .ref (ad 0)), (1, .int (nI t)), (2, .int (nI 0))]) hx hb dX1_has_22 hl (by decide) rfl (fun ls hl => ?_)
    refine w_loop (σ := Int32) 32 (fun j x H locs ls => lv_has ls 6 [(0, .ref (ad 0)), (1, .int (nI t)), (3, .int (own (8 * t + 0))), (4, .int x), (5, .int (nI j))] ∧ va_P D vwCl (fcW dA ad own rows upp clo cho fai cou see) H ∧ va_S (fun q => s.heap.size ≤ q) s.heap H locs ∧ (hasI has up t j x)) ?_ ?_ 0 (nI 0) _ _ _ (by omega) ⟨lv_sub hl [3, 4, 2, 1, 0] rfl, hP, hS, hasI_0 has up t⟩
    · intro j x H locs ls hj hI hk2
      obtain ⟨hl, hP, hS, hI⟩ := hI
      refine lv_iload hx hb dX1_has_24 (lv_at hl 4 rfl) ?_
      refine lv_bipush (v := nI 32) hx hb dX1_has_26 (by decide) ?_
      refine bw_ge (by omega) (by omega) hx hb (tgt := 59) dX1_has_28 (by decide) (fun c3 => ?_) (fun c3 => ?_)
      · exact absurd c3 (by omega)
      · refine lv_iload_n hx hb dX1_has_31 rfl (lv_at hl 2 rfl) ?_
        refine lv_iload hx hb dX1_has_32 (lv_at hl 4 rfl) ?_
        refine lv_ishr hx hb dX1_has_34 ?_
        refine lv_iconst (v := nI 1) hx hb dX1_has_35 (by decide) ?_
        refine lv_iand hx hb dX1_has_36 ?_
        refine bw_top (y := nI (bN (bt (own (8 * t + 0)) j = true))) (b_test _ hj) ?_
        refine lv_iconst (v := nI 1) hx hb dX1_has_37 (by decide) ?_
        refine bw_ne1 hx hb (tgt := 53) dX1_has_38 (by decide) (fun c4 => ?_) (fun c4 => ?_)
        · refine lv_iinc (v := nI (j + 1)) (lv' := [(5, .int (nI (j + 1))), (0, .ref (ad 0)), (1, .int (nI t)), (3, .int (own (8 * t + 0))), (4, .int x)]) hx hb dX1_has_53 hl (k := 4) rfl (inc1 _) (by decide) rfl (fun ls hl => ?_)
          refine lv_goto (tgt := 24) hx hb dX1_has_56 (by decide) ?_
          exact hk2 x _ _ _ ⟨lv_sub hl [1, 2, 3, 4, 0] rfl, hP, hS, hasI_n hI (fun q => c4 ((hO t ht 0 (by omega) j hj).mpr q))⟩
        · refine lv_iload hx hb dX1_has_41 (lv_at hl 3 rfl) ?_
          refine lv_aload_n hx hb dX1_has_43 rfl (lv_at hl 0 rfl) ?_
          refine fc_closed hx hb hts hown hK hP dX1_has_44 ?_
          refine lv_iload hx hb dX1_has_47 (lv_at hl 4 rfl) ?_
          refine bw_iald hx hb hK hP 3 rfl j (by omega) (by decide) dX1_has_49 ?_
          refine lv_ior hx hb dX1_has_50 ?_
          refine lv_istore (lv' := [(4, .int (x ||| (clo j))), (0, .ref (ad 0)), (1, .int (nI t)), (3, .int (own (8 * t + 0))), (5, .int (nI j))]) hx hb dX1_has_51 hl (by decide) rfl (fun ls hl => ?_)
          refine lv_iinc (v := nI (j + 1)) (lv' := [(5, .int (nI (j + 1))), (4, .int (x ||| (clo j))), (0, .ref (ad 0)), (1, .int (nI t)), (3, .int (own (8 * t + 0)))]) hx hb dX1_has_53 hl (k := 4) rfl (inc1 _) (by decide) rfl (fun ls hl => ?_)
          refine lv_goto (tgt := 24) hx hb dX1_has_56 (by decide) ?_
          exact hk2 (x ||| clo j) _ _ _ ⟨lv_sub hl [2, 3, 4, 1, 0] rfl, hP, hS, hasI_y hI hC hj ((hO t ht 0 (by omega) j hj).mp c4)⟩
    · intro x H locs ls hI
      obtain ⟨hl, hP, hS, hI⟩ := hI
      refine lv_iload hx hb dX1_has_24 (lv_at hl 4 rfl) ?_
      refine lv_bipush (v := nI 32) hx hb dX1_has_26 (by decide) ?_
      refine bw_ge (by omega) (by omega) hx hb (tgt := 59) dX1_has_28 (by decide) (fun c5 => ?_) (fun c5 => ?_)
      · refine lv_iload hx hb dX1_has_59 (lv_at hl 3 rfl) ?_
        exact ro_iret hx hb hr hlocks hS dX1_has_61 (fun v hv => (hI v hv).trans ow_0.symm)
      · exact absurd c5 (by omega)
  · refine lv_iload_n hx hb dX1_has_16 rfl (lv_at hl 0 rfl) ?_
    exact ro_iret hx hb hr hlocks hS dX1_has_17 (fun v hv => (hO t ht h hh v hv).trans (ow_s c1).symm)

set_option maxHeartbeats 4000000 in
set_option maxRecDepth 100000 in
theorem met_X1_failsAt (l : Launch) (D : va_G) (dA dZ : ClassId) (ad : Nat → Nat) (sz : Nat) {own : Nat → Int32} {rows : Int32} {upp clo cho fai cou see : Nat → Int32} {has up ch : Nat → Int32} (hO : rOwn own has) (hC : rClo clo up) (hH : rCho cho ch) (t h : Nat) (ht : t < 40) (hh : h < 8) : RO l yX1_failsAt cX1_failsAt 3 (some .boolean) rm_X1_failsAt [.ref (ad 0), .int (nI t), .int (nI h)] D dA dZ (fcW dA ad own rows upp clo cho fai cou see) sz (fun r => r = nI (bN (¬ mt has up ch t h))) := by
  refine Met.ofW (cc := cX1_failsAt) (maxL := 3) (ret := (some .boolean)) (by decide) rfl ?_
  intro p e s m args below meth c s₁ B hml hv
  obtain ⟨rfl, hsz, hP, hK, hDT⟩ := hv
  have hx := B.exec
  have hb := B.bytes
  have hr := B.returns
  have hts : ∀ w ∈ lw_all, w.before _ s = true := fun w h => atoms_spec (ws := ws_ yX1_failsAt cX1_failsAt 3 (some .boolean)) B.pre w (List.mem_cons_of_mem _ h)
  have hown : s.vm.findClass RX1 = some m.cls := findClass_of_methodNamed B.named
  have hlocks := B.notSynchronized
  subst hsz
  have hS : va_S (fun q => s.heap.size ≤ q) s.heap s.heap [] := va_S.rf
  have hA : ∀ q : Nat, s.heap.size ≤ q → (fun q => s.heap.size ≤ q) q := fun q h => h
  have hl := lv_entry ([.ref (ad 0), .int (nI t), .int (nI h)]) (n := 3) (Nat.le_of_ble_eq_true rfl)
  rw [lg_entry_eq]
  generalize (lg_sl ([.ref (ad 0), .int (nI t), .int (nI h)]) ++ List.replicate (3 - (lg_sl ([.ref (ad 0), .int (nI t), .int (nI h)])).length) Slot.unset).toArray = ls at hl ⊢
  have hl : lv_has ls 3 [(0, .ref (ad 0)), (1, .int (nI t)), (2, .int (nI h))] := hl
  refine lv_aload_n hx hb dX1_failsAt_0 rfl (lv_at hl 0 rfl) ?_
  refine fc_chosen hx hb hts hown hK hP dX1_failsAt_1 ?_
  refine lv_iload_n hx hb dX1_failsAt_4 rfl (lv_at hl 2 rfl) ?_
  refine bw_iald hx hb hK hP 4 rfl h (by omega) (by decide) dX1_failsAt_5 ?_
  refine lv_if_eq hx hb (tgt := 29) dX1_failsAt_6 (by decide) (fun c1 => ?_) (fun c1 => ?_)
  · refine lv_iconst (v := nI 0) hx hb dX1_failsAt_29 (by decide) ?_
    exact ro_zret (rfl) hx hb hr hlocks hS dX1_failsAt_30 (mt_no ((rCho_0 hH hh).mp c1))
  · refine lv_aload_n hx hb dX1_failsAt_9 rfl (lv_at hl 0 rfl) ?_
    refine lv_iload_n hx hb dX1_failsAt_10 rfl (lv_at hl 1 rfl) ?_
    refine lv_iload_n hx hb dX1_failsAt_11 rfl (lv_at hl 2 rfl) ?_
    refine bw_ro (rest := []) ⟨hx, hb, hml, hown, hts⟩ (met_X1_has l D dA dZ ad _ hO hC t h ht hh) (cw_X1_35 hts ⟨Nat.le_of_ble_eq_true rfl, Nat.le_of_ble_eq_true rfl⟩) (va_recv hK hP (ci := 0) (q0 := 0) rfl rfl) hK hP hDT hP hS hA rfl rfl hl.1 (Nat.le_of_ble_eq_true rfl) dX1_failsAt_12 ⟨Nat.zero_le _, Nat.zero_le _⟩ (fun r2 H locs hv3 hP hS => ?_)
    refine lv_aload_n hx hb dX1_failsAt_15 rfl (lv_at hl 0 rfl) ?_
    refine fc_chosen hx hb hts hown hK hP dX1_failsAt_16 ?_
    refine lv_iload_n hx hb dX1_failsAt_19 rfl (lv_at hl 2 rfl) ?_
    refine bw_iald hx hb hK hP 4 rfl h (by omega) (by decide) dX1_failsAt_20 ?_
    refine lv_iand hx hb dX1_failsAt_21 ?_
    refine lv_if_ne hx hb (tgt := 29) dX1_failsAt_22 (by decide) (fun c4 => ?_) (fun c4 => ?_)
    · refine lv_iconst (v := nI 0) hx hb dX1_failsAt_29 (by decide) ?_
      exact ro_zret (rfl) hx hb hr hlocks hS dX1_failsAt_30 (mt_y (Classical.not_not.mp (fun z => c4 ((rHit hH hh hv3).mpr z))))
    · refine lv_iconst (v := nI 1) hx hb dX1_failsAt_25 (by decide) ?_
      refine lv_goto (tgt := 30) hx hb dX1_failsAt_26 (by decide) ?_
      exact ro_zret (rfl) hx hb hr hlocks hS dX1_failsAt_30 (mt_f (fun z => c1 ((rCho_0 hH hh).mpr z)) ((rHit hH hh hv3).mp c4))

set_option maxHeartbeats 4000000 in
set_option maxRecDepth 100000 in
theorem met_X1_isKeptBut (l : Launch) (D : va_G) (dA dZ : ClassId) (ad : Nat → Nat) (sz : Nat) {own : Nat → Int32} {rows : Int32} {upp clo cho fai cou see : Nat → Int32} {has up ch : Nat → Int32} (hO : rOwn own has) (hC : rClo clo up) (hH : rCho cho ch) (t h : Nat) (ht : t < 40) (hh : h < 8) (hF : fai t = nI (fN has up ch t)) : RO l yX1_isKeptBut cX1_isKeptBut 3 (some .boolean) rm_X1_isKeptBut [.ref (ad 0), .int (nI t), .int (nI h)] D dA dZ (fcW dA ad own rows upp clo cho fai cou see) sz (fun r => r = nI (bN (kb has up ch t h))) := by
  refine Met.ofW (cc := cX1_isKeptBut) (maxL := 3) (ret := (some .boolean)) (by decide) rfl ?_
  intro p e s m args below meth c s₁ B hml hv
  obtain ⟨rfl, hsz, hP, hK, hDT⟩ := hv
  have hx := B.exec
  have hb := B.bytes
  have hr := B.returns
  have hts : ∀ w ∈ lw_all, w.before _ s = true := fun w h => atoms_spec (ws := ws_ yX1_isKeptBut cX1_isKeptBut 3 (some .boolean)) B.pre w (List.mem_cons_of_mem _ h)
  have hown : s.vm.findClass RX1 = some m.cls := findClass_of_methodNamed B.named
  have hlocks := B.notSynchronized
  subst hsz
  have hS : va_S (fun q => s.heap.size ≤ q) s.heap s.heap [] := va_S.rf
  have hA : ∀ q : Nat, s.heap.size ≤ q → (fun q => s.heap.size ≤ q) q := fun q h => h
  have hl := lv_entry ([.ref (ad 0), .int (nI t), .int (nI h)]) (n := 3) (Nat.le_of_ble_eq_true rfl)
  rw [lg_entry_eq]
  generalize (lg_sl ([.ref (ad 0), .int (nI t), .int (nI h)]) ++ List.replicate (3 - (lg_sl ([.ref (ad 0), .int (nI t), .int (nI h)])).length) Slot.unset).toArray = ls at hl ⊢
  have hl : lv_has ls 3 [(0, .ref (ad 0)), (1, .int (nI t)), (2, .int (nI h))] := hl
  refine lv_aload_n hx hb dX1_isKeptBut_0 rfl (lv_at hl 0 rfl) ?_
  refine fc_fails hx hb hts hown hK hP dX1_isKeptBut_1 ?_
  refine lv_iload_n hx hb dX1_isKeptBut_4 rfl (lv_at hl 1 rfl) ?_
  refine bw_iald hx hb hK hP 5 rfl t (by omega) (by decide) dX1_isKeptBut_5 ?_
  refine lv_aload_n hx hb dX1_isKeptBut_6 rfl (lv_at hl 0 rfl) ?_
  refine lv_iload_n hx hb dX1_isKeptBut_7 rfl (lv_at hl 1 rfl) ?_
  refine lv_iload_n hx hb dX1_isKeptBut_8 rfl (lv_at hl 2 rfl) ?_
  refine bw_ro (rest := [.int (fai t)]) ⟨hx, hb, hml, hown, hts⟩ (met_X1_failsAt l D dA dZ ad _ hO hC hH t h ht hh) (cw_X1_39 hts ⟨Nat.le_of_ble_eq_true rfl, Nat.le_of_ble_eq_true rfl⟩) (va_recv hK hP (ci := 0) (q0 := 0) rfl rfl) hK hP hDT hP hS hA rfl rfl hl.1 (Nat.le_of_ble_eq_true rfl) dX1_isKeptBut_9 ⟨Nat.zero_le _, Nat.zero_le _⟩ (fun r1 H locs hv2 hP hS => ?_)
  subst hv2
  refine w_cut 20 ls [.int (fai t)] (fun v => v = nI (bN (¬ mt has up ch t h))) (fun K3 => ?_) (fun v4 hv5 => ?_)
  · refine bw_ifeq hx hb (tgt := 19) dX1_isKeptBut_12 (by decide) (fun c6 => ?_) (fun c6 => ?_)
    · refine lv_iconst (v := nI 0) hx hb dX1_isKeptBut_19 (by decide) ?_
      exact K3 _ (by rw [bN_f c6])
    · refine lv_iconst (v := nI 1) hx hb dX1_isKeptBut_15 (by decide) ?_
      refine lv_goto (tgt := 20) hx hb dX1_isKeptBut_16 (by decide) ?_
      exact K3 _ (by rw [bN_t c6])
  · subst hv5
    refine lv_isub hx hb dX1_isKeptBut_20 ?_
    refine lv_if_ne hx hb (tgt := 28) dX1_isKeptBut_21 (by decide) (fun c7 => ?_) (fun c7 => ?_)
    · refine lv_iconst (v := nI 0) hx hb dX1_isKeptBut_28 (by decide) ?_
      exact ro_zret (rfl) hx hb hr hlocks hS dX1_isKeptBut_29 (by rw [bN_f (fun z => c7 ((kb_sub hh hF).mpr z))])
    · refine lv_iconst (v := nI 1) hx hb dX1_isKeptBut_24 (by decide) ?_
      refine lv_goto (tgt := 29) hx hb dX1_isKeptBut_25 (by decide) ?_
      exact ro_zret (rfl) hx hb hr hlocks hS dX1_isKeptBut_29 (by rw [bN_t ((kb_sub hh hF).mp c7)])
end
section
set_option maxRecDepth 100000
theorem weigh_m {by_ x y : Int32} (h : by_ = nI 1 ∨ (by_ = -1 ∧ x = y)) (c : by_ ≤ 0) : x = y := by
  rcases h with h | h
  · rw [h] at c
    exact absurd c (by decide)
  · exact h.2
set_option maxHeartbeats 4000000 in
set_option maxRecDepth 100000 in
theorem met_X1_weigh (l : Launch) (D : va_G) (dA dZ : ClassId) (ad : Nat → Nat) (sz : Nat) {own : Nat → Int32} {rows : Int32} {upp clo cho fai cou see : Nat → Int32} {has up ch : Nat → Int32} (hO : rOwn own has) (hC : rClo clo up) (hH : rCho cho ch) (t : Nat) (ht : t < 40) (by_ : Int32) (hby : by_ = nI 1 ∨ (by_ = -1 ∧ fai t = nI (fN has up ch t))) : RV l yX1_weigh cX1_weigh 6 rm_X1_weigh [.ref (ad 0), .int (nI t), .int by_] D dA dZ (fcW dA ad own rows upp clo cho fai cou see) sz (S := (Nat → Int32) × (Nat → Int32)) (fun u => (∀ y, y ≠ t → u.1 y = fai y) ∧ u.1 t = nI (fN has up ch t) ∧ (∀ h, h < 8 → ∀ v, v < 32 → u.2 (32 * h + v) = cou (32 * h + v) + nI (bN (ow has up t h v ∧ kb has up ch t h)) * by_)) (fun u => fcW dA ad own rows upp clo cho u.1 u.2 see) := by
  refine Met.ofW (cc := cX1_weigh) (maxL := 6) (ret := none) (by decide) rfl ?_
  intro p e s m args below meth c s₁ B hml hv
  obtain ⟨rfl, hsz, hP, hK, hDT⟩ := hv
  have hx := B.exec
  have hb := B.bytes
  have hr := B.returns
  have hts : ∀ w ∈ lw_all, w.before _ s = true := fun w h => atoms_spec (ws := ws_ yX1_weigh cX1_weigh 6 none) B.pre w (List.mem_cons_of_mem _ h)
  have hown : s.vm.findClass RX1 = some m.cls := findClass_of_methodNamed B.named
  have hlocks := B.notSynchronized
  subst hsz
  have hD := hDT.self (sz := s.heap.size)
  generalize hAe : va_A (fcW dA ad own rows upp clo cho fai cou see) s.heap.size = A at hD ⊢
  have hA : ∀ q : Nat, s.heap.size ≤ q → A q := fun q h => by rw [← hAe]; exact Or.inr h
  have hS : va_S A s.heap s.heap [] := va_S.rf
  have hl := lv_entry ([.ref (ad 0), .int (nI t), .int by_]) (n := 6) (Nat.le_of_ble_eq_true rfl)
  rw [lg_entry_eq]
  generalize (lg_sl ([.ref (ad 0), .int (nI t), .int by_]) ++ List.replicate (6 - (lg_sl ([.ref (ad 0), .int (nI t), .int by_])).length) Slot.unset).toArray = ls at hl ⊢
  have hl : lv_has ls 6 [(0, .ref (ad 0)), (1, .int (nI t)), (2, .int by_)] := hl
  refine w_cut0 48 (fun H locs ls => ∃ (fa : Nat → Int32), lv_has ls 6 [(0, .ref (ad 0)), (1, .int (nI t)), (2, .int by_)] ∧ va_P D vwCl (fcW dA ad own rows upp clo cho fa cou see) H ∧ va_D A (fcW dA ad own rows upp clo cho fa cou see) ∧ va_S A s.heap H locs ∧ ((∀ y, y ≠ t → fa y = fai y) ∧ fa t = nI (fN has up ch t))) (fun K1 => ?_) (fun H locs ls hv2 => ?_)
  · refine lv_iload_n hx hb dX1_weigh_0 rfl (lv_at hl 2 rfl) ?_
    refine lv_if_le hx hb (tgt := 48) dX1_weigh_1 (by decide) (fun c3 => ?_) (fun c3 => ?_)
    · exact K1 _ _ _ ⟨fai, lv_sub hl [0, 1, 2] rfl, hP, hD, hS, fun _ _ => rfl, weigh_m hby c3⟩
    · refine lv_aload_n hx hb dX1_weigh_4 rfl (lv_at hl 0 rfl) ?_
      refine fc_fails hx hb hts hown hK hP dX1_weigh_5 ?_
      refine lv_iload_n hx hb dX1_weigh_8 rfl (lv_at hl 1 rfl) ?_
      refine lv_iconst (v := nI 0) hx hb dX1_weigh_9 (by decide) ?_
      refine bw_iast hx hb hK hP hD hS 5 rfl t (by omega) (by decide) dX1_weigh_10 (fun H locs hP hD hS => ?_)
      have hP : va_P D vwCl (fcW dA ad own rows upp clo cho (upd fai t (nI 0)) cou see) H := hP
      have hD : va_D A (fcW dA ad own rows upp clo cho (upd fai t (nI 0)) cou see) := hD
      refine lv_iconst (v := nI 0) hx hb dX1_weigh_11 (by decide) ?_
      refine lv_istore_n (lv' := [(3, .int (nI 0)), (0, .ref (ad 0)), (1, .int (nI t)), (2, .int by_)]) hx hb dX1_weigh_12 rfl hl (by decide) rfl (fun ls hl => ?_)
      refine w_loop (σ := Nat → Int32) 8 (fun j x H locs ls => lv_has ls 6 [(0, .ref (ad 0)), (1, .int (nI t)), (2, .int by_), (3, .int (nI j))] ∧ va_P D vwCl (fcW dA ad own rows upp clo cho x cou see) H ∧ va_D A (fcW dA ad own rows upp clo cho x cou see) ∧ va_S A s.heap H locs ∧ ((∀ y, y ≠ t → x y = fai y) ∧ x t = nI (cnt (fun h => ¬ mt has up ch t h) j))) ?_ ?_ 0 (upd fai t (nI 0)) _ _ _ (by omega) ⟨lv_sub hl [1, 2, 3, 0] rfl, hP, hD, hS, ⟨fun y hy => pk_un hy, pk_us⟩⟩
      · intro j x H locs ls hj hI hk4
        obtain ⟨hl, hP, hD, hS, hI⟩ := hI
        refine lv_iload_n hx hb dX1_weigh_13 rfl (lv_at hl 3 rfl) ?_
        refine lv_bipush (v := nI 8) hx hb dX1_weigh_14 (by decide) ?_
        refine bw_ge (by omega) (by omega) hx hb (tgt := 48) dX1_weigh_16 (by decide) (fun c5 => ?_) (fun c5 => ?_)
        · exact absurd c5 (by omega)
        · refine lv_aload_n hx hb dX1_weigh_19 rfl (lv_at hl 0 rfl) ?_
          refine fc_fails hx hb hts hown hK hP dX1_weigh_20 ?_
          refine lv_iload_n hx hb dX1_weigh_23 rfl (lv_at hl 1 rfl) ?_
          refine lv_dup2_11 hx hb dX1_weigh_24 rfl rfl ?_
          refine bw_iald hx hb hK hP 5 rfl t (by omega) (by decide) dX1_weigh_25 ?_
          refine lv_aload_n hx hb dX1_weigh_26 rfl (lv_at hl 0 rfl) ?_
          refine lv_iload_n hx hb dX1_weigh_27 rfl (lv_at hl 1 rfl) ?_
          refine lv_iload_n hx hb dX1_weigh_28 rfl (lv_at hl 3 rfl) ?_
          refine bw_ro (rest := [.int (x t), .int (nI t), .ref (ad 5)]) ⟨hx, hb, hml, hown, hts⟩ (met_X1_failsAt l D dA dZ ad _ hO hC hH t j ht hj) (cw_X1_39 hts ⟨Nat.le_of_ble_eq_true rfl, Nat.le_of_ble_eq_true rfl⟩) (va_recv hK hP (ci := 0) (q0 := 0) rfl rfl) hK hP (hD.weaken (fun _ _ _ _ => trivial)) hP hS hA rfl rfl hl.1 (Nat.le_of_ble_eq_true rfl) dX1_weigh_29 ⟨Nat.zero_le _, Nat.zero_le _⟩ (fun r6 H locs hv7 hP hS => ?_)
          subst hv7
          refine w_cut 40 ls [.int (x t), .int (nI t), .ref (ad 5)] (fun v => v = nI (bN (¬ mt has up ch t j))) (fun K8 => ?_) (fun v9 hv10 => ?_)
          · refine bw_ifeq hx hb (tgt := 39) dX1_weigh_32 (by decide) (fun c11 => ?_) (fun c11 => ?_)
            · refine lv_iconst (v := nI 0) hx hb dX1_weigh_39 (by decide) ?_
              exact K8 _ (by rw [bN_f c11])
            · refine lv_iconst (v := nI 1) hx hb dX1_weigh_35 (by decide) ?_
              refine lv_goto (tgt := 40) hx hb dX1_weigh_36 (by decide) ?_
              exact K8 _ (by rw [bN_t c11])
          · subst hv10
            refine lv_iadd hx hb dX1_weigh_40 ?_
            refine bw_iast hx hb hK hP hD hS 5 rfl t (by omega) (by decide) dX1_weigh_41 (fun H locs hP hD hS => ?_)
            have hP : va_P D vwCl (fcW dA ad own rows upp clo cho (upd x t ((x t) + (nI (bN (¬ mt has up ch t j))))) cou see) H := hP
            have hD : va_D A (fcW dA ad own rows upp clo cho (upd x t ((x t) + (nI (bN (¬ mt has up ch t j))))) cou see) := hD
            refine lv_iinc (v := nI (j + 1)) (lv' := [(3, .int (nI (j + 1))), (0, .ref (ad 0)), (1, .int (nI t)), (2, .int by_)]) hx hb dX1_weigh_42 hl (k := 3) rfl (inc1 _) (by decide) rfl (fun ls hl => ?_)
            refine lv_goto (tgt := 13) hx hb dX1_weigh_45 (by decide) ?_
            exact hk4 (upd x t (x t + nI (bN (¬ mt has up ch t j)))) _ _ _ ⟨lv_sub hl [1, 2, 3, 0] rfl, hP, hD, hS, ⟨fun y hy => (pk_un hy).trans (hI.1 y hy), by rw [pk_us, hI.2, nI_add]; rfl⟩⟩
      · intro x H locs ls hI
        obtain ⟨hl, hP, hD, hS, hI⟩ := hI
        refine lv_iload_n hx hb dX1_weigh_13 rfl (lv_at hl 3 rfl) ?_
        refine lv_bipush (v := nI 8) hx hb dX1_weigh_14 (by decide) ?_
        refine bw_ge (by omega) (by omega) hx hb (tgt := 48) dX1_weigh_16 (by decide) (fun c12 => ?_) (fun c12 => ?_)
        · exact K1 _ _ _ ⟨x, lv_sub hl [0, 1, 2] rfl, hP, hD, hS, hI.1, hI.2⟩
        · exact absurd c12 (by omega)
  · obtain ⟨fa, hl, hP, hD, hS, hv2⟩ := hv2
    obtain ⟨hf1, hf2⟩ := hv2
    refine lv_aload_n hx hb dX1_weigh_48 rfl (lv_at hl 0 rfl) ?_
    refine fc_fails hx hb hts hown hK hP dX1_weigh_49 ?_
    refine lv_iload_n hx hb dX1_weigh_52 rfl (lv_at hl 1 rfl) ?_
    refine bw_iald hx hb hK hP 5 rfl t (by omega) (by decide) dX1_weigh_53 ?_
    refine bw_top (y := nI (fN has up ch t)) (hf2) ?_
    have hfle := fN_le has up ch t
    refine lv_iconst (v := nI 1) hx hb dX1_weigh_54 (by decide) ?_
    refine bw_le (by omega) (by omega) hx hb (tgt := 59) dX1_weigh_55 (by decide) (fun c13 => ?_) (fun c13 => ?_)
    · refine lv_iconst (v := nI 0) hx hb dX1_weigh_59 (by decide) ?_
      refine lv_istore_n (lv' := [(3, .int (nI 0)), (0, .ref (ad 0)), (1, .int (nI t)), (2, .int by_)]) hx hb dX1_weigh_60 rfl hl (by decide) rfl (fun ls hl => ?_)
      refine w_loop (σ := Nat → Int32) 8 (fun g x H locs ls => lv_has ls 6 [(0, .ref (ad 0)), (1, .int (nI t)), (2, .int by_), (3, .int (nI g))] ∧ va_P D vwCl (fcW dA ad own rows upp clo cho fa x see) H ∧ va_D A (fcW dA ad own rows upp clo cho fa x see) ∧ va_S A s.heap H locs ∧ (couI has up ch cou t by_ g 0 x)) ?_ ?_ 0 cou _ _ _ (by omega) ⟨lv_sub hl [1, 2, 3, 0] rfl, hP, hD, hS, couI_0 has up ch cou t by_⟩
      · intro g x H locs ls hg hI hk14
        obtain ⟨hl, hP, hD, hS, hI⟩ := hI
        refine lv_iload_n hx hb dX1_weigh_61 rfl (lv_at hl 3 rfl) ?_
        refine lv_bipush (v := nI 8) hx hb dX1_weigh_62 (by decide) ?_
        refine bw_ge (by omega) (by omega) hx hb (tgt := 134) dX1_weigh_64 (by decide) (fun c15 => ?_) (fun c15 => ?_)
        · exact absurd c15 (by omega)
        · refine lv_aload_n hx hb dX1_weigh_67 rfl (lv_at hl 0 rfl) ?_
          refine lv_iload_n hx hb dX1_weigh_68 rfl (lv_at hl 1 rfl) ?_
          refine lv_iload_n hx hb dX1_weigh_69 rfl (lv_at hl 3 rfl) ?_
          refine bw_ro (rest := []) ⟨hx, hb, hml, hown, hts⟩ (met_X1_isKeptBut l D dA dZ ad _ hO hC hH t g ht hg hf2) (cw_X1_42 hts ⟨Nat.le_of_ble_eq_true rfl, Nat.le_of_ble_eq_true rfl⟩) (va_recv hK hP (ci := 0) (q0 := 0) rfl rfl) hK hP (hD.weaken (fun _ _ _ _ => trivial)) hP hS hA rfl rfl hl.1 (Nat.le_of_ble_eq_true rfl) dX1_weigh_70 ⟨Nat.zero_le _, Nat.zero_le _⟩ (fun r16 H locs hv17 hP hS => ?_)
          subst hv17
          refine w_cutH 86 ls [] (fun v H locs => (∀ z, z < 32 → (bt v z = true ↔ (ow has up t g z ∧ kb has up ch t g))) ∧ va_P D vwCl (fcW dA ad own rows upp clo cho fa x see) H ∧ va_D A (fcW dA ad own rows upp clo cho fa x see) ∧ va_S A s.heap H locs) (fun K18 => ?_) (fun v19 H locs hv20 => ?_)
          · refine bw_ifeq hx hb (tgt := 85) dX1_weigh_73 (by decide) (fun c21 => ?_) (fun c21 => ?_)
            · refine lv_iconst (v := nI 0) hx hb dX1_weigh_85 (by decide) ?_
              exact K18 _ _ _ ⟨fun z hz => ⟨fun q => (by rw [show bt (nI 0) z = false from b_0 z] at q; cases q), fun q => absurd q.2 c21⟩, hP, hD, hS⟩
            · refine lv_aload_n hx hb dX1_weigh_76 rfl (lv_at hl 0 rfl) ?_
              refine lv_iload_n hx hb dX1_weigh_77 rfl (lv_at hl 1 rfl) ?_
              refine lv_iload_n hx hb dX1_weigh_78 rfl (lv_at hl 3 rfl) ?_
              refine bw_ro (rest := []) ⟨hx, hb, hml, hown, hts⟩ (met_X1_has l D dA dZ ad _ hO hC t g ht hg) (cw_X1_35 hts ⟨Nat.le_of_ble_eq_true rfl, Nat.le_of_ble_eq_true rfl⟩) (va_recv hK hP (ci := 0) (q0 := 0) rfl rfl) hK hP (hD.weaken (fun _ _ _ _ => trivial)) hP hS hA rfl rfl hl.1 (Nat.le_of_ble_eq_true rfl) dX1_weigh_79 ⟨Nat.zero_le _, Nat.zero_le _⟩ (fun r22 H locs hv23 hP hS => ?_)
              refine lv_goto (tgt := 86) hx hb dX1_weigh_82 (by decide) ?_
              exact K18 _ _ _ ⟨fun z hz => ⟨fun q => ⟨(hv23 z hz).mp q, c21⟩, fun q => (hv23 z hz).mpr q.1⟩, hP, hD, hS⟩
          · obtain ⟨hv20, hP, hD, hS⟩ := hv20
            refine lv_istore (lv' := [(4, .int v19), (0, .ref (ad 0)), (1, .int (nI t)), (2, .int by_), (3, .int (nI g))]) hx hb dX1_weigh_86 hl (by decide) rfl (fun ls hl => ?_)
            refine lv_iconst (v := nI 0) hx hb dX1_weigh_88 (by decide) ?_
            refine lv_istore (lv' := [(5, .int (nI 0)), (4, .int v19), (0, .ref (ad 0)), (1, .int (nI t)), (2, .int by_), (3, .int (nI g))]) hx hb dX1_weigh_89 hl (by decide) rfl (fun ls hl => ?_)
            refine w_loop (σ := Nat → Int32) 32 (fun j y H locs ls => lv_has ls 6 [(0, .ref (ad 0)), (1, .int (nI t)), (2, .int by_), (3, .int (nI g)), (4, .int v19), (5, .int (nI j))] ∧ va_P D vwCl (fcW dA ad own rows upp clo cho fa y see) H ∧ va_D A (fcW dA ad own rows upp clo cho fa y see) ∧ va_S A s.heap H locs ∧ (couI has up ch cou t by_ g j y)) ?_ ?_ 0 x _ _ _ (by omega) ⟨lv_sub hl [2, 3, 4, 5, 1, 0] rfl, hP, hD, hS, hI⟩
            · intro j y H locs ls hj hI hk24
              obtain ⟨hl, hP, hD, hS, hI⟩ := hI
              refine lv_iload hx hb dX1_weigh_91 (lv_at hl 5 rfl) ?_
              refine lv_bipush (v := nI 32) hx hb dX1_weigh_93 (by decide) ?_
              refine bw_ge (by omega) (by omega) hx hb (tgt := 128) dX1_weigh_95 (by decide) (fun c25 => ?_) (fun c25 => ?_)
              · exact absurd c25 (by omega)
              · refine lv_aload_n hx hb dX1_weigh_98 rfl (lv_at hl 0 rfl) ?_
                refine fc_counts hx hb hts hown hK hP dX1_weigh_99 ?_
                refine lv_bipush (v := nI 32) hx hb dX1_weigh_102 (by decide) ?_
                refine lv_iload_n hx hb dX1_weigh_104 rfl (lv_at hl 3 rfl) ?_
                refine bw_mul hx hb dX1_weigh_105 ?_
                refine lv_iload hx hb dX1_weigh_106 (lv_at hl 5 rfl) ?_
                refine bw_add hx hb dX1_weigh_108 ?_
                refine lv_dup2_11 hx hb dX1_weigh_109 rfl rfl ?_
                refine bw_iald hx hb hK hP 6 rfl (((32 * g) + j)) (by omega) (by decide) dX1_weigh_110 ?_
                refine lv_iload hx hb dX1_weigh_111 (lv_at hl 4 rfl) ?_
                refine lv_iload hx hb dX1_weigh_113 (lv_at hl 5 rfl) ?_
                refine lv_ishr hx hb dX1_weigh_115 ?_
                refine lv_iconst (v := nI 1) hx hb dX1_weigh_116 (by decide) ?_
                refine lv_iand hx hb dX1_weigh_117 ?_
                refine bw_top (y := nI (bN (bt v19 j = true))) (b_test _ hj) ?_
                refine lv_iload_n hx hb dX1_weigh_118 rfl (lv_at hl 2 rfl) ?_
                refine lv_imul hx hb dX1_weigh_119 ?_
                refine lv_iadd hx hb dX1_weigh_120 ?_
                refine bw_iast hx hb hK hP hD hS 6 rfl (((32 * g) + j)) (by omega) (by decide) dX1_weigh_121 (fun H locs hP hD hS => ?_)
                have hP : va_P D vwCl (fcW dA ad own rows upp clo cho fa (upd y (((32 * g) + j)) ((y (((32 * g) + j))) + ((nI (bN (bt v19 j = true))) * by_))) see) H := hP
                have hD : va_D A (fcW dA ad own rows upp clo cho fa (upd y (((32 * g) + j)) ((y (((32 * g) + j))) + ((nI (bN (bt v19 j = true))) * by_))) see) := hD
                refine lv_iinc (v := nI (j + 1)) (lv' := [(5, .int (nI (j + 1))), (0, .ref (ad 0)), (1, .int (nI t)), (2, .int by_), (3, .int (nI g)), (4, .int v19)]) hx hb dX1_weigh_122 hl (k := 5) rfl (inc1 _) (by decide) rfl (fun ls hl => ?_)
                refine lv_goto (tgt := 91) hx hb dX1_weigh_125 (by decide) ?_
                exact hk24 (upd y (32 * g + j) (y (32 * g + j) + nI (bN (bt v19 j = true)) * by_)) _ _ _ ⟨lv_sub hl [1, 2, 3, 4, 5, 0] rfl, hP, hD, hS, couI_s hg hj (hv20 j hj) hI⟩
            · intro y H locs ls hI
              obtain ⟨hl, hP, hD, hS, hI⟩ := hI
              refine lv_iload hx hb dX1_weigh_91 (lv_at hl 5 rfl) ?_
              refine lv_bipush (v := nI 32) hx hb dX1_weigh_93 (by decide) ?_
              refine bw_ge (by omega) (by omega) hx hb (tgt := 128) dX1_weigh_95 (by decide) (fun c26 => ?_) (fun c26 => ?_)
              · refine lv_iinc (v := nI (g + 1)) (lv' := [(3, .int (nI (g + 1))), (0, .ref (ad 0)), (1, .int (nI t)), (2, .int by_), (4, .int v19), (5, .int (nI 32))]) hx hb dX1_weigh_128 hl (k := 3) rfl (inc1 _) (by decide) rfl (fun ls hl => ?_)
                refine lv_goto (tgt := 61) hx hb dX1_weigh_131 (by decide) ?_
                exact hk14 y _ _ _ ⟨lv_sub hl [1, 2, 3, 0] rfl, hP, hD, hS, couI_c hI (fun h hh v hv => by omega)⟩
              · exact absurd c26 (by omega)
      · intro x H locs ls hI
        obtain ⟨hl, hP, hD, hS, hI⟩ := hI
        refine lv_iload_n hx hb dX1_weigh_61 rfl (lv_at hl 3 rfl) ?_
        refine lv_bipush (v := nI 8) hx hb dX1_weigh_62 (by decide) ?_
        refine bw_ge (by omega) (by omega) hx hb (tgt := 134) dX1_weigh_64 (by decide) (fun c27 => ?_) (fun c27 => ?_)
        · exact rw_vret ((fa, x)) hx hb hr hlocks hP hD hS dX1_weigh_134 (⟨hf1, hf2, couI_e hI⟩)
        · exact absurd c27 (by omega)
    · exact rw_vret ((fa, cou)) hx hb hr hlocks hP hD hS dX1_weigh_58 (⟨hf1, hf2, cou_none c13⟩)

def wAI (has up ch fai cou : Nat → Int32) (by_ : Int32) (j : Nat) (x : (Nat → Int32) × (Nat → Int32)) : Prop :=
  (∀ t, t < 40 → (j ≤ t → x.1 t = fai t) ∧ (t < j → x.1 t = nI (fN has up ch t))) ∧ ∀ h, h < 8 → ∀ v, v < 32 → x.2 (32 * h + v) = cou (32 * h + v) + nI (cnt (fun t => ow has up t h v ∧ kb has up ch t h) j) * by_
theorem wA_pre {has up ch fai : Nat → Int32} {by_ : Int32} {j : Nat} {x : Nat → Int32} (hby : by_ = nI 1 ∨ (by_ = -1 ∧ rFai fai has up ch)) (h : ∀ t, t < 40 → (j ≤ t → x t = fai t) ∧ (t < j → x t = nI (fN has up ch t))) (hj : j < 40) : by_ = nI 1 ∨ (by_ = -1 ∧ x j = nI (fN has up ch j)) := by
  rcases hby with q | ⟨q, r⟩
  · exact Or.inl q
  · exact Or.inr ⟨q, ((h j hj).1 (Nat.le_refl j)).trans (r j hj)⟩
theorem wA_step {has up ch fai cou : Nat → Int32} {by_ : Int32} {j : Nat} {x u : (Nat → Int32) × (Nat → Int32)} (hI : wAI has up ch fai cou by_ j x) (hj : j < 40) (hu : (∀ y, y ≠ j → u.1 y = x.1 y) ∧ u.1 j = nI (fN has up ch j) ∧ (∀ h, h < 8 → ∀ v, v < 32 → u.2 (32 * h + v) = x.2 (32 * h + v) + nI (bN (ow has up j h v ∧ kb has up ch j h)) * by_)) : wAI has up ch fai cou by_ (j + 1) u := by
  refine ⟨fun t ht => ⟨fun q => ?_, fun q => ?_⟩, fun h hh v hv => ?_⟩
  · rw [hu.1 t (by omega)]
    exact (hI.1 t ht).1 (by omega)
  · by_cases e : t = j
    · subst e
      exact hu.2.1
    · rw [hu.1 t e]
      exact (hI.1 t ht).2 (by omega)
  · rw [hu.2.2 h hh v hv, hI.2 h hh v hv, mul_step]
    rfl
set_option maxHeartbeats 4000000 in
set_option maxRecDepth 100000 in
theorem met_X1_weighAll (l : Launch) (D : va_G) (dA dZ : ClassId) (ad : Nat → Nat) (sz : Nat) {own : Nat → Int32} {rows : Int32} {upp clo cho fai cou see : Nat → Int32} {has up ch : Nat → Int32} (hO : rOwn own has) (hC : rClo clo up) (hH : rCho cho ch) (by_ : Int32) (hby : by_ = nI 1 ∨ (by_ = -1 ∧ rFai fai has up ch)) : RV l yX1_weighAll cX1_weighAll 3 rm_X1_weighAll [.ref (ad 0), .int by_] D dA dZ (fcW dA ad own rows upp clo cho fai cou see) sz (S := (Nat → Int32) × (Nat → Int32)) (fun u => rFai u.1 has up ch ∧ (∀ h, h < 8 → ∀ v, v < 32 → u.2 (32 * h + v) = cou (32 * h + v) + nI (cN has up ch h v) * by_)) (fun u => fcW dA ad own rows upp clo cho u.1 u.2 see) := by
  refine Met.ofW (cc := cX1_weighAll) (maxL := 3) (ret := none) (by decide) rfl ?_
  intro p e s m args below meth c s₁ B hml hv
  obtain ⟨rfl, hsz, hP, hK, hDT⟩ := hv
  have hx := B.exec
  have hb := B.bytes
  have hr := B.returns
  have hts : ∀ w ∈ lw_all, w.before _ s = true := fun w h => atoms_spec (ws := ws_ yX1_weighAll cX1_weighAll 3 none) B.pre w (List.mem_cons_of_mem _ h)
  have hown : s.vm.findClass RX1 = some m.cls := findClass_of_methodNamed B.named
  have hlocks := B.notSynchronized
  subst hsz
  have hD := hDT.self (sz := s.heap.size)
  generalize hAe : va_A (fcW dA ad own rows upp clo cho fai cou see) s.heap.size = A at hD ⊢
  have hA : ∀ q : Nat, s.heap.size ≤ q → A q := fun q h => by rw [← hAe]; exact Or.inr h
  have hS : va_S A s.heap s.heap [] := va_S.rf
  have hl := lv_entry ([.ref (ad 0), .int by_]) (n := 3) (Nat.le_of_ble_eq_true rfl)
  rw [lg_entry_eq]
  generalize (lg_sl ([.ref (ad 0), .int by_]) ++ List.replicate (3 - (lg_sl ([.ref (ad 0), .int by_])).length) Slot.unset).toArray = ls at hl ⊢
  have hl : lv_has ls 3 [(0, .ref (ad 0)), (1, .int by_)] := hl
  refine lv_iconst (v := nI 0) hx hb dX1_weighAll_0 (by decide) ?_
  refine lv_istore_n (lv' := [(2, .int (nI 0)), (0, .ref (ad 0)), (1, .int by_)]) hx hb dX1_weighAll_1 rfl hl (by decide) rfl (fun ls hl => ?_)
  refine w_loop (σ := (Nat → Int32) × (Nat → Int32)) 40 (fun j x H locs ls => lv_has ls 3 [(0, .ref (ad 0)), (1, .int by_), (2, .int (nI j))] ∧ va_P D vwCl (fcW dA ad own rows upp clo cho x.1 x.2 see) H ∧ va_D A (fcW dA ad own rows upp clo cho x.1 x.2 see) ∧ va_S A s.heap H locs ∧ (wAI has up ch fai cou by_ j x)) ?_ ?_ 0 (fai, cou) _ _ _ (by omega) ⟨lv_sub hl [1, 2, 0] rfl, hP, hD, hS, ⟨fun t ht => ⟨fun _ => rfl, fun q => absurd q (Nat.not_lt_zero t)⟩, fun h hh v hv => by rw [show cnt (fun t => ow has up t h v ∧ kb has up ch t h) 0 = 0 from rfl, n0_mul, i_add0]⟩⟩
  · intro j x H locs ls hj hI hk1
    obtain ⟨hl, hP, hD, hS, hI⟩ := hI
    refine lv_iload_n hx hb dX1_weighAll_2 rfl (lv_at hl 2 rfl) ?_
    refine lv_bipush (v := nI 40) hx hb dX1_weighAll_3 (by decide) ?_
    refine bw_ge (by omega) (by omega) hx hb (tgt := 20) dX1_weighAll_5 (by decide) (fun c2 => ?_) (fun c2 => ?_)
    · exact absurd c2 (by omega)
    · refine lv_aload_n hx hb dX1_weighAll_8 rfl (lv_at hl 0 rfl) ?_
      refine lv_iload_n hx hb dX1_weighAll_9 rfl (lv_at hl 2 rfl) ?_
      refine lv_iload_n hx hb dX1_weighAll_10 rfl (lv_at hl 1 rfl) ?_
      refine bw_rv (rest := []) ⟨hx, hb, hml, hown, hts⟩ (met_X1_weigh l D dA dZ ad _ hO hC hH j hj by_ (wA_pre hby hI.1 hj)) (cw_X1_45 hts ⟨Nat.le_of_ble_eq_true rfl, Nat.le_of_ble_eq_true rfl⟩) (va_recv hK hP (ci := 0) (q0 := 0) rfl rfl) hK hP hD hS hA rfl rfl hl.1 (Nat.le_of_ble_eq_true rfl) dX1_weighAll_11 ⟨Nat.zero_le _, Nat.zero_le _⟩ (fun u3 H locs hv4 hP hD hS => ?_)
      refine lv_iinc (v := nI (j + 1)) (lv' := [(2, .int (nI (j + 1))), (0, .ref (ad 0)), (1, .int by_)]) hx hb dX1_weighAll_14 hl (k := 2) rfl (inc1 _) (by decide) rfl (fun ls hl => ?_)
      refine lv_goto (tgt := 2) hx hb dX1_weighAll_17 (by decide) ?_
      exact hk1 u3 _ _ _ ⟨lv_sub hl [1, 2, 0] rfl, hP, hD, hS, wA_step hI hj hv4⟩
  · intro x H locs ls hI
    obtain ⟨hl, hP, hD, hS, hI⟩ := hI
    refine lv_iload_n hx hb dX1_weighAll_2 rfl (lv_at hl 2 rfl) ?_
    refine lv_bipush (v := nI 40) hx hb dX1_weighAll_3 (by decide) ?_
    refine bw_ge (by omega) (by omega) hx hb (tgt := 20) dX1_weighAll_5 (by decide) (fun c5 => ?_) (fun c5 => ?_)
    · exact rw_vret (x) hx hb hr hlocks hP hD hS dX1_weighAll_20 (⟨fun t ht => (hI.1 t ht).2 ht, hI.2⟩)
    · exact absurd c5 (by omega)
end
section
set_option maxRecDepth 100000
/-! ===== SPEC: what each public method answers, and the picture behind it ===== -/
noncomputable def cif {α : Type} (p : Prop) (a b : α) : α := @ite α p (Classical.propDecidable p) a b
theorem cif_t {α : Type} {p : Prop} {a b : α} (h : p) : cif p a b = a := if_pos h
theorem cif_f {α : Type} {p : Prop} {a b : α} (h : ¬ p) : cif p a b = b := if_neg h
abbrev FS : Type := (Nat → Int32) × Int32 × (Nat → Int32) × (Nat → Int32) × (Nat → Int32) × (Nat → Int32) × (Nat → Int32) × (Nat → Int32)
abbrev fcU (dA : ClassId) (ad : Nat → Nat) (u : FS) : va_W := fcW dA ad u.1 u.2.1 u.2.2.1 u.2.2.2.1 u.2.2.2.2.1 u.2.2.2.2.2.1 u.2.2.2.2.2.2.1 u.2.2.2.2.2.2.2
/-- the picture: has, up, ch, tol, rows -/
abbrev MS : Type := (Nat → Int32) × (Nat → Int32) × (Nat → Int32) × (Nat → Int32) × Int32
def Rp (u : FS) (z : MS) : Prop := rOwn u.1 z.1 ∧ u.2.1 = z.2.2.2.2 ∧ u.2.2.1 = z.2.1 ∧ rClo u.2.2.2.1 z.2.1 ∧ rCho u.2.2.2.2.1 z.2.2.1 ∧ rFai u.2.2.2.2.2.1 z.1 z.2.1 z.2.2.1 ∧ rCou u.2.2.2.2.2.2.1 z.1 z.2.1 z.2.2.1 ∧ ∀ i, i < 256 → u.2.2.2.2.2.2.2 i = z.2.2.2.1 i
/-- what holds of the picture all along -/
def mOK (z : MS) : Prop := (∀ i, i < 10240 → z.1 i = nI 0 ∨ z.1 i = nI 1) ∧ (∀ i, i < 256 → z.2.2.1 i = nI 0 ∨ z.2.2.1 i = nI 1) ∧ acy z.2.1
theorem cl {j : Nat} (h : j < 2 ^ 31) : (nI j).toNatClampNeg = j := nI_clamp h
-- row
noncomputable def rowG (has up ch tol : Nat → Int32) (rows : Int32) (t h v : Nat) : Int32 × MS :=
  cif (hsP has t h v) (nI 0, has, up, ch, tol, rows) (cif (rows = nI 300) (-2, has, up, ch, tol, rows) (nI 1, upd has ((t * 8 + h) * 32 + v) (nI 1), up, ch, tol, rows + nI 1))
noncomputable def rowS (has up ch tol : Nat → Int32) (rows a b v : Int32) : Int32 × MS :=
  cif (inR a 40 ∧ inR b 8 ∧ inR v 32) (rowG has up ch tol rows a.toNatClampNeg b.toNatClampNeg v.toNatClampNeg) (-1, has, up, ch, tol, rows)
theorem rowS_g {has up ch tol : Nat → Int32} {rows : Int32} {t h v : Nat} (ht : t < 40) (hh : h < 8) (hv : v < 32) : rowS has up ch tol rows (nI t) (nI h) (nI v) = rowG has up ch tol rows t h v := by
  unfold rowS
  rw [cif_t ⟨inR_nI ht, inR_nI hh, inR_nI hv⟩, cl (by omega), cl (by omega), cl (by omega)]
-- drop
noncomputable def dropG (has up ch tol : Nat → Int32) (rows : Int32) (t h v : Nat) : Int32 × MS :=
  cif (hsP has t h v) (nI 1, upd has ((t * 8 + h) * 32 + v) (nI 0), up, ch, tol, rows - nI 1) (nI 0, has, up, ch, tol, rows)
noncomputable def dropS (has up ch tol : Nat → Int32) (rows a b v : Int32) : Int32 × MS :=
  cif (inR a 40 ∧ inR b 8 ∧ inR v 32) (dropG has up ch tol rows a.toNatClampNeg b.toNatClampNeg v.toNatClampNeg) (-1, has, up, ch, tol, rows)
theorem dropS_g {has up ch tol : Nat → Int32} {rows : Int32} {t h v : Nat} (ht : t < 40) (hh : h < 8) (hv : v < 32) : dropS has up ch tol rows (nI t) (nI h) (nI v) = dropG has up ch tol rows t h v := by
  unfold dropS
  rw [cif_t ⟨inR_nI ht, inR_nI hh, inR_nI hv⟩, cl (by omega), cl (by omega), cl (by omega)]
-- above
noncomputable def abvG (has up ch tol : Nat → Int32) (rows : Int32) (k : Nat) (b : Int32) : Int32 × MS :=
  cif (up k = b) (nI 0, has, up, ch, tol, rows) (cif (∃ u, u < 32 ∧ b = nI u ∧ und up u k) (-3, has, up, ch, tol, rows) (nI 1, has, upd up k b, ch, tol, rows))
noncomputable def abvS (has up ch tol : Nat → Int32) (rows a b : Int32) : Int32 × MS :=
  cif (inR a 32 ∧ (b = -1 ∨ inR b 32)) (abvG has up ch tol rows a.toNatClampNeg b) (-1, has, up, ch, tol, rows)
theorem abvS_g {has up ch tol : Nat → Int32} {rows b : Int32} {k : Nat} (hk : k < 32) (hb : b = -1 ∨ inR b 32) : abvS has up ch tol rows (nI k) b = abvG has up ch tol rows k b := by
  unfold abvS
  rw [cif_t ⟨inR_nI hk, hb⟩, cl (by omega)]
-- choose
noncomputable def choS (has up ch tol : Nat → Int32) (rows a b : Int32) (on : Prop) : Int32 × MS :=
  cif (inR a 8 ∧ inR b 32) (nI (aN has up (upd ch (32 * a.toNatClampNeg + b.toNatClampNeg) (nI (bN on))) 8), has, up, upd ch (32 * a.toNatClampNeg + b.toNatClampNeg) (nI (bN on)), tol, rows) (-1, has, up, ch, tol, rows)
theorem choS_g {has up ch tol : Nat → Int32} {rows : Int32} {h v : Nat} {on : Prop} (hh : h < 8) (hv : v < 32) : choS has up ch tol rows (nI h) (nI v) on = (nI (aN has up (upd ch (32 * h + v) (nI (bN on))) 8), has, up, upd ch (32 * h + v) (nI (bN on)), tol, rows) := by
  unfold choS
  rw [cif_t ⟨inR_nI hh, inR_nI hv⟩, cl (by omega), cl (by omega)]
-- told
noncomputable def isKS (has up ch : Nat → Int32) (a : Int32) : Int32 := cif (inR a 40) (nI (bN (kb has up ch a.toNatClampNeg 8))) (-1)
theorem isKS_g {has up ch : Nat → Int32} {t : Nat} (ht : t < 40) : isKS has up ch (nI t) = nI (bN (kb has up ch t 8)) := by
  unfold isKS
  rw [cif_t (inR_nI ht), cl (by omega)]
noncomputable def facS (has up ch : Nat → Int32) (a b : Int32) : Int32 := cif (inR a 8 ∧ inR b 32) (nI (cN has up ch a.toNatClampNeg b.toNatClampNeg)) (-1)
theorem facS_g {has up ch : Nat → Int32} {h v : Nat} (hh : h < 8) (hv : v < 32) : facS has up ch (nI h) (nI v) = nI (cN has up ch h v) := by
  unfold facS
  rw [cif_t ⟨inR_nI hh, inR_nI hv⟩, cl (by omega), cl (by omega)]
-- range
noncomputable def rngN (has up ch : Nat → Int32) (h : Nat) (fr to : Int32) (n : Nat) : Nat := cnt (fun t => (∃ v, v < 32 ∧ fr ≤ nI v ∧ nI v ≤ to ∧ ow has up t h v) ∧ kb has up ch t h) n
noncomputable def rngS (has up ch : Nat → Int32) (a fr to : Int32) : Int32 := cif (inR a 8) (nI (rngN has up ch a.toNatClampNeg fr to 40)) (-1)
theorem rngS_g {has up ch : Nat → Int32} {h : Nat} {fr to : Int32} (hh : h < 8) : rngS has up ch (nI h) fr to = nI (rngN has up ch h fr to 40) := by
  unfold rngS
  rw [cif_t (inR_nI hh), cl (by omega)]
-- sum
noncomputable def sm (f : Nat → Nat) : Nat → Nat
  | 0 => 0
  | n + 1 => sm f n + f n
theorem sm_s (f : Nat → Nat) (n : Nat) : sm f (n + 1) = sm f n + f n := rfl
noncomputable def wsm (has up : Nat → Int32) (t o : Nat) (n : Nat) : Nat := sm (fun v => bN (ow has up t o v) * v) n
noncomputable def sumN (has up ch : Nat → Int32) (h v o : Nat) (n : Nat) : Nat := sm (fun t => bN (ow has up t h v ∧ kb has up ch t 8) * wsm has up t o 32) n
noncomputable def sumS (has up ch : Nat → Int32) (a b c : Int32) : Int32 := cif (inR a 8 ∧ inR b 32 ∧ inR c 8) (nI (sumN has up ch a.toNatClampNeg b.toNatClampNeg c.toNatClampNeg 40)) (-1)
theorem sumS_g {has up ch : Nat → Int32} {h v o : Nat} (hh : h < 8) (hv : v < 32) (ho : o < 8) : sumS has up ch (nI h) (nI v) (nI o) = nI (sumN has up ch h v o 40) := by
  unfold sumS
  rw [cif_t ⟨inR_nI hh, inR_nI hv, inR_nI ho⟩, cl (by omega), cl (by omega), cl (by omega)]
-- top
def bet (C : Nat → Nat) (w v : Nat) : Prop := C v < C w ∨ (C w = C v ∧ w < v)
noncomputable def bef (C : Nat → Nat) (v : Nat) : Nat := cnt (fun o => bet C o v) 32
def topP (C : Nat → Nat) (b : Int32) (v : Nat) : Prop := v < 32 ∧ 0 < C v ∧ nI (bef C v) = b
noncomputable def topG (C : Nat → Nat) (b : Int32) : Int32 := cif (∃ v, topP C b v) (nI (Classical.epsilon (topP C b))) (-1)
noncomputable def topS (has up ch : Nat → Int32) (a b : Int32) : Int32 := cif (inR a 8) (topG (cN has up ch a.toNatClampNeg) b) (-1)
theorem topS_g {has up ch : Nat → Int32} {h : Nat} {b : Int32} (hh : h < 8) : topS has up ch (nI h) b = topG (cN has up ch h) b := by
  unfold topS
  rw [cif_t (inR_nI hh), cl (by omega)]
theorem bet_ir (C : Nat → Nat) (v : Nat) : ¬ bet C v v := by unfold bet; omega
theorem bet_tr {C : Nat → Nat} {a b c : Nat} (h : bet C a b) (h2 : bet C b c) : bet C a c := by unfold bet at *; omega
theorem bet_tot {C : Nat → Nat} {a b : Nat} (h : a ≠ b) : bet C a b ∨ bet C b a := by unfold bet; omega
theorem cnt_more {P P' : Nat → Prop} {v n : Nat} (hv : v < n) (h : ∀ k, k < n → P k → P' k) (hn : ¬ P v) (hy : P' v) : cnt P n + 1 ≤ cnt P' n := by
  have h1 := cnt_one (P := P) (P' := fun k => P k ∨ k = v) (t := v) (fun k hk => ⟨fun q => Or.inl q, fun q => by rcases q with q | q; exact q; exact absurd q hk⟩) hv
  have h2 : cnt (fun k => P k ∨ k = v) n ≤ cnt P' n := cnt_mono (fun k hk q => by
    rcases q with q | q
    · exact h k hk q
    · rw [q]; exact hy)
  rw [bN_f hn, bN_t (p := P v ∨ v = v) (Or.inr rfl)] at h1
  omega
theorem bef_lt {C : Nat → Nat} {a b : Nat} (ha : a < 32) (h : bet C a b) : bef C a < bef C b :=
  cnt_more ha (fun _ _ q => bet_tr q h) (bet_ir C a) h
theorem bef_32 (C : Nat → Nat) {a : Nat} (ha : a < 32) : bef C a < 32 := by
  have h1 := cnt_more (P := fun o => bet C o a) (P' := fun _ => True) ha (fun _ _ _ => trivial) (bet_ir C a) trivial
  have h2 := cnt_le (fun _ => True) 32
  unfold bef
  omega
theorem top_one {C : Nat → Nat} {b : Int32} {v w : Nat} (h : topP C b v) (h2 : topP C b w) : v = w := by
  have e : bef C v = bef C w := (nI_eq (Nat.lt_trans (bef_32 C h.1) (by decide)) (Nat.lt_trans (bef_32 C h2.1) (by decide))).mp (h.2.2.trans h2.2.2.symm)
  by_cases q : v = w
  · exact q
  · rcases bet_tot (C := C) q with r | r
    · have := bef_lt h.1 r; omega
    · have := bef_lt h2.1 r; omega
theorem topG_y {C : Nat → Nat} {b : Int32} {v : Nat} (h : topP C b v) : topG C b = nI v := by
  unfold topG
  rw [cif_t ⟨v, h⟩, top_one (Classical.epsilon_spec ⟨v, h⟩) h]
theorem topG_n {C : Nat → Nat} {b : Int32} (h : ∀ v, ¬ topP C b v) : topG C b = -1 := by
  unfold topG
  rw [cif_f (fun ⟨v, q⟩ => h v q)]
-- changed
noncomputable def cI (has up ch : Nat → Int32) (i : Nat) : Nat := cN has up ch (i / 32) (i % 32)
theorem cI_at {has up ch : Nat → Int32} {h v : Nat} (hv : v < 32) : cI has up ch (32 * h + v) = cN has up ch h v := by
  unfold cI
  rw [show (32 * h + v) / 32 = h by omega, show (32 * h + v) % 32 = v by omega]
noncomputable def chgN (has up ch tol : Nat → Int32) (n : Nat) : Nat := cnt (fun i => ¬ nI (cI has up ch i) = tol i) n
noncomputable def chgT (has up ch tol : Nat → Int32) (n : Nat) : Nat → Int32 := fun i => if i < n then nI (cI has up ch i) else tol i
theorem chgT_s (has up ch tol : Nat → Int32) (n : Nat) : upd (chgT has up ch tol n) n (nI (cI has up ch n)) = chgT has up ch tol (n + 1) := by
  funext i
  by_cases e : i = n
  · subst e
    rw [pk_us]
    exact (if_pos (Nat.lt_succ_self i)).symm
  · rw [pk_un e]
    unfold chgT
    by_cases q : i < n
    · rw [if_pos q, if_pos (by omega)]
    · rw [if_neg q, if_neg (by omega)]
theorem chgT_n {has up ch tol : Nat → Int32} {n i : Nat} (h : n ≤ i) : chgT has up ch tol n i = tol i := if_neg (Nat.not_lt.mpr h)
noncomputable def chgS (has up ch tol : Nat → Int32) (rows : Int32) : Int32 × MS := (nI (chgN has up ch tol 256), has, up, ch, chgT has up ch tol 256, rows)
-- share: none: it throws
noncomputable def shrS (has up ch : Nat → Int32) (a b : Int32) (lower : Prop) : Option Int32 :=
  cif (inR a 8 ∧ inR b 32 ∧ aN has up ch a.toNatClampNeg ≠ 0)
    (some (nI (cif lower (aN has up ch a.toNatClampNeg) (cN has up ch a.toNatClampNeg b.toNatClampNeg) / Nat.gcd (aN has up ch a.toNatClampNeg) (cN has up ch a.toNatClampNeg b.toNatClampNeg)))) none
theorem shrS_g {has up ch : Nat → Int32} {h v : Nat} {lower : Prop} (hh : h < 8) (hv : v < 32) (hn : aN has up ch h ≠ 0) : shrS has up ch (nI h) (nI v) lower = some (nI (cif lower (aN has up ch h) (cN has up ch h v) / Nat.gcd (aN has up ch h) (cN has up ch h v))) := by
  unfold shrS
  rw [cl (by omega), cl (by omega), cif_t ⟨inR_nI hh, inR_nI hv, hn⟩]
theorem shrS_0 {has up ch : Nat → Int32} {h v : Nat} {lower : Prop} (hh : h < 8) (hn : aN has up ch h = 0) : shrS has up ch (nI h) (nI v) lower = none := by
  unfold shrS
  rw [cl (by omega), cif_f (fun q => q.2.2 hn)]
theorem shrS_b {has up ch : Nat → Int32} {a b : Int32} {lower : Prop} (h : ¬ (inR a 8 ∧ inR b 32)) : shrS has up ch a b lower = none := by
  unfold shrS
  rw [cif_f (fun q => h ⟨q.1, q.2.1⟩)]
/-! ===== one thing's row changed ===== -/
section ONE
variable {has has' up ch : Nat → Int32} {t : Nat}
theorem ow_c (H : ∀ h, h < 8 → ∀ v, v < 32 → (hsP has t h v ↔ hsP has' t h v)) {h v : Nat} (hh : h < 8) (hv : v < 32) : ow has up t h v ↔ ow has' up t h v := by
  unfold ow
  constructor
  · rintro (⟨a, k, hk, b, c⟩ | ⟨a, b⟩)
    · exact Or.inl ⟨a, k, hk, (H 0 (by omega) k hk).mp b, c⟩
    · exact Or.inr ⟨a, (H h hh v hv).mp b⟩
  · rintro (⟨a, k, hk, b, c⟩ | ⟨a, b⟩)
    · exact Or.inl ⟨a, k, hk, (H 0 (by omega) k hk).mpr b, c⟩
    · exact Or.inr ⟨a, (H h hh v hv).mpr b⟩
theorem mt_c (H : ∀ h, h < 8 → ∀ v, v < 32 → (hsP has t h v ↔ hsP has' t h v)) {h : Nat} (hh : h < 8) : mt has up ch t h ↔ mt has' up ch t h := by
  unfold mt
  constructor
  · rintro (⟨v, hv, a, b⟩ | a)
    · exact Or.inl ⟨v, hv, a, (ow_c H hh hv).mp b⟩
    · exact Or.inr a
  · rintro (⟨v, hv, a, b⟩ | a)
    · exact Or.inl ⟨v, hv, a, (ow_c H hh hv).mpr b⟩
    · exact Or.inr a
theorem kb_c (H : ∀ h, h < 8 → ∀ v, v < 32 → (hsP has t h v ↔ hsP has' t h v)) {h : Nat} : kb has up ch t h ↔ kb has' up ch t h :=
  ⟨fun q g hg hn => (mt_c H hg).mp (q g hg hn), fun q g hg hn => (mt_c H hg).mpr (q g hg hn)⟩
theorem fN_c (H : ∀ h, h < 8 → ∀ v, v < 32 → (hsP has t h v ↔ hsP has' t h v)) : fN has up ch t = fN has' up ch t :=
  cnt_c (fun _ hk => not_congr (mt_c H hk))
end ONE
theorem hs_upd {has : Nat → Int32} {t h v : Nat} {x : Int32} (hh : h < 8) (hv : v < 32) {t2 : Nat} (ne : t2 ≠ t) : ∀ h2, h2 < 8 → ∀ v2, v2 < 32 → (hsP has t2 h2 v2 ↔ hsP (upd has ((t * 8 + h) * 32 + v) x) t2 h2 v2) := by
  intro h2 hh2 v2 hv2
  unfold hsP
  rw [pk_un (by omega)]
/-- the counts of one thing taken off and given anew -/
theorem one_ar {a b c d : Nat} {x : Int32} (h : a + b = c + d) (hx : x = nI c) : x + nI b * (-1) + nI d * nI 1 = nI a := by
  have h1 : nI a + nI b = nI c + nI d := by rw [nI_add, nI_add, h]
  have h2 : nI d * nI 1 = nI d := by rw [pk_mul, Nat.mul_one]
  rw [h2, hx]
  grind
theorem one_done {has has' up ch fai cou f1 c1 f2 c2 : Nat → Int32} {t : Nat} (ht : t < 40) (H : ∀ t2, t2 ≠ t → ∀ h, h < 8 → ∀ v, v < 32 → (hsP has t2 h v ↔ hsP has' t2 h v)) (hF : rFai fai has up ch) (hC : rCou cou has up ch)
    (h1 : (∀ y, y ≠ t → f1 y = fai y) ∧ f1 t = nI (fN has up ch t) ∧ (∀ h, h < 8 → ∀ v, v < 32 → c1 (32 * h + v) = cou (32 * h + v) + nI (bN (ow has up t h v ∧ kb has up ch t h)) * (-1)))
    (h2 : (∀ y, y ≠ t → f2 y = f1 y) ∧ f2 t = nI (fN has' up ch t) ∧ (∀ h, h < 8 → ∀ v, v < 32 → c2 (32 * h + v) = c1 (32 * h + v) + nI (bN (ow has' up t h v ∧ kb has' up ch t h)) * nI 1)) : rFai f2 has' up ch ∧ rCou c2 has' up ch := by
  constructor
  · intro y hy
    by_cases e : y = t
    · subst e
      exact h2.2.1
    · rw [h2.1 y e, h1.1 y e, hF y hy, fN_c (H y e)]
  · intro h hh v hv
    rw [h2.2.2 h hh v hv, h1.2.2 h hh v hv]
    exact one_ar (cnt_one (P := fun k => ow has up k h v ∧ kb has up ch k h) (P' := fun k => ow has' up k h v ∧ kb has' up ch k h) (fun k hk => and_congr (ow_c (H k hk) hh hv) (kb_c (H k hk))) ht) (hC h hh v hv)
theorem rOwn_set {own has : Nat → Int32} (H : rOwn own has) {t h v : Nat} (hh : h < 8) (hv : v < 32) : rOwn (upd own (8 * t + h) (own (8 * t + h) ||| (nI 1 <<< (nI v &&& 31)))) (upd has ((t * 8 + h) * 32 + v) (nI 1)) := by
  intro t2 ht2 h2 hh2 v2 hv2
  unfold hsP
  by_cases e : t2 = t ∧ h2 = h
  · obtain ⟨rfl, rfl⟩ := e
    rw [pk_us, b_set _ hv hv2]
    by_cases e2 : v2 = v
    · subst e2
      rw [pk_us]
      exact ⟨fun _ => rfl, fun _ => Or.inr rfl⟩
    · rw [pk_un (by omega), H t2 ht2 h2 hh2 v2 hv2]
      exact ⟨fun q => by rcases q with q | q; exact q; exact absurd q e2, fun q => Or.inl q⟩
  · rw [pk_un (by omega), pk_un (by omega)]
    exact H t2 ht2 h2 hh2 v2 hv2
theorem rOwn_clr {own has : Nat → Int32} (H : rOwn own has) {t h v : Nat} (hh : h < 8) (hv : v < 32) : rOwn (upd own (8 * t + h) (own (8 * t + h) &&& ((nI 1 <<< (nI v &&& 31)) ^^^ (-1)))) (upd has ((t * 8 + h) * 32 + v) (nI 0)) := by
  intro t2 ht2 h2 hh2 v2 hv2
  unfold hsP
  by_cases e : t2 = t ∧ h2 = h
  · obtain ⟨rfl, rfl⟩ := e
    rw [pk_us, b_clr _ hv hv2]
    by_cases e2 : v2 = v
    · subst e2
      rw [pk_us]
      exact ⟨fun q => absurd rfl q.2, fun q => absurd q (by decide)⟩
    · rw [pk_un (by omega), H t2 ht2 h2 hh2 v2 hv2]
      exact ⟨fun q => q.1, fun q => ⟨q, e2⟩⟩
  · rw [pk_un (by omega), pk_un (by omega)]
    exact H t2 ht2 h2 hh2 v2 hv2
theorem rCho_set {cho ch : Nat → Int32} (H : rCho cho ch) {h v : Nat} (hv : v < 32) {on : Prop} (q : on) : rCho (upd cho h (cho h ||| (nI 1 <<< (nI v &&& 31)))) (upd ch (32 * h + v) (nI (bN on))) := by
  intro h2 hh2 v2 hv2
  unfold chP
  by_cases e : h2 = h
  · subst e
    rw [pk_us, b_set _ hv hv2]
    by_cases e2 : v2 = v
    · subst e2
      rw [pk_us, bN_t q]
      exact ⟨fun _ => rfl, fun _ => Or.inr rfl⟩
    · rw [pk_un (by omega), H h2 hh2 v2 hv2]
      exact ⟨fun q => by rcases q with q | q; exact q; exact absurd q e2, fun q => Or.inl q⟩
  · rw [pk_un e, pk_un (by omega)]
    exact H h2 hh2 v2 hv2
theorem rCho_clr {cho ch : Nat → Int32} (H : rCho cho ch) {h v : Nat} (hv : v < 32) {on : Prop} (q : ¬ on) : rCho (upd cho h (cho h &&& ((nI 1 <<< (nI v &&& 31)) ^^^ (-1)))) (upd ch (32 * h + v) (nI (bN on))) := by
  intro h2 hh2 v2 hv2
  unfold chP
  by_cases e : h2 = h
  · subst e
    rw [pk_us, b_clr _ hv hv2]
    by_cases e2 : v2 = v
    · subst e2
      rw [pk_us, bN_f q]
      exact ⟨fun q => absurd rfl q.2, fun q => absurd q (by decide)⟩
    · rw [pk_un (by omega), H h2 hh2 v2 hv2]
      exact ⟨fun q => q.1, fun q => ⟨q, e2⟩⟩
  · rw [pk_un e, pk_un (by omega)]
    exact H h2 hh2 v2 hv2
/-- all counts taken off and given anew -/
theorem all_done {has up ch has' up' ch' cou c1 c2 : Nat → Int32} (hC : rCou cou has up ch) (h1 : ∀ h, h < 8 → ∀ v, v < 32 → c1 (32 * h + v) = cou (32 * h + v) + nI (cN has up ch h v) * (-1)) (h2 : ∀ h, h < 8 → ∀ v, v < 32 → c2 (32 * h + v) = c1 (32 * h + v) + nI (cN has' up' ch' h v) * nI 1) : rCou c2 has' up' ch' := by
  intro h hh v hv
  rw [h2 h hh v hv, h1 h hh v hv]
  exact one_ar (Nat.add_comm _ _) (hC h hh v hv)
end
section
set_option maxRecDepth 100000
set_option maxHeartbeats 4000000 in
set_option maxRecDepth 100000 in
theorem met_X1_rows (l : Launch) (D : va_G) (dA dZ : ClassId) (ad : Nat → Nat) (sz : Nat) {own : Nat → Int32} {rows : Int32} {up clo cho fai cou see has ch tol : Nat → Int32} (hR : Rp (own, rows, up, clo, cho, fai, cou, see) (has, up, ch, tol, rows))  : RO l yX1_rows cX1_rows 1 (some .int) rm_X1_rows [.ref (ad 0)] D dA dZ (fcW dA ad own rows up clo cho fai cou see) sz (fun r => r = rows) := by
  refine Met.ofW (cc := cX1_rows) (maxL := 1) (ret := (some .int)) (by decide) rfl ?_
  intro p e s m args below meth c s₁ B hml hv
  obtain ⟨rfl, hsz, hP, hK, hDT⟩ := hv
  have hx := B.exec
  have hb := B.bytes
  have hr := B.returns
  have hts : ∀ w ∈ lw_all, w.before _ s = true := fun w h => atoms_spec (ws := ws_ yX1_rows cX1_rows 1 (some .int)) B.pre w (List.mem_cons_of_mem _ h)
  have hown : s.vm.findClass RX1 = some m.cls := findClass_of_methodNamed B.named
  have hlocks := B.notSynchronized
  subst hsz
  have hS : va_S (fun q => s.heap.size ≤ q) s.heap s.heap [] := va_S.rf
  have hA : ∀ q : Nat, s.heap.size ≤ q → (fun q => s.heap.size ≤ q) q := fun q h => h
  have hl := lv_entry ([.ref (ad 0)]) (n := 1) (Nat.le_of_ble_eq_true rfl)
  rw [lg_entry_eq]
  generalize (lg_sl ([.ref (ad 0)]) ++ List.replicate (1 - (lg_sl ([.ref (ad 0)])).length) Slot.unset).toArray = ls at hl ⊢
  have hl : lv_has ls 1 [(0, .ref (ad 0))] := hl
  have hO : rOwn own has := hR.1
  have hC : rClo clo up := hR.2.2.2.1
  have hH : rCho cho ch := hR.2.2.2.2.1
  have hF : rFai fai has up ch := hR.2.2.2.2.2.1
  have hN : rCou cou has up ch := hR.2.2.2.2.2.2.1
  have hE : ∀ i, i < 256 → see i = tol i := hR.2.2.2.2.2.2.2
  refine lv_aload_n hx hb dX1_rows_0 rfl (lv_at hl 0 rfl) ?_
  refine fc_rows hx hb hts hown hK hP dX1_rows_1 ?_
  exact ro_iret hx hb hr hlocks hS dX1_rows_4 (rfl)

set_option maxHeartbeats 4000000 in
set_option maxRecDepth 100000 in
theorem met_X1_row (l : Launch) (D : va_G) (dA dZ : ClassId) (ad : Nat → Nat) (sz : Nat) {own : Nat → Int32} {rows : Int32} {up clo cho fai cou see has ch tol : Nat → Int32} (hR : Rp (own, rows, up, clo, cho, fai, cou, see) (has, up, ch, tol, rows)) (a b d : Int32) : RW l yX1_row cX1_row 5 (some .int) rm_X1_row [.ref (ad 0), .int a, .int b, .int d] D dA dZ (fcW dA ad own rows up clo cho fai cou see) sz (S := FS) (fun r u => r = (rowS has up ch tol rows a b d).1 ∧ Rp u (rowS has up ch tol rows a b d).2) (fun u => fcU dA ad u) := by
  refine Met.ofW (cc := cX1_row) (maxL := 5) (ret := (some .int)) (by decide) rfl ?_
  intro p e s m args below meth c s₁ B hml hv
  obtain ⟨rfl, hsz, hP, hK, hDT⟩ := hv
  have hx := B.exec
  have hb := B.bytes
  have hr := B.returns
  have hts : ∀ w ∈ lw_all, w.before _ s = true := fun w h => atoms_spec (ws := ws_ yX1_row cX1_row 5 (some .int)) B.pre w (List.mem_cons_of_mem _ h)
  have hown : s.vm.findClass RX1 = some m.cls := findClass_of_methodNamed B.named
  have hlocks := B.notSynchronized
  subst hsz
  have hD := hDT.self (sz := s.heap.size)
  generalize hAe : va_A (fcW dA ad own rows up clo cho fai cou see) s.heap.size = A at hD ⊢
  have hA : ∀ q : Nat, s.heap.size ≤ q → A q := fun q h => by rw [← hAe]; exact Or.inr h
  have hS : va_S A s.heap s.heap [] := va_S.rf
  have hl := lv_entry ([.ref (ad 0), .int a, .int b, .int d]) (n := 5) (Nat.le_of_ble_eq_true rfl)
  rw [lg_entry_eq]
  generalize (lg_sl ([.ref (ad 0), .int a, .int b, .int d]) ++ List.replicate (5 - (lg_sl ([.ref (ad 0), .int a, .int b, .int d])).length) Slot.unset).toArray = ls at hl ⊢
  have hl : lv_has ls 5 [(0, .ref (ad 0)), (1, .int a), (2, .int b), (3, .int d)] := hl
  have hO : rOwn own has := hR.1
  have hC : rClo clo up := hR.2.2.2.1
  have hH : rCho cho ch := hR.2.2.2.2.1
  have hF : rFai fai has up ch := hR.2.2.2.2.2.1
  have hN : rCou cou has up ch := hR.2.2.2.2.2.2.1
  have hE : ∀ i, i < 256 → see i = tol i := hR.2.2.2.2.2.2.2
  refine lv_iload_n hx hb dX1_row_0 rfl (lv_at hl 1 rfl) ?_
  refine lv_iload_n hx hb dX1_row_1 rfl (lv_at hl 2 rfl) ?_
  refine lv_iload_n hx hb dX1_row_2 rfl (lv_at hl 3 rfl) ?_
  refine bw_rs (rest := []) ⟨hx, hb, hml, hown, hts⟩ (met_X1_isRow l _ a b d) (cw_X1_49 hts ⟨Nat.le_of_ble_eq_true rfl, Nat.le_of_ble_eq_true rfl⟩) hP hS hA rfl rfl hl.1 (Nat.le_of_ble_eq_true rfl) dX1_row_3 ⟨Nat.zero_le _, Nat.zero_le _⟩ (fun r1 H locs hv2 hP hS => ?_)
  subst hv2
  refine bw_ifne hx hb (tgt := 11) dX1_row_6 (by decide) (fun c3 => ?_) (fun c3 => ?_)
  · obtain ⟨⟨t, ht, rfl⟩, ⟨h, hh, rfl⟩, ⟨v, hv, rfl⟩⟩ := c3
    refine lv_bipush (v := nI 8) hx hb dX1_row_11 (by decide) ?_
    refine lv_iload_n hx hb dX1_row_13 rfl (lv_at hl 1 rfl) ?_
    refine bw_mul hx hb dX1_row_14 ?_
    refine lv_iload_n hx hb dX1_row_15 rfl (lv_at hl 2 rfl) ?_
    refine bw_add hx hb dX1_row_16 ?_
    refine lv_istore (lv' := [(4, .int (nI ((8 * t) + h))), (0, .ref (ad 0)), (1, .int (nI t)), (2, .int (nI h)), (3, .int (nI v))]) hx hb dX1_row_17 hl (by decide) rfl (fun ls hl => ?_)
    refine lv_aload_n hx hb dX1_row_19 rfl (lv_at hl 1 rfl) ?_
    refine fc_own hx hb hts hown hK hP dX1_row_20 ?_
    refine lv_iload hx hb dX1_row_23 (lv_at hl 0 rfl) ?_
    refine bw_iald hx hb hK hP 1 rfl (((8 * t) + h)) (by omega) (by decide) dX1_row_25 ?_
    refine lv_iload_n hx hb dX1_row_26 rfl (lv_at hl 4 rfl) ?_
    refine lv_ishr hx hb dX1_row_27 ?_
    refine lv_iconst (v := nI 1) hx hb dX1_row_28 (by decide) ?_
    refine lv_iand hx hb dX1_row_29 ?_
    refine bw_top (y := nI (bN (bt (own (8 * t + h)) v = true))) (b_test _ hv) ?_
    refine lv_iconst (v := nI 1) hx hb dX1_row_30 (by decide) ?_
    refine bw_ne1 hx hb (tgt := 36) dX1_row_31 (by decide) (fun c4 => ?_) (fun c4 => ?_)
    · refine lv_aload_n hx hb dX1_row_36 rfl (lv_at hl 1 rfl) ?_
      refine fc_rows hx hb hts hown hK hP dX1_row_37 ?_
      refine lv_sipush (v := nI 300) hx hb dX1_row_40 (by decide) ?_
      refine lv_icmp_ne hx hb (tgt := 49) dX1_row_43 (by decide) (fun c5 => ?_) (fun c5 => ?_)
      · refine lv_aload_n hx hb dX1_row_49 rfl (lv_at hl 1 rfl) ?_
        refine lv_iload_n hx hb dX1_row_50 rfl (lv_at hl 2 rfl) ?_
        refine lv_iconst (v := (-1)) hx hb dX1_row_51 (by decide) ?_
        refine bw_rv (rest := []) ⟨hx, hb, hml, hown, hts⟩ (met_X1_weigh l D dA dZ ad _ hO hC hH t ht (-1) (Or.inr ⟨rfl, hF t ht⟩)) (cw_X1_45 hts ⟨Nat.le_of_ble_eq_true rfl, Nat.le_of_ble_eq_true rfl⟩) (va_recv hK hP (ci := 0) (q0 := 0) rfl rfl) hK hP hD hS hA rfl rfl hl.1 (Nat.le_of_ble_eq_true rfl) dX1_row_52 ⟨Nat.zero_le _, Nat.zero_le _⟩ (fun u6 H locs hv7 hP hD hS => ?_)
        refine lv_aload_n hx hb dX1_row_55 rfl (lv_at hl 1 rfl) ?_
        refine fc_own hx hb hts hown hK hP dX1_row_56 ?_
        refine lv_iload hx hb dX1_row_59 (lv_at hl 0 rfl) ?_
        refine lv_dup2_11 hx hb dX1_row_61 rfl rfl ?_
        refine bw_iald hx hb hK hP 1 rfl (((8 * t) + h)) (by omega) (by decide) dX1_row_62 ?_
        refine lv_iconst (v := nI 1) hx hb dX1_row_63 (by decide) ?_
        refine lv_iload_n hx hb dX1_row_64 rfl (lv_at hl 4 rfl) ?_
        refine lv_ishl hx hb dX1_row_65 ?_
        refine lv_ior hx hb dX1_row_66 ?_
        refine bw_iast hx hb hK hP hD hS 1 rfl (((8 * t) + h)) (by omega) (by decide) dX1_row_67 (fun H locs hP hD hS => ?_)
        have hP : va_P D vwCl (fcW dA ad (upd own (((8 * t) + h)) ((own (((8 * t) + h))) ||| ((nI 1) <<< ((nI v) &&& 31)))) rows up clo cho u6.1 u6.2 see) H := hP
        have hD : va_D A (fcW dA ad (upd own (((8 * t) + h)) ((own (((8 * t) + h))) ||| ((nI 1) <<< ((nI v) &&& 31)))) rows up clo cho u6.1 u6.2 see) := hD
        refine lv_aload_n hx hb dX1_row_68 rfl (lv_at hl 1 rfl) ?_
        refine lv_dup hx hb dX1_row_69 rfl ?_
        refine fc_rows hx hb hts hown hK hP dX1_row_70 ?_
        refine lv_iconst (v := nI 1) hx hb dX1_row_73 (by decide) ?_
        refine lv_iadd hx hb dX1_row_74 ?_
        refine fc_put_rows hx hb hts hown hK hP hD hS dX1_row_75 (fun H locs hP hD hS => ?_)
        refine lv_aload_n hx hb dX1_row_78 rfl (lv_at hl 1 rfl) ?_
        refine lv_iload_n hx hb dX1_row_79 rfl (lv_at hl 2 rfl) ?_
        refine lv_iconst (v := nI 1) hx hb dX1_row_80 (by decide) ?_
        refine bw_rv (rest := []) ⟨hx, hb, hml, hown, hts⟩ (met_X1_weigh l D dA dZ ad _ (rOwn_set hO hh hv) hC hH t ht (nI 1) (Or.inl rfl)) (cw_X1_45 hts ⟨Nat.le_of_ble_eq_true rfl, Nat.le_of_ble_eq_true rfl⟩) (va_recv hK hP (ci := 0) (q0 := 0) rfl rfl) hK hP hD hS hA rfl rfl hl.1 (Nat.le_of_ble_eq_true rfl) dX1_row_81 ⟨Nat.zero_le _, Nat.zero_le _⟩ (fun u8 H locs hv9 hP hD hS => ?_)
        refine lv_iconst (v := nI 1) hx hb dX1_row_84 (by decide) ?_
        have hD9 := one_done ht (fun t2 ne => hs_upd hh hv ne) hF hN hv7 hv9
        exact rw_iret ((upd own (((8 * t) + h)) ((own (((8 * t) + h))) ||| ((nI 1) <<< ((nI v) &&& 31))), rows + (nI 1), up, clo, cho, u8.1, u8.2, see)) hx hb hr hlocks hP hD hS dX1_row_85 (by rw [rowS_g ht hh hv, rowG, cif_f (fun q => c4 ((hO t ht h hh v hv).mpr q)), cif_f c5]; exact ⟨rfl, rOwn_set hO hh hv, rfl, rfl, hC, hH, hD9.1, hD9.2, hE⟩)
      · refine lv_bipush (v := (-2)) hx hb dX1_row_46 (by decide) ?_
        exact rw_iret ((own, rows, up, clo, cho, fai, cou, see)) hx hb hr hlocks hP hD hS dX1_row_48 (by rw [rowS_g ht hh hv, rowG, cif_f (fun q => c4 ((hO t ht h hh v hv).mpr q)), cif_t c5]; exact ⟨rfl, hR⟩)
    · refine lv_iconst (v := nI 0) hx hb dX1_row_34 (by decide) ?_
      exact rw_iret ((own, rows, up, clo, cho, fai, cou, see)) hx hb hr hlocks hP hD hS dX1_row_35 (by rw [rowS_g ht hh hv, rowG, cif_t ((hO t ht h hh v hv).mp c4)]; exact ⟨rfl, hR⟩)
  · refine lv_iconst (v := (-1)) hx hb dX1_row_9 (by decide) ?_
    exact rw_iret ((own, rows, up, clo, cho, fai, cou, see)) hx hb hr hlocks hP hD hS dX1_row_10 (by unfold rowS; rw [cif_f c3]; exact ⟨rfl, hR⟩)

set_option maxHeartbeats 4000000 in
set_option maxRecDepth 100000 in
theorem met_X1_drop (l : Launch) (D : va_G) (dA dZ : ClassId) (ad : Nat → Nat) (sz : Nat) {own : Nat → Int32} {rows : Int32} {up clo cho fai cou see has ch tol : Nat → Int32} (hR : Rp (own, rows, up, clo, cho, fai, cou, see) (has, up, ch, tol, rows)) (a b d : Int32) : RW l yX1_drop cX1_drop 5 (some .int) rm_X1_drop [.ref (ad 0), .int a, .int b, .int d] D dA dZ (fcW dA ad own rows up clo cho fai cou see) sz (S := FS) (fun r u => r = (dropS has up ch tol rows a b d).1 ∧ Rp u (dropS has up ch tol rows a b d).2) (fun u => fcU dA ad u) := by
  refine Met.ofW (cc := cX1_drop) (maxL := 5) (ret := (some .int)) (by decide) rfl ?_
  intro p e s m args below meth c s₁ B hml hv
  obtain ⟨rfl, hsz, hP, hK, hDT⟩ := hv
  have hx := B.exec
  have hb := B.bytes
  have hr := B.returns
  have hts : ∀ w ∈ lw_all, w.before _ s = true := fun w h => atoms_spec (ws := ws_ yX1_drop cX1_drop 5 (some .int)) B.pre w (List.mem_cons_of_mem _ h)
  have hown : s.vm.findClass RX1 = some m.cls := findClass_of_methodNamed B.named
  have hlocks := B.notSynchronized
  subst hsz
  have hD := hDT.self (sz := s.heap.size)
  generalize hAe : va_A (fcW dA ad own rows up clo cho fai cou see) s.heap.size = A at hD ⊢
  have hA : ∀ q : Nat, s.heap.size ≤ q → A q := fun q h => by rw [← hAe]; exact Or.inr h
  have hS : va_S A s.heap s.heap [] := va_S.rf
  have hl := lv_entry ([.ref (ad 0), .int a, .int b, .int d]) (n := 5) (Nat.le_of_ble_eq_true rfl)
  rw [lg_entry_eq]
  generalize (lg_sl ([.ref (ad 0), .int a, .int b, .int d]) ++ List.replicate (5 - (lg_sl ([.ref (ad 0), .int a, .int b, .int d])).length) Slot.unset).toArray = ls at hl ⊢
  have hl : lv_has ls 5 [(0, .ref (ad 0)), (1, .int a), (2, .int b), (3, .int d)] := hl
  have hO : rOwn own has := hR.1
  have hC : rClo clo up := hR.2.2.2.1
  have hH : rCho cho ch := hR.2.2.2.2.1
  have hF : rFai fai has up ch := hR.2.2.2.2.2.1
  have hN : rCou cou has up ch := hR.2.2.2.2.2.2.1
  have hE : ∀ i, i < 256 → see i = tol i := hR.2.2.2.2.2.2.2
  refine lv_iload_n hx hb dX1_drop_0 rfl (lv_at hl 1 rfl) ?_
  refine lv_iload_n hx hb dX1_drop_1 rfl (lv_at hl 2 rfl) ?_
  refine lv_iload_n hx hb dX1_drop_2 rfl (lv_at hl 3 rfl) ?_
  refine bw_rs (rest := []) ⟨hx, hb, hml, hown, hts⟩ (met_X1_isRow l _ a b d) (cw_X1_49 hts ⟨Nat.le_of_ble_eq_true rfl, Nat.le_of_ble_eq_true rfl⟩) hP hS hA rfl rfl hl.1 (Nat.le_of_ble_eq_true rfl) dX1_drop_3 ⟨Nat.zero_le _, Nat.zero_le _⟩ (fun r1 H locs hv2 hP hS => ?_)
  subst hv2
  refine bw_ifne hx hb (tgt := 11) dX1_drop_6 (by decide) (fun c3 => ?_) (fun c3 => ?_)
  · obtain ⟨⟨t, ht, rfl⟩, ⟨h, hh, rfl⟩, ⟨v, hv, rfl⟩⟩ := c3
    refine lv_bipush (v := nI 8) hx hb dX1_drop_11 (by decide) ?_
    refine lv_iload_n hx hb dX1_drop_13 rfl (lv_at hl 1 rfl) ?_
    refine bw_mul hx hb dX1_drop_14 ?_
    refine lv_iload_n hx hb dX1_drop_15 rfl (lv_at hl 2 rfl) ?_
    refine bw_add hx hb dX1_drop_16 ?_
    refine lv_istore (lv' := [(4, .int (nI ((8 * t) + h))), (0, .ref (ad 0)), (1, .int (nI t)), (2, .int (nI h)), (3, .int (nI v))]) hx hb dX1_drop_17 hl (by decide) rfl (fun ls hl => ?_)
    refine lv_aload_n hx hb dX1_drop_19 rfl (lv_at hl 1 rfl) ?_
    refine fc_own hx hb hts hown hK hP dX1_drop_20 ?_
    refine lv_iload hx hb dX1_drop_23 (lv_at hl 0 rfl) ?_
    refine bw_iald hx hb hK hP 1 rfl (((8 * t) + h)) (by omega) (by decide) dX1_drop_25 ?_
    refine lv_iload_n hx hb dX1_drop_26 rfl (lv_at hl 4 rfl) ?_
    refine lv_ishr hx hb dX1_drop_27 ?_
    refine lv_iconst (v := nI 1) hx hb dX1_drop_28 (by decide) ?_
    refine lv_iand hx hb dX1_drop_29 ?_
    refine bw_top (y := nI (bN (bt (own (8 * t + h)) v = true))) (b_test _ hv) ?_
    refine bw_ifne hx hb (tgt := 35) dX1_drop_30 (by decide) (fun c4 => ?_) (fun c4 => ?_)
    · refine lv_aload_n hx hb dX1_drop_35 rfl (lv_at hl 1 rfl) ?_
      refine lv_iload_n hx hb dX1_drop_36 rfl (lv_at hl 2 rfl) ?_
      refine lv_iconst (v := (-1)) hx hb dX1_drop_37 (by decide) ?_
      refine bw_rv (rest := []) ⟨hx, hb, hml, hown, hts⟩ (met_X1_weigh l D dA dZ ad _ hO hC hH t ht (-1) (Or.inr ⟨rfl, hF t ht⟩)) (cw_X1_45 hts ⟨Nat.le_of_ble_eq_true rfl, Nat.le_of_ble_eq_true rfl⟩) (va_recv hK hP (ci := 0) (q0 := 0) rfl rfl) hK hP hD hS hA rfl rfl hl.1 (Nat.le_of_ble_eq_true rfl) dX1_drop_38 ⟨Nat.zero_le _, Nat.zero_le _⟩ (fun u5 H locs hv6 hP hD hS => ?_)
      refine lv_aload_n hx hb dX1_drop_41 rfl (lv_at hl 1 rfl) ?_
      refine fc_own hx hb hts hown hK hP dX1_drop_42 ?_
      refine lv_iload hx hb dX1_drop_45 (lv_at hl 0 rfl) ?_
      refine lv_dup2_11 hx hb dX1_drop_47 rfl rfl ?_
      refine bw_iald hx hb hK hP 1 rfl (((8 * t) + h)) (by omega) (by decide) dX1_drop_48 ?_
      refine lv_iconst (v := nI 1) hx hb dX1_drop_49 (by decide) ?_
      refine lv_iload_n hx hb dX1_drop_50 rfl (lv_at hl 4 rfl) ?_
      refine lv_ishl hx hb dX1_drop_51 ?_
      refine lv_iconst (v := (-1)) hx hb dX1_drop_52 (by decide) ?_
      refine lv_ixor hx hb dX1_drop_53 ?_
      refine lv_iand hx hb dX1_drop_54 ?_
      refine bw_iast hx hb hK hP hD hS 1 rfl (((8 * t) + h)) (by omega) (by decide) dX1_drop_55 (fun H locs hP hD hS => ?_)
      have hP : va_P D vwCl (fcW dA ad (upd own (((8 * t) + h)) ((own (((8 * t) + h))) &&& (((nI 1) <<< ((nI v) &&& 31)) ^^^ ((-1))))) rows up clo cho u5.1 u5.2 see) H := hP
      have hD : va_D A (fcW dA ad (upd own (((8 * t) + h)) ((own (((8 * t) + h))) &&& (((nI 1) <<< ((nI v) &&& 31)) ^^^ ((-1))))) rows up clo cho u5.1 u5.2 see) := hD
      refine lv_aload_n hx hb dX1_drop_56 rfl (lv_at hl 1 rfl) ?_
      refine lv_dup hx hb dX1_drop_57 rfl ?_
      refine fc_rows hx hb hts hown hK hP dX1_drop_58 ?_
      refine lv_iconst (v := nI 1) hx hb dX1_drop_61 (by decide) ?_
      refine lv_isub hx hb dX1_drop_62 ?_
      refine fc_put_rows hx hb hts hown hK hP hD hS dX1_drop_63 (fun H locs hP hD hS => ?_)
      refine lv_aload_n hx hb dX1_drop_66 rfl (lv_at hl 1 rfl) ?_
      refine lv_iload_n hx hb dX1_drop_67 rfl (lv_at hl 2 rfl) ?_
      refine lv_iconst (v := nI 1) hx hb dX1_drop_68 (by decide) ?_
      refine bw_rv (rest := []) ⟨hx, hb, hml, hown, hts⟩ (met_X1_weigh l D dA dZ ad _ (rOwn_clr hO hh hv) hC hH t ht (nI 1) (Or.inl rfl)) (cw_X1_45 hts ⟨Nat.le_of_ble_eq_true rfl, Nat.le_of_ble_eq_true rfl⟩) (va_recv hK hP (ci := 0) (q0 := 0) rfl rfl) hK hP hD hS hA rfl rfl hl.1 (Nat.le_of_ble_eq_true rfl) dX1_drop_69 ⟨Nat.zero_le _, Nat.zero_le _⟩ (fun u7 H locs hv8 hP hD hS => ?_)
      refine lv_iconst (v := nI 1) hx hb dX1_drop_72 (by decide) ?_
      have hD9 := one_done ht (fun t2 ne => hs_upd hh hv ne) hF hN hv6 hv8
      exact rw_iret ((upd own (((8 * t) + h)) ((own (((8 * t) + h))) &&& (((nI 1) <<< ((nI v) &&& 31)) ^^^ ((-1)))), rows - (nI 1), up, clo, cho, u7.1, u7.2, see)) hx hb hr hlocks hP hD hS dX1_drop_73 (by rw [dropS_g ht hh hv, dropG, cif_t ((hO t ht h hh v hv).mp c4)]; exact ⟨rfl, rOwn_clr hO hh hv, rfl, rfl, hC, hH, hD9.1, hD9.2, hE⟩)
    · refine lv_iconst (v := nI 0) hx hb dX1_drop_33 (by decide) ?_
      exact rw_iret ((own, rows, up, clo, cho, fai, cou, see)) hx hb hr hlocks hP hD hS dX1_drop_34 (by rw [dropS_g ht hh hv, dropG, cif_f (fun q => c4 ((hO t ht h hh v hv).mpr q))]; exact ⟨rfl, hR⟩)
  · refine lv_iconst (v := (-1)) hx hb dX1_drop_9 (by decide) ?_
    exact rw_iret ((own, rows, up, clo, cho, fai, cou, see)) hx hb hr hlocks hP hD hS dX1_drop_10 (by unfold dropS; rw [cif_f c3]; exact ⟨rfl, hR⟩)

set_option maxHeartbeats 4000000 in
set_option maxRecDepth 100000 in
theorem met_X1_kept (l : Launch) (D : va_G) (dA dZ : ClassId) (ad : Nat → Nat) (sz : Nat) {own : Nat → Int32} {rows : Int32} {up clo cho fai cou see has ch tol : Nat → Int32} (hR : Rp (own, rows, up, clo, cho, fai, cou, see) (has, up, ch, tol, rows))  : RO l yX1_kept cX1_kept 3 (some .int) rm_X1_kept [.ref (ad 0)] D dA dZ (fcW dA ad own rows up clo cho fai cou see) sz (fun r => r = nI (aN has up ch 8)) := by
  refine Met.ofW (cc := cX1_kept) (maxL := 3) (ret := (some .int)) (by decide) rfl ?_
  intro p e s m args below meth c s₁ B hml hv
  obtain ⟨rfl, hsz, hP, hK, hDT⟩ := hv
  have hx := B.exec
  have hb := B.bytes
  have hr := B.returns
  have hts : ∀ w ∈ lw_all, w.before _ s = true := fun w h => atoms_spec (ws := ws_ yX1_kept cX1_kept 3 (some .int)) B.pre w (List.mem_cons_of_mem _ h)
  have hown : s.vm.findClass RX1 = some m.cls := findClass_of_methodNamed B.named
  have hlocks := B.notSynchronized
  subst hsz
  have hS : va_S (fun q => s.heap.size ≤ q) s.heap s.heap [] := va_S.rf
  have hA : ∀ q : Nat, s.heap.size ≤ q → (fun q => s.heap.size ≤ q) q := fun q h => h
  have hl := lv_entry ([.ref (ad 0)]) (n := 3) (Nat.le_of_ble_eq_true rfl)
  rw [lg_entry_eq]
  generalize (lg_sl ([.ref (ad 0)]) ++ List.replicate (3 - (lg_sl ([.ref (ad 0)])).length) Slot.unset).toArray = ls at hl ⊢
  have hl : lv_has ls 3 [(0, .ref (ad 0))] := hl
  have hO : rOwn own has := hR.1
  have hC : rClo clo up := hR.2.2.2.1
  have hH : rCho cho ch := hR.2.2.2.2.1
  have hF : rFai fai has up ch := hR.2.2.2.2.2.1
  have hN : rCou cou has up ch := hR.2.2.2.2.2.2.1
  have hE : ∀ i, i < 256 → see i = tol i := hR.2.2.2.2.2.2.2
  refine lv_iconst (v := nI 0) hx hb dX1_kept_0 (by decide) ?_
  refine lv_istore_n (lv' := [(1, .int (nI 0)), (0, .ref (ad 0))]) hx hb dX1_kept_1 rfl hl (by decide) rfl (fun ls hl => ?_)
  refine lv_iconst (v := nI 0) hx hb dX1_kept_2 (by decide) ?_
  refine lv_istore_n (lv' := [(2, .int (nI 0)), (1, .int (nI 0)), (0, .ref (ad 0))]) hx hb dX1_kept_3 rfl hl (by decide) rfl (fun ls hl => ?_)
  refine w_loop (σ := Unit) 40 (fun j x H locs ls => lv_has ls 3 [(0, .ref (ad 0)), (1, .int (nI (cnt (fun t => kb has up ch t 8) j))), (2, .int (nI j))] ∧ va_P D vwCl (fcW dA ad own rows up clo cho fai cou see) H ∧ va_S (fun q => s.heap.size ≤ q) s.heap H locs ∧ (True)) ?_ ?_ 0 () _ _ _ (by omega) ⟨lv_sub hl [2, 1, 0] rfl, hP, hS, trivial⟩
  · intro j x H locs ls hj hI hk1
    obtain ⟨hl, hP, hS, hI⟩ := hI
    refine lv_iload_n hx hb dX1_kept_4 rfl (lv_at hl 2 rfl) ?_
    refine lv_bipush (v := nI 40) hx hb dX1_kept_5 (by decide) ?_
    refine bw_ge (by omega) (by omega) hx hb (tgt := 33) dX1_kept_7 (by decide) (fun c2 => ?_) (fun c2 => ?_)
    · exact absurd c2 (by omega)
    · refine lv_iload_n hx hb dX1_kept_10 rfl (lv_at hl 1 rfl) ?_
      refine lv_aload_n hx hb dX1_kept_11 rfl (lv_at hl 0 rfl) ?_
      refine fc_fails hx hb hts hown hK hP dX1_kept_12 ?_
      refine lv_iload_n hx hb dX1_kept_15 rfl (lv_at hl 2 rfl) ?_
      refine bw_iald hx hb hK hP 5 rfl j (by omega) (by decide) dX1_kept_16 ?_
      refine bw_top (y := nI (fN has up ch j)) (hF j hj) ?_
      have hfle := fN_le has up ch j
      refine w_cut 25 ls [.int (nI (cnt (fun t => kb has up ch t 8) j))] (fun v => v = nI (bN (kb has up ch j 8))) (fun K3 => ?_) (fun v4 hv5 => ?_)
      · refine bw_ifn (by omega) hx hb (tgt := 24) dX1_kept_17 (by decide) (fun c6 => ?_) (fun c6 => ?_)
        · refine lv_iconst (v := nI 0) hx hb dX1_kept_24 (by decide) ?_
          exact K3 _ (by rw [bN_f (fun q => by have := kb_8.mp q; omega)])
        · refine lv_iconst (v := nI 1) hx hb dX1_kept_20 (by decide) ?_
          refine lv_goto (tgt := 25) hx hb dX1_kept_21 (by decide) ?_
          exact K3 _ (by rw [bN_t (kb_8.mpr c6)])
      · subst hv5
        refine bw_add hx hb dX1_kept_25 ?_
        refine lv_istore_n (lv' := [(1, .int (nI ((cnt (fun t => kb has up ch t 8) j) + (bN (kb has up ch j 8))))), (0, .ref (ad 0)), (2, .int (nI j))]) hx hb dX1_kept_26 rfl hl (by decide) rfl (fun ls hl => ?_)
        refine lv_iinc (v := nI (j + 1)) (lv' := [(2, .int (nI (j + 1))), (1, .int (nI ((cnt (fun t => kb has up ch t 8) j) + (bN (kb has up ch j 8))))), (0, .ref (ad 0))]) hx hb dX1_kept_27 hl (k := 2) rfl (inc1 _) (by decide) rfl (fun ls hl => ?_)
        refine lv_goto (tgt := 4) hx hb dX1_kept_30 (by decide) ?_
        exact hk1 () _ _ _ ⟨lv_sub hl [2, 1, 0] rfl, hP, hS, trivial⟩
  · intro x H locs ls hI
    obtain ⟨hl, hP, hS, hI⟩ := hI
    refine lv_iload_n hx hb dX1_kept_4 rfl (lv_at hl 2 rfl) ?_
    refine lv_bipush (v := nI 40) hx hb dX1_kept_5 (by decide) ?_
    refine bw_ge (by omega) (by omega) hx hb (tgt := 33) dX1_kept_7 (by decide) (fun c7 => ?_) (fun c7 => ?_)
    · refine lv_iload_n hx hb dX1_kept_33 rfl (lv_at hl 1 rfl) ?_
      exact ro_iret hx hb hr hlocks hS dX1_kept_34 (rfl)
    · exact absurd c7 (by omega)

set_option maxHeartbeats 4000000 in
set_option maxRecDepth 100000 in
theorem met_X1_isKept (l : Launch) (D : va_G) (dA dZ : ClassId) (ad : Nat → Nat) (sz : Nat) {own : Nat → Int32} {rows : Int32} {up clo cho fai cou see has ch tol : Nat → Int32} (hR : Rp (own, rows, up, clo, cho, fai, cou, see) (has, up, ch, tol, rows)) (a : Int32) : RO l yX1_isKept cX1_isKept 2 (some .int) rm_X1_isKept [.ref (ad 0), .int a] D dA dZ (fcW dA ad own rows up clo cho fai cou see) sz (fun r => r = isKS has up ch a) := by
  refine Met.ofW (cc := cX1_isKept) (maxL := 2) (ret := (some .int)) (by decide) rfl ?_
  intro p e s m args below meth c s₁ B hml hv
  obtain ⟨rfl, hsz, hP, hK, hDT⟩ := hv
  have hx := B.exec
  have hb := B.bytes
  have hr := B.returns
  have hts : ∀ w ∈ lw_all, w.before _ s = true := fun w h => atoms_spec (ws := ws_ yX1_isKept cX1_isKept 2 (some .int)) B.pre w (List.mem_cons_of_mem _ h)
  have hown : s.vm.findClass RX1 = some m.cls := findClass_of_methodNamed B.named
  have hlocks := B.notSynchronized
  subst hsz
  have hS : va_S (fun q => s.heap.size ≤ q) s.heap s.heap [] := va_S.rf
  have hA : ∀ q : Nat, s.heap.size ≤ q → (fun q => s.heap.size ≤ q) q := fun q h => h
  have hl := lv_entry ([.ref (ad 0), .int a]) (n := 2) (Nat.le_of_ble_eq_true rfl)
  rw [lg_entry_eq]
  generalize (lg_sl ([.ref (ad 0), .int a]) ++ List.replicate (2 - (lg_sl ([.ref (ad 0), .int a])).length) Slot.unset).toArray = ls at hl ⊢
  have hl : lv_has ls 2 [(0, .ref (ad 0)), (1, .int a)] := hl
  have hO : rOwn own has := hR.1
  have hC : rClo clo up := hR.2.2.2.1
  have hH : rCho cho ch := hR.2.2.2.2.1
  have hF : rFai fai has up ch := hR.2.2.2.2.2.1
  have hN : rCou cou has up ch := hR.2.2.2.2.2.2.1
  have hE : ∀ i, i < 256 → see i = tol i := hR.2.2.2.2.2.2.2
  refine lv_iload_n hx hb dX1_isKept_0 rfl (lv_at hl 1 rfl) ?_
  refine lv_bipush (v := nI 40) hx hb dX1_isKept_1 (by decide) ?_
  refine bw_rs (rest := []) ⟨hx, hb, hml, hown, hts⟩ (met_X1_isIn l _ a 40 (by decide)) (cw_X1_31 hts ⟨Nat.le_of_ble_eq_true rfl, Nat.le_of_ble_eq_true rfl⟩) hP hS hA rfl rfl hl.1 (Nat.le_of_ble_eq_true rfl) dX1_isKept_3 ⟨Nat.zero_le _, Nat.zero_le _⟩ (fun r1 H locs hv2 hP hS => ?_)
  subst hv2
  refine bw_ifne hx hb (tgt := 13) dX1_isKept_6 (by decide) (fun c3 => ?_) (fun c3 => ?_)
  · obtain ⟨t, ht, rfl⟩ := c3
    refine lv_aload_n hx hb dX1_isKept_13 rfl (lv_at hl 0 rfl) ?_
    refine fc_fails hx hb hts hown hK hP dX1_isKept_14 ?_
    refine lv_iload_n hx hb dX1_isKept_17 rfl (lv_at hl 1 rfl) ?_
    refine bw_iald hx hb hK hP 5 rfl t (by omega) (by decide) dX1_isKept_18 ?_
    refine bw_top (y := nI (fN has up ch t)) (hF t ht) ?_
    have hfle := fN_le has up ch t
    refine bw_ifn (by omega) hx hb (tgt := 26) dX1_isKept_19 (by decide) (fun c4 => ?_) (fun c4 => ?_)
    · refine lv_iconst (v := nI 0) hx hb dX1_isKept_26 (by decide) ?_
      exact ro_iret hx hb hr hlocks hS dX1_isKept_27 (by rw [isKS_g ht, bN_f (fun q => by have := kb_8.mp q; omega)])
    · refine lv_iconst (v := nI 1) hx hb dX1_isKept_22 (by decide) ?_
      refine lv_goto (tgt := 27) hx hb dX1_isKept_23 (by decide) ?_
      exact ro_iret hx hb hr hlocks hS dX1_isKept_27 (by rw [isKS_g ht, bN_t (kb_8.mpr c4)])
  · refine lv_iconst (v := (-1)) hx hb dX1_isKept_9 (by decide) ?_
    refine lv_goto (tgt := 27) hx hb dX1_isKept_10 (by decide) ?_
    exact ro_iret hx hb hr hlocks hS dX1_isKept_27 (by unfold isKS; rw [cif_f c3])

set_option maxHeartbeats 4000000 in
set_option maxRecDepth 100000 in
theorem met_X1_facet (l : Launch) (D : va_G) (dA dZ : ClassId) (ad : Nat → Nat) (sz : Nat) {own : Nat → Int32} {rows : Int32} {up clo cho fai cou see has ch tol : Nat → Int32} (hR : Rp (own, rows, up, clo, cho, fai, cou, see) (has, up, ch, tol, rows)) (a b : Int32) : RO l yX1_facet cX1_facet 3 (some .int) rm_X1_facet [.ref (ad 0), .int a, .int b] D dA dZ (fcW dA ad own rows up clo cho fai cou see) sz (fun r => r = facS has up ch a b) := by
  refine Met.ofW (cc := cX1_facet) (maxL := 3) (ret := (some .int)) (by decide) rfl ?_
  intro p e s m args below meth c s₁ B hml hv
  obtain ⟨rfl, hsz, hP, hK, hDT⟩ := hv
  have hx := B.exec
  have hb := B.bytes
  have hr := B.returns
  have hts : ∀ w ∈ lw_all, w.before _ s = true := fun w h => atoms_spec (ws := ws_ yX1_facet cX1_facet 3 (some .int)) B.pre w (List.mem_cons_of_mem _ h)
  have hown : s.vm.findClass RX1 = some m.cls := findClass_of_methodNamed B.named
  have hlocks := B.notSynchronized
  subst hsz
  have hS : va_S (fun q => s.heap.size ≤ q) s.heap s.heap [] := va_S.rf
  have hA : ∀ q : Nat, s.heap.size ≤ q → (fun q => s.heap.size ≤ q) q := fun q h => h
  have hl := lv_entry ([.ref (ad 0), .int a, .int b]) (n := 3) (Nat.le_of_ble_eq_true rfl)
  rw [lg_entry_eq]
  generalize (lg_sl ([.ref (ad 0), .int a, .int b]) ++ List.replicate (3 - (lg_sl ([.ref (ad 0), .int a, .int b])).length) Slot.unset).toArray = ls at hl ⊢
  have hl : lv_has ls 3 [(0, .ref (ad 0)), (1, .int a), (2, .int b)] := hl
  have hO : rOwn own has := hR.1
  have hC : rClo clo up := hR.2.2.2.1
  have hH : rCho cho ch := hR.2.2.2.2.1
  have hF : rFai fai has up ch := hR.2.2.2.2.2.1
  have hN : rCou cou has up ch := hR.2.2.2.2.2.2.1
  have hE : ∀ i, i < 256 → see i = tol i := hR.2.2.2.2.2.2.2
  refine lv_iload_n hx hb dX1_facet_0 rfl (lv_at hl 1 rfl) ?_
  refine lv_bipush (v := nI 8) hx hb dX1_facet_1 (by decide) ?_
  refine bw_rs (rest := []) ⟨hx, hb, hml, hown, hts⟩ (met_X1_isIn l _ a 8 (by decide)) (cw_X1_31 hts ⟨Nat.le_of_ble_eq_true rfl, Nat.le_of_ble_eq_true rfl⟩) hP hS hA rfl rfl hl.1 (Nat.le_of_ble_eq_true rfl) dX1_facet_3 ⟨Nat.zero_le _, Nat.zero_le _⟩ (fun r1 H locs hv2 hP hS => ?_)
  subst hv2
  refine bw_ifeq hx hb (tgt := 32) dX1_facet_6 (by decide) (fun c3 => ?_) (fun c3 => ?_)
  · refine lv_iconst (v := (-1)) hx hb dX1_facet_32 (by decide) ?_
    exact ro_iret hx hb hr hlocks hS dX1_facet_33 (by unfold facS; rw [cif_f (fun q => c3 q.1)])
  · refine lv_iload_n hx hb dX1_facet_9 rfl (lv_at hl 2 rfl) ?_
    refine lv_bipush (v := nI 32) hx hb dX1_facet_10 (by decide) ?_
    refine bw_rs (rest := []) ⟨hx, hb, hml, hown, hts⟩ (met_X1_isIn l _ b 32 (by decide)) (cw_X1_31 hts ⟨Nat.le_of_ble_eq_true rfl, Nat.le_of_ble_eq_true rfl⟩) hP hS hA rfl rfl hl.1 (Nat.le_of_ble_eq_true rfl) dX1_facet_12 ⟨Nat.zero_le _, Nat.zero_le _⟩ (fun r4 H locs hv5 hP hS => ?_)
    subst hv5
    refine bw_ifeq hx hb (tgt := 32) dX1_facet_15 (by decide) (fun c6 => ?_) (fun c6 => ?_)
    · refine lv_iconst (v := (-1)) hx hb dX1_facet_32 (by decide) ?_
      exact ro_iret hx hb hr hlocks hS dX1_facet_33 (by unfold facS; rw [cif_f (fun q => c6 q.2)])
    · obtain ⟨h, hh, rfl⟩ := c3
      obtain ⟨v, hv, rfl⟩ := c6
      refine lv_aload_n hx hb dX1_facet_18 rfl (lv_at hl 0 rfl) ?_
      refine fc_counts hx hb hts hown hK hP dX1_facet_19 ?_
      refine lv_bipush (v := nI 32) hx hb dX1_facet_22 (by decide) ?_
      refine lv_iload_n hx hb dX1_facet_24 rfl (lv_at hl 1 rfl) ?_
      refine bw_mul hx hb dX1_facet_25 ?_
      refine lv_iload_n hx hb dX1_facet_26 rfl (lv_at hl 2 rfl) ?_
      refine bw_add hx hb dX1_facet_27 ?_
      refine bw_iald hx hb hK hP 6 rfl (((32 * h) + v)) (by omega) (by decide) dX1_facet_28 ?_
      refine lv_goto (tgt := 33) hx hb dX1_facet_29 (by decide) ?_
      exact ro_iret hx hb hr hlocks hS dX1_facet_33 ((hN h hh v hv).trans (facS_g hh hv).symm)

set_option maxHeartbeats 4000000 in
set_option maxRecDepth 100000 in
theorem met_X1_choose (l : Launch) (D : va_G) (dA dZ : ClassId) (ad : Nat → Nat) (sz : Nat) {own : Nat → Int32} {rows : Int32} {up clo cho fai cou see has ch tol : Nat → Int32} (hR : Rp (own, rows, up, clo, cho, fai, cou, see) (has, up, ch, tol, rows)) (a b : Int32) (on : Prop) : RW l yX1_choose cX1_choose 4 (some .int) rm_X1_choose [.ref (ad 0), .int a, .int b, .int (nI (bN on))] D dA dZ (fcW dA ad own rows up clo cho fai cou see) sz (S := FS) (fun r u => r = (choS has up ch tol rows a b on).1 ∧ Rp u (choS has up ch tol rows a b on).2) (fun u => fcU dA ad u) := by
  refine Met.ofW (cc := cX1_choose) (maxL := 4) (ret := (some .int)) (by decide) rfl ?_
  intro p e s m args below meth c s₁ B hml hv
  obtain ⟨rfl, hsz, hP, hK, hDT⟩ := hv
  have hx := B.exec
  have hb := B.bytes
  have hr := B.returns
  have hts : ∀ w ∈ lw_all, w.before _ s = true := fun w h => atoms_spec (ws := ws_ yX1_choose cX1_choose 4 (some .int)) B.pre w (List.mem_cons_of_mem _ h)
  have hown : s.vm.findClass RX1 = some m.cls := findClass_of_methodNamed B.named
  have hlocks := B.notSynchronized
  subst hsz
  have hD := hDT.self (sz := s.heap.size)
  generalize hAe : va_A (fcW dA ad own rows up clo cho fai cou see) s.heap.size = A at hD ⊢
  have hA : ∀ q : Nat, s.heap.size ≤ q → A q := fun q h => by rw [← hAe]; exact Or.inr h
  have hS : va_S A s.heap s.heap [] := va_S.rf
  have hl := lv_entry ([.ref (ad 0), .int a, .int b, .int (nI (bN on))]) (n := 4) (Nat.le_of_ble_eq_true rfl)
  rw [lg_entry_eq]
  generalize (lg_sl ([.ref (ad 0), .int a, .int b, .int (nI (bN on))]) ++ List.replicate (4 - (lg_sl ([.ref (ad 0), .int a, .int b, .int (nI (bN on))])).length) Slot.unset).toArray = ls at hl ⊢
  have hl : lv_has ls 4 [(0, .ref (ad 0)), (1, .int a), (2, .int b), (3, .int (nI (bN on)))] := hl
  have hO : rOwn own has := hR.1
  have hC : rClo clo up := hR.2.2.2.1
  have hH : rCho cho ch := hR.2.2.2.2.1
  have hF : rFai fai has up ch := hR.2.2.2.2.2.1
  have hN : rCou cou has up ch := hR.2.2.2.2.2.2.1
  have hE : ∀ i, i < 256 → see i = tol i := hR.2.2.2.2.2.2.2
  refine lv_iload_n hx hb dX1_choose_0 rfl (lv_at hl 1 rfl) ?_
  refine lv_bipush (v := nI 8) hx hb dX1_choose_1 (by decide) ?_
  refine bw_rs (rest := []) ⟨hx, hb, hml, hown, hts⟩ (met_X1_isIn l _ a 8 (by decide)) (cw_X1_31 hts ⟨Nat.le_of_ble_eq_true rfl, Nat.le_of_ble_eq_true rfl⟩) hP hS hA rfl rfl hl.1 (Nat.le_of_ble_eq_true rfl) dX1_choose_3 ⟨Nat.zero_le _, Nat.zero_le _⟩ (fun r1 H locs hv2 hP hS => ?_)
  subst hv2
  refine bw_ifeq hx hb (tgt := 18) dX1_choose_6 (by decide) (fun c3 => ?_) (fun c3 => ?_)
  · refine lv_iconst (v := (-1)) hx hb dX1_choose_18 (by decide) ?_
    exact rw_iret ((own, rows, up, clo, cho, fai, cou, see)) hx hb hr hlocks hP hD hS dX1_choose_19 (by unfold choS; rw [cif_f (fun q => c3 q.1)]; exact ⟨rfl, hR⟩)
  · refine lv_iload_n hx hb dX1_choose_9 rfl (lv_at hl 2 rfl) ?_
    refine lv_bipush (v := nI 32) hx hb dX1_choose_10 (by decide) ?_
    refine bw_rs (rest := []) ⟨hx, hb, hml, hown, hts⟩ (met_X1_isIn l _ b 32 (by decide)) (cw_X1_31 hts ⟨Nat.le_of_ble_eq_true rfl, Nat.le_of_ble_eq_true rfl⟩) hP hS hA rfl rfl hl.1 (Nat.le_of_ble_eq_true rfl) dX1_choose_12 ⟨Nat.zero_le _, Nat.zero_le _⟩ (fun r4 H locs hv5 hP hS => ?_)
    subst hv5
    refine bw_ifne hx hb (tgt := 20) dX1_choose_15 (by decide) (fun c6 => ?_) (fun c6 => ?_)
    · obtain ⟨h, hh, rfl⟩ := c3
      obtain ⟨v, hv, rfl⟩ := c6
      refine lv_aload_n hx hb dX1_choose_20 rfl (lv_at hl 0 rfl) ?_
      refine lv_iconst (v := (-1)) hx hb dX1_choose_21 (by decide) ?_
      refine bw_rv (rest := []) ⟨hx, hb, hml, hown, hts⟩ (met_X1_weighAll l D dA dZ ad _ hO hC hH (-1) (Or.inr ⟨rfl, hF⟩)) (cw_X1_57 hts ⟨Nat.le_of_ble_eq_true rfl, Nat.le_of_ble_eq_true rfl⟩) (va_recv hK hP (ci := 0) (q0 := 0) rfl rfl) hK hP hD hS hA rfl rfl hl.1 (Nat.le_of_ble_eq_true rfl) dX1_choose_22 ⟨Nat.zero_le _, Nat.zero_le _⟩ (fun u7 H locs hv8 hP hD hS => ?_)
      refine w_cut0 58 (fun H locs ls => ∃ (x : Nat → Int32), lv_has ls 4 [(0, .ref (ad 0)), (1, .int (nI h)), (2, .int (nI v)), (3, .int (nI (bN on)))] ∧ va_P D vwCl (fcW dA ad own rows up clo x u7.1 u7.2 see) H ∧ va_D A (fcW dA ad own rows up clo x u7.1 u7.2 see) ∧ va_S A s.heap H locs ∧ (rCho x (upd ch (32 * h + v) (nI (bN on))))) (fun K9 => ?_) (fun H locs ls hv10 => ?_)
      · refine lv_iload_n hx hb dX1_choose_25 rfl (lv_at hl 3 rfl) ?_
        refine bw_ifeq hx hb (tgt := 44) dX1_choose_26 (by decide) (fun c11 => ?_) (fun c11 => ?_)
        · refine lv_aload_n hx hb dX1_choose_44 rfl (lv_at hl 0 rfl) ?_
          refine fc_chosen hx hb hts hown hK hP dX1_choose_45 ?_
          refine lv_iload_n hx hb dX1_choose_48 rfl (lv_at hl 1 rfl) ?_
          refine lv_dup2_11 hx hb dX1_choose_49 rfl rfl ?_
          refine bw_iald hx hb hK hP 4 rfl h (by omega) (by decide) dX1_choose_50 ?_
          refine lv_iconst (v := nI 1) hx hb dX1_choose_51 (by decide) ?_
          refine lv_iload_n hx hb dX1_choose_52 rfl (lv_at hl 2 rfl) ?_
          refine lv_ishl hx hb dX1_choose_53 ?_
          refine lv_iconst (v := (-1)) hx hb dX1_choose_54 (by decide) ?_
          refine lv_ixor hx hb dX1_choose_55 ?_
          refine lv_iand hx hb dX1_choose_56 ?_
          refine bw_iast hx hb hK hP hD hS 4 rfl h (by omega) (by decide) dX1_choose_57 (fun H locs hP hD hS => ?_)
          have hP : va_P D vwCl (fcW dA ad own rows up clo (upd cho h ((cho h) &&& (((nI 1) <<< ((nI v) &&& 31)) ^^^ ((-1))))) u7.1 u7.2 see) H := hP
          have hD : va_D A (fcW dA ad own rows up clo (upd cho h ((cho h) &&& (((nI 1) <<< ((nI v) &&& 31)) ^^^ ((-1))))) u7.1 u7.2 see) := hD
          exact K9 _ _ _ ⟨upd cho h ((cho h) &&& (((nI 1) <<< ((nI v) &&& 31)) ^^^ ((-1)))), lv_sub hl [0, 1, 2, 3] rfl, hP, hD, hS, rCho_clr hH hv c11⟩
        · refine lv_aload_n hx hb dX1_choose_29 rfl (lv_at hl 0 rfl) ?_
          refine fc_chosen hx hb hts hown hK hP dX1_choose_30 ?_
          refine lv_iload_n hx hb dX1_choose_33 rfl (lv_at hl 1 rfl) ?_
          refine lv_dup2_11 hx hb dX1_choose_34 rfl rfl ?_
          refine bw_iald hx hb hK hP 4 rfl h (by omega) (by decide) dX1_choose_35 ?_
          refine lv_iconst (v := nI 1) hx hb dX1_choose_36 (by decide) ?_
          refine lv_iload_n hx hb dX1_choose_37 rfl (lv_at hl 2 rfl) ?_
          refine lv_ishl hx hb dX1_choose_38 ?_
          refine lv_ior hx hb dX1_choose_39 ?_
          refine bw_iast hx hb hK hP hD hS 4 rfl h (by omega) (by decide) dX1_choose_40 (fun H locs hP hD hS => ?_)
          have hP : va_P D vwCl (fcW dA ad own rows up clo (upd cho h ((cho h) ||| ((nI 1) <<< ((nI v) &&& 31)))) u7.1 u7.2 see) H := hP
          have hD : va_D A (fcW dA ad own rows up clo (upd cho h ((cho h) ||| ((nI 1) <<< ((nI v) &&& 31)))) u7.1 u7.2 see) := hD
          refine lv_goto (tgt := 58) hx hb dX1_choose_41 (by decide) ?_
          exact K9 _ _ _ ⟨upd cho h ((cho h) ||| ((nI 1) <<< ((nI v) &&& 31))), lv_sub hl [0, 1, 2, 3] rfl, hP, hD, hS, rCho_set hH hv c11⟩
      · obtain ⟨x, hl, hP, hD, hS, hv10⟩ := hv10
        refine lv_aload_n hx hb dX1_choose_58 rfl (lv_at hl 0 rfl) ?_
        refine lv_iconst (v := nI 1) hx hb dX1_choose_59 (by decide) ?_
        refine bw_rv (rest := []) ⟨hx, hb, hml, hown, hts⟩ (met_X1_weighAll l D dA dZ ad _ hO hC hv10 (nI 1) (Or.inl rfl)) (cw_X1_57 hts ⟨Nat.le_of_ble_eq_true rfl, Nat.le_of_ble_eq_true rfl⟩) (va_recv hK hP (ci := 0) (q0 := 0) rfl rfl) hK hP hD hS hA rfl rfl hl.1 (Nat.le_of_ble_eq_true rfl) dX1_choose_60 ⟨Nat.zero_le _, Nat.zero_le _⟩ (fun u12 H locs hv13 hP hD hS => ?_)
        have hR2 : Rp (own, rows, up, clo, x, u12.1, u12.2, see) (has, up, upd ch (32 * h + v) (nI (bN on)), tol, rows) := ⟨hO, rfl, rfl, hC, hv10, hv13.1, all_done hN hv8.2 hv13.2, hE⟩
        refine lv_aload_n hx hb dX1_choose_63 rfl (lv_at hl 0 rfl) ?_
        refine bw_ro (rest := []) ⟨hx, hb, hml, hown, hts⟩ (met_X1_kept l D dA dZ ad _ hR2) (cw_X1_61 hts ⟨Nat.le_of_ble_eq_true rfl, Nat.le_of_ble_eq_true rfl⟩) (va_recv hK hP (ci := 0) (q0 := 0) rfl rfl) hK hP (hD.weaken (fun _ _ _ _ => trivial)) hP hS hA rfl rfl hl.1 (Nat.le_of_ble_eq_true rfl) dX1_choose_64 ⟨Nat.zero_le _, Nat.zero_le _⟩ (fun r14 H locs hv15 hP hS => ?_)
        exact rw_iret ((own, rows, up, clo, x, u12.1, u12.2, see)) hx hb hr hlocks hP hD hS dX1_choose_67 (by rw [choS_g hh hv]; exact ⟨hv15, hR2⟩)
    · refine lv_iconst (v := (-1)) hx hb dX1_choose_18 (by decide) ?_
      exact rw_iret ((own, rows, up, clo, cho, fai, cou, see)) hx hb hr hlocks hP hD hS dX1_choose_19 (by unfold choS; rw [cif_f (fun q => c6 q.2)]; exact ⟨rfl, hR⟩)
end
section
set_option maxRecDepth 100000
/-! ===== steps of range, sum, top, changed, above, common ===== -/
def rngI (fr to : Int32) (j : Nat) (x : Int32) : Prop := ∀ w, w < 32 → (bt x w = true ↔ (w < j ∧ fr ≤ nI w ∧ nI w ≤ to))
theorem rngI_0 (fr to : Int32) : rngI fr to 0 (nI 0) := by
  intro w hw
  constructor
  · intro h
    rw [show bt (nI 0) w = false from b_0 w] at h
    cases h
  · rintro ⟨h, -⟩
    omega
theorem i_nlt {a b : Int32} (h : ¬ a < b) : b ≤ a := by
  rw [Int32.lt_iff_toInt_lt] at h
  rw [Int32.le_iff_toInt_le]
  omega
theorem i_lt_nle {a b : Int32} (h : a < b) : ¬ b ≤ a := by
  rw [Int32.lt_iff_toInt_lt] at h
  rw [Int32.le_iff_toInt_le]
  omega
theorem rngI_n {fr to : Int32} {j : Nat} {x : Int32} (h : rngI fr to j x) (c : ¬ (fr ≤ nI j ∧ nI j ≤ to)) : rngI fr to (j + 1) x := by
  intro w hw
  rw [h w hw]
  constructor
  · rintro ⟨a, b⟩
    exact ⟨by omega, b⟩
  · rintro ⟨a, b⟩
    by_cases e : w = j
    · subst e
      exact absurd b c
    · exact ⟨by omega, b⟩
theorem rngI_y {fr to : Int32} {j : Nat} {x : Int32} (hj : j < 32) (h : rngI fr to j x) (c : fr ≤ nI j ∧ nI j ≤ to) : rngI fr to (j + 1) (x ||| (nI 1 <<< (nI j &&& 31))) := by
  intro w hw
  rw [b_set _ hj hw, h w hw]
  constructor
  · rintro (⟨a, b⟩ | a)
    · exact ⟨by omega, b⟩
    · subst a
      exact ⟨by omega, c⟩
  · rintro ⟨a, b⟩
    by_cases e : w = j
    · exact Or.inr e
    · exact Or.inl ⟨by omega, b⟩
theorem rng_hit {has up : Nat → Int32} {t h : Nat} {fr to r x : Int32} (hr : ∀ v, v < 32 → (bt r v = true ↔ ow has up t h v)) (hx : rngI fr to 32 x) : r &&& x = 0 ↔ ¬ ∃ v, v < 32 ∧ fr ≤ nI v ∧ nI v ≤ to ∧ ow has up t h v := by
  rw [b_z]
  constructor
  · rintro q ⟨v, hv, z1, z2, z3⟩
    refine q v hv ?_
    rw [b_and, (hr v hv).mpr z3, (hx v hv).mpr ⟨hv, z1, z2⟩]
    rfl
  · intro q v hv z
    rw [b_and, Bool.and_eq_true] at z
    obtain ⟨-, z1, z2⟩ := (hx v hv).mp z.2
    exact q ⟨v, hv, z1, z2, (hr v hv).mp z.1⟩
-- sum
theorem sum_n {has up ch : Nat → Int32} {h v o j x : Nat} (e : x = sumN has up ch h v o j) (c : ¬ (ow has up j h v ∧ kb has up ch j 8)) : x = sumN has up ch h v o (j + 1) := by
  rw [e]
  show _ = sumN has up ch h v o j + bN (ow has up j h v ∧ kb has up ch j 8) * wsm has up j o 32
  rw [bN_f c, Nat.zero_mul]
  rfl
theorem sum_y {has up ch : Nat → Int32} {h v o j x y : Nat} (e : x = sumN has up ch h v o j) (c : ow has up j h v ∧ kb has up ch j 8) (e2 : y = x + wsm has up j o 32) : y = sumN has up ch h v o (j + 1) := by
  rw [e2, e]
  show _ = sumN has up ch h v o j + bN (ow has up j h v ∧ kb has up ch j 8) * wsm has up j o 32
  rw [bN_t c, Nat.one_mul]
theorem wsm_s {has up : Nat → Int32} {t o w x y : Nat} {P : Prop} (e : y = x + wsm has up t o w) (hp : P ↔ ow has up t o w) : y + bN P * w = x + wsm has up t o (w + 1) := by
  rw [e, bN_c hp, Nat.add_assoc]
  rfl
-- top
def topI (C : Nat → Nat) (k : Nat) (T : Int32) : Prop := (∀ v, v < 32 → bt T v = true → 0 < C v) ∧ cnt (fun v => bt T v = true) 32 = k ∧ ∀ w, w < 32 → ∀ v, v < 32 → bt T w = true → ¬ bt T v = true → 0 < C v → bet C w v
def topJ (C : Nat → Nat) (T : Int32) (j : Nat) (y : Int32) : Prop := (y = -1 ∧ ∀ w, w < j → ¬ bt T w = true → C w = 0) ∨ (∃ b, b < j ∧ y = nI b ∧ ¬ bt T b = true ∧ 0 < C b ∧ ∀ w, w < j → ¬ bt T w = true → 0 < C w → w = b ∨ bet C b w)
theorem topI_0 (C : Nat → Nat) : topI C 0 (nI 0) := by
  have h0 : ∀ v, ¬ bt (nI 0) v = true := fun v q => by
    rw [show bt (nI 0) v = false from b_0 v] at q
    cases q
  exact ⟨fun v _ q => absurd q (h0 v), cnt_0.mpr (fun v _ => h0 v), fun w _ v _ q => absurd q (h0 w)⟩
theorem topJ_z {C : Nat → Nat} {T : Int32} {j : Nat} {y : Int32} (h : topJ C T j y) (c : bt T j = true ∨ C j = 0) : topJ C T (j + 1) y := by
  rcases h with ⟨e, h⟩ | ⟨b, hb, e, h1, h2, h3⟩
  · refine Or.inl ⟨e, fun w hw q => ?_⟩
    by_cases z : w = j
    · subst z
      rcases c with c | c
      · exact absurd c q
      · exact c
    · exact h w (by omega) q
  · refine Or.inr ⟨b, by omega, e, h1, h2, fun w hw q r => ?_⟩
    by_cases z : w = j
    · subst z
      rcases c with c | c
      · exact absurd c q
      · omega
    · exact h3 w (by omega) q r
theorem topJ_1 {C : Nat → Nat} {T : Int32} {j : Nat} (h : ∀ w, w < j → ¬ bt T w = true → C w = 0) (c : ¬ bt T j = true) (c2 : 0 < C j) : topJ C T (j + 1) (nI j) := by
  refine Or.inr ⟨j, by omega, rfl, c, c2, fun w hw q r => ?_⟩
  by_cases z : w = j
  · exact Or.inl z
  · have := h w (by omega) q
    omega
theorem topJ_k {C : Nat → Nat} {T : Int32} {j b : Nat} (hb : b < j) (h1 : ¬ bt T b = true) (h2 : 0 < C b) (h3 : ∀ w, w < j → ¬ bt T w = true → 0 < C w → w = b ∨ bet C b w) (c : C j ≤ C b) : topJ C T (j + 1) (nI b) := by
  refine Or.inr ⟨b, by omega, rfl, h1, h2, fun w hw q r => ?_⟩
  by_cases z : w = j
  · subst z
    exact Or.inr (by unfold bet; omega)
  · exact h3 w (by omega) q r
theorem topJ_r {C : Nat → Nat} {T : Int32} {j b : Nat} (hb : b < j) (h3 : ∀ w, w < j → ¬ bt T w = true → 0 < C w → w = b ∨ bet C b w) (c0 : ¬ bt T j = true) (c : C b < C j) : topJ C T (j + 1) (nI j) := by
  refine Or.inr ⟨j, by omega, rfl, c0, by omega, fun w hw q r => ?_⟩
  by_cases z : w = j
  · exact Or.inl z
  · refine Or.inr ?_
    rcases h3 w (by omega) q r with e | e
    · subst e
      exact Or.inl c
    · unfold bet at *
      omega
theorem top_bef {C : Nat → Nat} {k b : Nat} {T : Int32} (h : topI C k T) (hb : b < 32) (h1 : ¬ bt T b = true) (h2 : 0 < C b) (h3 : ∀ w, w < 32 → ¬ bt T w = true → 0 < C w → w = b ∨ bet C b w) : topP C (nI k) b := by
  refine ⟨hb, h2, ?_⟩
  have : bef C b = k := by
    rw [← h.2.1]
    refine cnt_c (fun o ho => ⟨fun q => ?_, fun q => h.2.2 o ho b hb q h1 h2⟩)
    by_cases z : bt T o = true
    · exact z
    · have hp : 0 < C o := by unfold bet at q; omega
      rcases h3 o ho z hp with e | e
      · subst e
        exact absurd q (bet_ir C o)
      · exact absurd (bet_tr q e) (bet_ir C o)
  rw [this]
theorem topI_s {C : Nat → Nat} {k b : Nat} {T : Int32} (h : topI C k T) (hb : b < 32) (h1 : ¬ bt T b = true) (h2 : 0 < C b) (h3 : ∀ w, w < 32 → ¬ bt T w = true → 0 < C w → w = b ∨ bet C b w) : topI C (k + 1) (T ||| (nI 1 <<< (nI b &&& 31))) := by
  refine ⟨fun v hv q => ?_, ?_, fun w hw v hv q1 q2 q3 => ?_⟩
  · rcases (b_set T hb hv).mp q with q | q
    · exact h.1 v hv q
    · rw [q]; exact h2
  · have e := cnt_one (P := fun v => bt T v = true) (P' := fun v => bt T v = true ∨ v = b) (t := b) (fun x hx => ⟨fun q => Or.inl q, fun q => by rcases q with q | q; exact q; exact absurd q hx⟩) (n := 32) hb
    rw [bN_f h1, bN_t (p := bt T b = true ∨ b = b) (Or.inr rfl), h.2.1] at e
    rw [cnt_c (fun v hv => b_set T hb hv)]
    omega
  · have n2 : ¬ bt T v = true ∧ v ≠ b := ⟨fun z => q2 ((b_set T hb hv).mpr (Or.inl z)), fun z => q2 ((b_set T hb hv).mpr (Or.inr z))⟩
    rcases (b_set T hb hw).mp q1 with q | q
    · exact h.2.2 w hw v hv q n2.1 q3
    · subst q
      rcases h3 v hv n2.1 q3 with e | e
      · exact absurd e n2.2
      · exact e
theorem top_none {C : Nat → Nat} {k rk : Nat} {T : Int32} (h : topI C k T) (hk : k ≤ rk) (hr : rk < 32) (h3 : ∀ w, w < 32 → ¬ bt T w = true → C w = 0) : ∀ v, ¬ topP C (nI rk) v := by
  rintro v ⟨hv, h1, h2⟩
  have e : bef C v = rk := (nI_eq (Nat.lt_trans (bef_32 C hv) (by decide)) (by omega)).mp h2
  have hT : bt T v = true := Classical.byContradiction fun z => by have := h3 v hv z; omega
  have := cnt_more (P := fun o => bet C o v) (P' := fun o => bt T o = true) hv (fun o ho q => Classical.byContradiction fun z => by
    have := h3 o ho z
    unfold bet at q
    omega) (bet_ir C v) hT
  rw [h.2.1] at this
  unfold bef at e
  omega
theorem top_bad {C : Nat → Nat} {b : Int32} (h : ¬ inR b 32) : ∀ v, ¬ topP C b v := by
  rintro v ⟨hv, h1, h2⟩
  exact h ⟨bef C v, bef_32 C hv, h2.symm⟩
-- changed
theorem rCou_i {cou has up ch : Nat → Int32} (H : rCou cou has up ch) {i : Nat} (hi : i < 256) : cou i = nI (cI has up ch i) := by
  have := H (i / 32) (by omega) (i % 32) (by omega)
  rw [show 32 * (i / 32) + i % 32 = i by omega] at this
  exact this
-- above
/-- closed: the places below j are done -/
def cloI (up : Nat → Int32) (j : Nat) (y : Nat → Int32) : Prop := ∀ k, k < j → ∀ v, v < 32 → (bt (y k) v = true ↔ und up k v)
/-- .. and the place k is under way, from z on -/
def cloJ (up : Nat → Int32) (rk : Nat → Nat) (k : Nat) (x : (Nat → Int32) × Int32 × Nat) : Prop := cloI up k x.1 ∧
  ((x.2.1 = -1 ∧ ∀ v, v < 32 → (bt (x.1 k) v = true ↔ und up k v)) ∨ (∃ z, z < 32 ∧ x.2.1 = nI z ∧ rk z < x.2.2 ∧ ∀ v, v < 32 → (und up k v ↔ (bt (x.1 k) v = true ∨ und up z v))))
theorem cloJ_0 {up : Nat → Int32} {rk : Nat → Nat} {k : Nat} {y : Nat → Int32} (hk : k < 32) (h : cloI up k y) : cloJ up rk k (upd y k (nI 0), nI k, rk k + 1) := by
  refine ⟨fun a ha v hv => ?_, Or.inr ⟨k, hk, rfl, Nat.lt_succ_self _, fun v hv => ?_⟩⟩
  · show bt (upd y k (nI 0) a) v = true ↔ _
    rw [pk_un (by omega)]
    exact h a ha v hv
  · show _ ↔ bt (upd y k (nI 0) k) v = true ∨ _
    rw [pk_us, show bt (nI 0) v = false from b_0 v]
    simp
theorem cloJ_s {up : Nat → Int32} {rk : Nat → Nat} (hr : rkd up rk) {k z : Nat} {x : (Nat → Int32) × Int32 × Nat} (h : cloI up k x.1) (hz : z < 32) (h2 : ∀ v, v < 32 → (und up k v ↔ (bt (x.1 k) v = true ∨ und up z v))) :
    cloJ up rk k (upd x.1 k (x.1 k ||| (nI 1 <<< (nI z &&& 31))), up z, rk z) := by
  refine ⟨fun a ha v hv => ?_, ?_⟩
  · show bt (upd x.1 k _ a) v = true ↔ _
    rw [pk_un (by omega)]
    exact h a ha v hv
  · rcases hr z hz with e | ⟨j, hj, e, r⟩
    · refine Or.inl ⟨e, fun v hv => ?_⟩
      show bt (upd x.1 k _ k) v = true ↔ _
      rw [pk_us, b_set _ hz hv, h2 v hv]
      constructor
      · rintro (q | q)
        · exact Or.inl q
        · exact Or.inr (q ▸ und_rf up z)
      · rintro (q | q)
        · exact Or.inl q
        · rcases und_iff.mp q with q | ⟨i, hi, q1, q2⟩
          · exact Or.inr q.symm
          · exact absurd (e.symm.trans q1) (m1_nI (by omega))
    · refine Or.inr ⟨j, hj, e, r, fun v hv => ?_⟩
      show _ ↔ bt (upd x.1 k _ k) v = true ∨ _
      rw [pk_us, b_set _ hz hv, h2 v hv]
      constructor
      · rintro (q | q)
        · exact Or.inl (Or.inl q)
        · rcases und_iff.mp q with q | ⟨i, hi, q1, q2⟩
          · exact Or.inl (Or.inr q.symm)
          · have : i = j := (nI_eq (by omega) (by omega)).mp (q1.symm.trans e)
            subst this
            exact Or.inr q2
      · rintro ((q | q) | q)
        · exact Or.inl q
        · exact Or.inr (q ▸ und_rf up z)
        · exact Or.inr (und_iff.mpr (Or.inr ⟨j, hj, e, q⟩))
theorem cloI_s {up : Nat → Int32} {k : Nat} {y : Nat → Int32} (h : cloI up k y) (h2 : ∀ v, v < 32 → (bt (y k) v = true ↔ und up k v)) : cloI up (k + 1) y := by
  intro a ha v hv
  by_cases e : a = k
  · subst e
    exact h2 v hv
  · exact h a (by omega) v hv
theorem gcd_step (a b : Nat) : Nat.gcd b (a % b) = Nat.gcd a b := by
  rw [Nat.gcd_comm a b, Nat.gcd_rec b a, Nat.gcd_comm]
theorem chg_step {has up ch tol y : Nat → Int32} {j : Nat} {x : Int32} (h : ∀ i, i < 256 → y i = chgT has up ch tol j i) (e : x = nI (cI has up ch j)) : ∀ i, i < 256 → upd y j x i = chgT has up ch tol (j + 1) i := by
  intro i hi
  rw [← chgT_s, ← e]
  by_cases q : i = j
  · rw [q, pk_us, pk_us]
  · rw [pk_un q, pk_un q]
    exact h i hi
end
section
set_option maxRecDepth 100000
set_option maxHeartbeats 4000000 in
set_option maxRecDepth 100000 in
theorem met_X1_range (l : Launch) (D : va_G) (dA dZ : ClassId) (ad : Nat → Nat) (sz : Nat) {own : Nat → Int32} {rows : Int32} {up clo cho fai cou see has ch tol : Nat → Int32} (hR : Rp (own, rows, up, clo, cho, fai, cou, see) (has, up, ch, tol, rows)) (a fr to : Int32) : RO l yX1_range cX1_range 7 (some .int) rm_X1_range [.ref (ad 0), .int a, .int fr, .int to] D dA dZ (fcW dA ad own rows up clo cho fai cou see) sz (fun r => r = rngS has up ch a fr to) := by
  refine Met.ofW (cc := cX1_range) (maxL := 7) (ret := (some .int)) (by decide) rfl ?_
  intro p e s m args below meth c s₁ B hml hv
  obtain ⟨rfl, hsz, hP, hK, hDT⟩ := hv
  have hx := B.exec
  have hb := B.bytes
  have hr := B.returns
  have hts : ∀ w ∈ lw_all, w.before _ s = true := fun w h => atoms_spec (ws := ws_ yX1_range cX1_range 7 (some .int)) B.pre w (List.mem_cons_of_mem _ h)
  have hown : s.vm.findClass RX1 = some m.cls := findClass_of_methodNamed B.named
  have hlocks := B.notSynchronized
  subst hsz
  have hS : va_S (fun q => s.heap.size ≤ q) s.heap s.heap [] := va_S.rf
  have hA : ∀ q : Nat, s.heap.size ≤ q → (fun q => s.heap.size ≤ q) q := fun q h => h
  have hl := lv_entry ([.ref (ad 0), .int a, .int fr, .int to]) (n := 7) (Nat.le_of_ble_eq_true rfl)
  rw [lg_entry_eq]
  generalize (lg_sl ([.ref (ad 0), .int a, .int fr, .int to]) ++ List.replicate (7 - (lg_sl ([.ref (ad 0), .int a, .int fr, .int to])).length) Slot.unset).toArray = ls at hl ⊢
  have hl : lv_has ls 7 [(0, .ref (ad 0)), (1, .int a), (2, .int fr), (3, .int to)] := hl
  have hO : rOwn own has := hR.1
  have hC : rClo clo up := hR.2.2.2.1
  have hH : rCho cho ch := hR.2.2.2.2.1
  have hF : rFai fai has up ch := hR.2.2.2.2.2.1
  have hN : rCou cou has up ch := hR.2.2.2.2.2.2.1
  have hE : ∀ i, i < 256 → see i = tol i := hR.2.2.2.2.2.2.2
  refine lv_iload_n hx hb dX1_range_0 rfl (lv_at hl 1 rfl) ?_
  refine lv_bipush (v := nI 8) hx hb dX1_range_1 (by decide) ?_
  refine bw_rs (rest := []) ⟨hx, hb, hml, hown, hts⟩ (met_X1_isIn l _ a 8 (by decide)) (cw_X1_31 hts ⟨Nat.le_of_ble_eq_true rfl, Nat.le_of_ble_eq_true rfl⟩) hP hS hA rfl rfl hl.1 (Nat.le_of_ble_eq_true rfl) dX1_range_3 ⟨Nat.zero_le _, Nat.zero_le _⟩ (fun r1 H locs hv2 hP hS => ?_)
  subst hv2
  refine bw_ifne hx hb (tgt := 11) dX1_range_6 (by decide) (fun c3 => ?_) (fun c3 => ?_)
  · obtain ⟨h, hh, rfl⟩ := c3
    refine lv_iconst (v := nI 0) hx hb dX1_range_11 (by decide) ?_
    refine lv_istore (lv' := [(4, .int (nI 0)), (0, .ref (ad 0)), (1, .int (nI h)), (2, .int fr), (3, .int to)]) hx hb dX1_range_12 hl (by decide) rfl (fun ls hl => ?_)
    refine lv_iconst (v := nI 0) hx hb dX1_range_14 (by decide) ?_
    refine lv_istore (lv' := [(5, .int (nI 0)), (4, .int (nI 0)), (0, .ref (ad 0)), (1, .int (nI h)), (2, .int fr), (3, .int to)]) hx hb dX1_range_15 hl (by decide) rfl (fun ls hl => ?_)
    refine w_loop (σ := Int32) 32 (fun j x H locs ls => lv_has ls 7 [(0, .ref (ad 0)), (1, .int (nI h)), (2, .int fr), (3, .int to), (4, .int x), (5, .int (nI j))] ∧ va_P D vwCl (fcW dA ad own rows up clo cho fai cou see) H ∧ va_S (fun q => s.heap.size ≤ q) s.heap H locs ∧ (rngI fr to j x)) ?_ ?_ 0 (nI 0) _ _ _ (by omega) ⟨lv_sub hl [2, 3, 4, 5, 1, 0] rfl, hP, hS, rngI_0 fr to⟩
    · intro j x H locs ls hj hI hk4
      obtain ⟨hl, hP, hS, hI⟩ := hI
      refine lv_iload hx hb dX1_range_17 (lv_at hl 5 rfl) ?_
      refine lv_bipush (v := nI 32) hx hb dX1_range_19 (by decide) ?_
      refine bw_ge (by omega) (by omega) hx hb (tgt := 51) dX1_range_21 (by decide) (fun c5 => ?_) (fun c5 => ?_)
      · exact absurd c5 (by omega)
      · refine lv_iload hx hb dX1_range_24 (lv_at hl 5 rfl) ?_
        refine lv_iload_n hx hb dX1_range_26 rfl (lv_at hl 2 rfl) ?_
        refine lv_icmp_lt hx hb (tgt := 45) dX1_range_27 (by decide) (fun c6 => ?_) (fun c6 => ?_)
        · refine lv_iinc (v := nI (j + 1)) (lv' := [(5, .int (nI (j + 1))), (0, .ref (ad 0)), (1, .int (nI h)), (2, .int fr), (3, .int to), (4, .int x)]) hx hb dX1_range_45 hl (k := 5) rfl (inc1 _) (by decide) rfl (fun ls hl => ?_)
          refine lv_goto (tgt := 17) hx hb dX1_range_48 (by decide) ?_
          exact hk4 x _ _ _ ⟨lv_sub hl [1, 2, 3, 4, 5, 0] rfl, hP, hS, rngI_n hI (fun q => i_lt_nle c6 q.1)⟩
        · refine lv_iload hx hb dX1_range_30 (lv_at hl 5 rfl) ?_
          refine lv_iload_n hx hb dX1_range_32 rfl (lv_at hl 3 rfl) ?_
          refine lv_icmp_gt hx hb (tgt := 45) dX1_range_33 (by decide) (fun c7 => ?_) (fun c7 => ?_)
          · refine lv_iinc (v := nI (j + 1)) (lv' := [(5, .int (nI (j + 1))), (0, .ref (ad 0)), (1, .int (nI h)), (2, .int fr), (3, .int to), (4, .int x)]) hx hb dX1_range_45 hl (k := 5) rfl (inc1 _) (by decide) rfl (fun ls hl => ?_)
            refine lv_goto (tgt := 17) hx hb dX1_range_48 (by decide) ?_
            exact hk4 x _ _ _ ⟨lv_sub hl [1, 2, 3, 4, 5, 0] rfl, hP, hS, rngI_n hI (fun q => i_lt_nle c7 q.2)⟩
          · refine lv_iload hx hb dX1_range_36 (lv_at hl 4 rfl) ?_
            refine lv_iconst (v := nI 1) hx hb dX1_range_38 (by decide) ?_
            refine lv_iload hx hb dX1_range_39 (lv_at hl 5 rfl) ?_
            refine lv_ishl hx hb dX1_range_41 ?_
            refine lv_ior hx hb dX1_range_42 ?_
            refine lv_istore (lv' := [(4, .int (x ||| ((nI 1) <<< ((nI j) &&& 31)))), (0, .ref (ad 0)), (1, .int (nI h)), (2, .int fr), (3, .int to), (5, .int (nI j))]) hx hb dX1_range_43 hl (by decide) rfl (fun ls hl => ?_)
            refine lv_iinc (v := nI (j + 1)) (lv' := [(5, .int (nI (j + 1))), (4, .int (x ||| ((nI 1) <<< ((nI j) &&& 31)))), (0, .ref (ad 0)), (1, .int (nI h)), (2, .int fr), (3, .int to)]) hx hb dX1_range_45 hl (k := 5) rfl (inc1 _) (by decide) rfl (fun ls hl => ?_)
            refine lv_goto (tgt := 17) hx hb dX1_range_48 (by decide) ?_
            exact hk4 (x ||| (nI 1 <<< (nI j &&& 31))) _ _ _ ⟨lv_sub hl [2, 3, 4, 5, 1, 0] rfl, hP, hS, rngI_y hj hI ⟨i_nlt c6, i_nlt c7⟩⟩
    · intro x H locs ls hI
      obtain ⟨hl, hP, hS, hI⟩ := hI
      refine lv_iload hx hb dX1_range_17 (lv_at hl 5 rfl) ?_
      refine lv_bipush (v := nI 32) hx hb dX1_range_19 (by decide) ?_
      refine bw_ge (by omega) (by omega) hx hb (tgt := 51) dX1_range_21 (by decide) (fun c8 => ?_) (fun c8 => ?_)
      · refine lv_iconst (v := nI 0) hx hb dX1_range_51 (by decide) ?_
        refine lv_istore (lv' := [(5, .int (nI 0)), (0, .ref (ad 0)), (1, .int (nI h)), (2, .int fr), (3, .int to), (4, .int x)]) hx hb dX1_range_52 hl (by decide) rfl (fun ls hl => ?_)
        refine lv_iconst (v := nI 0) hx hb dX1_range_54 (by decide) ?_
        refine lv_istore (lv' := [(6, .int (nI 0)), (5, .int (nI 0)), (0, .ref (ad 0)), (1, .int (nI h)), (2, .int fr), (3, .int to), (4, .int x)]) hx hb dX1_range_55 hl (by decide) rfl (fun ls hl => ?_)
        have hX := hI
        refine w_loop (σ := Unit) 40 (fun j y H locs ls => lv_has ls 7 [(0, .ref (ad 0)), (1, .int (nI h)), (2, .int fr), (3, .int to), (4, .int x), (5, .int (nI (rngN has up ch h fr to j))), (6, .int (nI j))] ∧ va_P D vwCl (fcW dA ad own rows up clo cho fai cou see) H ∧ va_S (fun q => s.heap.size ≤ q) s.heap H locs ∧ (True)) ?_ ?_ 0 () _ _ _ (by omega) ⟨lv_sub hl [2, 3, 4, 5, 6, 1, 0] rfl, hP, hS, trivial⟩
        · intro j y H locs ls hj hI hk9
          obtain ⟨hl, hP, hS, hI⟩ := hI
          refine lv_iload hx hb dX1_range_57 (lv_at hl 6 rfl) ?_
          refine lv_bipush (v := nI 40) hx hb dX1_range_59 (by decide) ?_
          refine bw_ge (by omega) (by omega) hx hb (tgt := 103) dX1_range_61 (by decide) (fun c10 => ?_) (fun c10 => ?_)
          · exact absurd c10 (by omega)
          · refine lv_iload hx hb dX1_range_64 (lv_at hl 5 rfl) ?_
            refine lv_aload_n hx hb dX1_range_66 rfl (lv_at hl 0 rfl) ?_
            refine lv_iload hx hb dX1_range_67 (lv_at hl 6 rfl) ?_
            refine lv_iload_n hx hb dX1_range_69 rfl (lv_at hl 1 rfl) ?_
            refine bw_ro (rest := [.int (nI (rngN has up ch h fr to j))]) ⟨hx, hb, hml, hown, hts⟩ (met_X1_isKeptBut l D dA dZ ad _ hO hC hH j h hj hh (hF j hj)) (cw_X1_42 hts ⟨Nat.le_of_ble_eq_true rfl, Nat.le_of_ble_eq_true rfl⟩) (va_recv hK hP (ci := 0) (q0 := 0) rfl rfl) hK hP hDT hP hS hA rfl rfl hl.1 (Nat.le_of_ble_eq_true rfl) dX1_range_70 ⟨Nat.zero_le _, Nat.zero_le _⟩ (fun r11 H locs hv12 hP hS => ?_)
            subst hv12
            refine w_cutH 94 ls [.int (nI (rngN has up ch h fr to j))] (fun v H locs => (v = nI (bN ((∃ v, v < 32 ∧ fr ≤ nI v ∧ nI v ≤ to ∧ ow has up j h v) ∧ kb has up ch j h))) ∧ va_P D vwCl (fcW dA ad own rows up clo cho fai cou see) H ∧ va_S (fun q => s.heap.size ≤ q) s.heap H locs) (fun K13 => ?_) (fun v14 H locs hv15 => ?_)
            · refine bw_ifeq hx hb (tgt := 93) dX1_range_73 (by decide) (fun c16 => ?_) (fun c16 => ?_)
              · refine lv_iconst (v := nI 0) hx hb dX1_range_93 (by decide) ?_
                exact K13 _ _ _ ⟨by rw [bN_f (fun q => c16 q.2)], hP, hS⟩
              · refine lv_aload_n hx hb dX1_range_76 rfl (lv_at hl 0 rfl) ?_
                refine lv_iload hx hb dX1_range_77 (lv_at hl 6 rfl) ?_
                refine lv_iload_n hx hb dX1_range_79 rfl (lv_at hl 1 rfl) ?_
                refine bw_ro (rest := [.int (nI (rngN has up ch h fr to j))]) ⟨hx, hb, hml, hown, hts⟩ (met_X1_has l D dA dZ ad _ hO hC j h hj hh) (cw_X1_35 hts ⟨Nat.le_of_ble_eq_true rfl, Nat.le_of_ble_eq_true rfl⟩) (va_recv hK hP (ci := 0) (q0 := 0) rfl rfl) hK hP hDT hP hS hA rfl rfl hl.1 (Nat.le_of_ble_eq_true rfl) dX1_range_80 ⟨Nat.zero_le _, Nat.zero_le _⟩ (fun r17 H locs hv18 hP hS => ?_)
                refine lv_iload hx hb dX1_range_83 (lv_at hl 4 rfl) ?_
                refine lv_iand hx hb dX1_range_85 ?_
                refine lv_if_eq hx hb (tgt := 93) dX1_range_86 (by decide) (fun c19 => ?_) (fun c19 => ?_)
                · refine lv_iconst (v := nI 0) hx hb dX1_range_93 (by decide) ?_
                  exact K13 _ _ _ ⟨by rw [bN_f (fun q => (rng_hit hv18 hX).mp c19 q.1)], hP, hS⟩
                · refine lv_iconst (v := nI 1) hx hb dX1_range_89 (by decide) ?_
                  refine lv_goto (tgt := 94) hx hb dX1_range_90 (by decide) ?_
                  exact K13 _ _ _ ⟨by rw [bN_t ⟨Classical.not_not.mp (fun q => c19 ((rng_hit hv18 hX).mpr q)), c16⟩], hP, hS⟩
            · obtain ⟨hv15, hP, hS⟩ := hv15
              subst hv15
              refine bw_add hx hb dX1_range_94 ?_
              refine lv_istore (lv' := [(5, .int (nI ((rngN has up ch h fr to j) + (bN ((∃ v, v < 32 ∧ fr ≤ nI v ∧ nI v ≤ to ∧ ow has up j h v) ∧ kb has up ch j h))))), (0, .ref (ad 0)), (1, .int (nI h)), (2, .int fr), (3, .int to), (4, .int x), (6, .int (nI j))]) hx hb dX1_range_95 hl (by decide) rfl (fun ls hl => ?_)
              refine lv_iinc (v := nI (j + 1)) (lv' := [(6, .int (nI (j + 1))), (5, .int (nI ((rngN has up ch h fr to j) + (bN ((∃ v, v < 32 ∧ fr ≤ nI v ∧ nI v ≤ to ∧ ow has up j h v) ∧ kb has up ch j h))))), (0, .ref (ad 0)), (1, .int (nI h)), (2, .int fr), (3, .int to), (4, .int x)]) hx hb dX1_range_97 hl (k := 6) rfl (inc1 _) (by decide) rfl (fun ls hl => ?_)
              refine lv_goto (tgt := 57) hx hb dX1_range_100 (by decide) ?_
              exact hk9 () _ _ _ ⟨lv_sub hl [2, 3, 4, 5, 6, 1, 0] rfl, hP, hS, trivial⟩
        · intro y H locs ls hI
          obtain ⟨hl, hP, hS, hI⟩ := hI
          refine lv_iload hx hb dX1_range_57 (lv_at hl 6 rfl) ?_
          refine lv_bipush (v := nI 40) hx hb dX1_range_59 (by decide) ?_
          refine bw_ge (by omega) (by omega) hx hb (tgt := 103) dX1_range_61 (by decide) (fun c20 => ?_) (fun c20 => ?_)
          · refine lv_iload hx hb dX1_range_103 (lv_at hl 5 rfl) ?_
            exact ro_iret hx hb hr hlocks hS dX1_range_105 ((rngS_g hh).symm)
          · exact absurd c20 (by omega)
      · exact absurd c8 (by omega)
  · refine lv_iconst (v := (-1)) hx hb dX1_range_9 (by decide) ?_
    exact ro_iret hx hb hr hlocks hS dX1_range_10 (by unfold rngS; rw [cif_f c3])

set_option maxHeartbeats 4000000 in
set_option maxRecDepth 100000 in
theorem met_X1_sum (l : Launch) (D : va_G) (dA dZ : ClassId) (ad : Nat → Nat) (sz : Nat) {own : Nat → Int32} {rows : Int32} {up clo cho fai cou see has ch tol : Nat → Int32} (hR : Rp (own, rows, up, clo, cho, fai, cou, see) (has, up, ch, tol, rows)) (a b d : Int32) : RO l yX1_sum cX1_sum 8 (some .int) rm_X1_sum [.ref (ad 0), .int a, .int b, .int d] D dA dZ (fcW dA ad own rows up clo cho fai cou see) sz (fun r => r = sumS has up ch a b d) := by
  refine Met.ofW (cc := cX1_sum) (maxL := 8) (ret := (some .int)) (by decide) rfl ?_
  intro p e s m args below meth c s₁ B hml hv
  obtain ⟨rfl, hsz, hP, hK, hDT⟩ := hv
  have hx := B.exec
  have hb := B.bytes
  have hr := B.returns
  have hts : ∀ w ∈ lw_all, w.before _ s = true := fun w h => atoms_spec (ws := ws_ yX1_sum cX1_sum 8 (some .int)) B.pre w (List.mem_cons_of_mem _ h)
  have hown : s.vm.findClass RX1 = some m.cls := findClass_of_methodNamed B.named
  have hlocks := B.notSynchronized
  subst hsz
  have hS : va_S (fun q => s.heap.size ≤ q) s.heap s.heap [] := va_S.rf
  have hA : ∀ q : Nat, s.heap.size ≤ q → (fun q => s.heap.size ≤ q) q := fun q h => h
  have hl := lv_entry ([.ref (ad 0), .int a, .int b, .int d]) (n := 8) (Nat.le_of_ble_eq_true rfl)
  rw [lg_entry_eq]
  generalize (lg_sl ([.ref (ad 0), .int a, .int b, .int d]) ++ List.replicate (8 - (lg_sl ([.ref (ad 0), .int a, .int b, .int d])).length) Slot.unset).toArray = ls at hl ⊢
  have hl : lv_has ls 8 [(0, .ref (ad 0)), (1, .int a), (2, .int b), (3, .int d)] := hl
  have hO : rOwn own has := hR.1
  have hC : rClo clo up := hR.2.2.2.1
  have hH : rCho cho ch := hR.2.2.2.2.1
  have hF : rFai fai has up ch := hR.2.2.2.2.2.1
  have hN : rCou cou has up ch := hR.2.2.2.2.2.2.1
  have hE : ∀ i, i < 256 → see i = tol i := hR.2.2.2.2.2.2.2
  refine lv_iload_n hx hb dX1_sum_0 rfl (lv_at hl 1 rfl) ?_
  refine lv_bipush (v := nI 8) hx hb dX1_sum_1 (by decide) ?_
  refine bw_rs (rest := []) ⟨hx, hb, hml, hown, hts⟩ (met_X1_isIn l _ a 8 (by decide)) (cw_X1_31 hts ⟨Nat.le_of_ble_eq_true rfl, Nat.le_of_ble_eq_true rfl⟩) hP hS hA rfl rfl hl.1 (Nat.le_of_ble_eq_true rfl) dX1_sum_3 ⟨Nat.zero_le _, Nat.zero_le _⟩ (fun r1 H locs hv2 hP hS => ?_)
  subst hv2
  refine bw_ifeq hx hb (tgt := 27) dX1_sum_6 (by decide) (fun c3 => ?_) (fun c3 => ?_)
  · refine lv_iconst (v := (-1)) hx hb dX1_sum_27 (by decide) ?_
    exact ro_iret hx hb hr hlocks hS dX1_sum_28 (by unfold sumS; rw [cif_f (fun q => c3 q.1)])
  · refine lv_iload_n hx hb dX1_sum_9 rfl (lv_at hl 2 rfl) ?_
    refine lv_bipush (v := nI 32) hx hb dX1_sum_10 (by decide) ?_
    refine bw_rs (rest := []) ⟨hx, hb, hml, hown, hts⟩ (met_X1_isIn l _ b 32 (by decide)) (cw_X1_31 hts ⟨Nat.le_of_ble_eq_true rfl, Nat.le_of_ble_eq_true rfl⟩) hP hS hA rfl rfl hl.1 (Nat.le_of_ble_eq_true rfl) dX1_sum_12 ⟨Nat.zero_le _, Nat.zero_le _⟩ (fun r4 H locs hv5 hP hS => ?_)
    subst hv5
    refine bw_ifeq hx hb (tgt := 27) dX1_sum_15 (by decide) (fun c6 => ?_) (fun c6 => ?_)
    · refine lv_iconst (v := (-1)) hx hb dX1_sum_27 (by decide) ?_
      exact ro_iret hx hb hr hlocks hS dX1_sum_28 (by unfold sumS; rw [cif_f (fun q => c6 q.2.1)])
    · refine lv_iload_n hx hb dX1_sum_18 rfl (lv_at hl 3 rfl) ?_
      refine lv_bipush (v := nI 8) hx hb dX1_sum_19 (by decide) ?_
      refine bw_rs (rest := []) ⟨hx, hb, hml, hown, hts⟩ (met_X1_isIn l _ d 8 (by decide)) (cw_X1_31 hts ⟨Nat.le_of_ble_eq_true rfl, Nat.le_of_ble_eq_true rfl⟩) hP hS hA rfl rfl hl.1 (Nat.le_of_ble_eq_true rfl) dX1_sum_21 ⟨Nat.zero_le _, Nat.zero_le _⟩ (fun r7 H locs hv8 hP hS => ?_)
      subst hv8
      refine bw_ifne hx hb (tgt := 29) dX1_sum_24 (by decide) (fun c9 => ?_) (fun c9 => ?_)
      · obtain ⟨h, hh, rfl⟩ := c3
        obtain ⟨v, hv, rfl⟩ := c6
        obtain ⟨o, ho, rfl⟩ := c9
        refine lv_iconst (v := nI 0) hx hb dX1_sum_29 (by decide) ?_
        refine lv_istore (lv' := [(4, .int (nI 0)), (0, .ref (ad 0)), (1, .int (nI h)), (2, .int (nI v)), (3, .int (nI o))]) hx hb dX1_sum_30 hl (by decide) rfl (fun ls hl => ?_)
        refine lv_iconst (v := nI 0) hx hb dX1_sum_32 (by decide) ?_
        refine lv_istore (lv' := [(5, .int (nI 0)), (4, .int (nI 0)), (0, .ref (ad 0)), (1, .int (nI h)), (2, .int (nI v)), (3, .int (nI o))]) hx hb dX1_sum_33 hl (by decide) rfl (fun ls hl => ?_)
        refine w_loop (σ := Nat) 40 (fun j x H locs ls => lv_has ls 8 [(0, .ref (ad 0)), (1, .int (nI h)), (2, .int (nI v)), (3, .int (nI o)), (4, .int (nI x)), (5, .int (nI j))] ∧ va_P D vwCl (fcW dA ad own rows up clo cho fai cou see) H ∧ va_S (fun q => s.heap.size ≤ q) s.heap H locs ∧ (x = sumN has up ch h v o j)) ?_ ?_ 0 0 _ _ _ (by omega) ⟨lv_sub hl [2, 3, 4, 5, 1, 0] rfl, hP, hS, rfl⟩
        · intro j x H locs ls hj hI hk10
          obtain ⟨hl, hP, hS, hI⟩ := hI
          refine lv_iload hx hb dX1_sum_35 (lv_at hl 5 rfl) ?_
          refine lv_bipush (v := nI 40) hx hb dX1_sum_37 (by decide) ?_
          refine bw_ge (by omega) (by omega) hx hb (tgt := 115) dX1_sum_39 (by decide) (fun c11 => ?_) (fun c11 => ?_)
          · exact absurd c11 (by omega)
          · refine lv_aload_n hx hb dX1_sum_42 rfl (lv_at hl 0 rfl) ?_
            refine fc_fails hx hb hts hown hK hP dX1_sum_43 ?_
            refine lv_iload hx hb dX1_sum_46 (lv_at hl 5 rfl) ?_
            refine bw_iald hx hb hK hP 5 rfl j (by omega) (by decide) dX1_sum_48 ?_
            refine bw_top (y := nI (fN has up ch j)) (hF j hj) ?_
            have hfle := fN_le has up ch j
            refine bw_ifgt (by omega) hx hb (tgt := 109) dX1_sum_49 (by decide) (fun c12 => ?_) (fun c12 => ?_)
            · refine lv_iinc (v := nI (j + 1)) (lv' := [(5, .int (nI (j + 1))), (0, .ref (ad 0)), (1, .int (nI h)), (2, .int (nI v)), (3, .int (nI o)), (4, .int (nI x))]) hx hb dX1_sum_109 hl (k := 5) rfl (inc1 _) (by decide) rfl (fun ls hl => ?_)
              refine lv_goto (tgt := 35) hx hb dX1_sum_112 (by decide) ?_
              exact hk10 x _ _ _ ⟨lv_sub hl [1, 2, 3, 4, 5, 0] rfl, hP, hS, sum_n hI (fun q => by have := kb_8.mp q.2; omega)⟩
            · refine lv_aload_n hx hb dX1_sum_52 rfl (lv_at hl 0 rfl) ?_
              refine lv_iload hx hb dX1_sum_53 (lv_at hl 5 rfl) ?_
              refine lv_iload_n hx hb dX1_sum_55 rfl (lv_at hl 1 rfl) ?_
              refine bw_ro (rest := []) ⟨hx, hb, hml, hown, hts⟩ (met_X1_has l D dA dZ ad _ hO hC j h hj hh) (cw_X1_35 hts ⟨Nat.le_of_ble_eq_true rfl, Nat.le_of_ble_eq_true rfl⟩) (va_recv hK hP (ci := 0) (q0 := 0) rfl rfl) hK hP hDT hP hS hA rfl rfl hl.1 (Nat.le_of_ble_eq_true rfl) dX1_sum_56 ⟨Nat.zero_le _, Nat.zero_le _⟩ (fun r13 H locs hv14 hP hS => ?_)
              refine lv_iload_n hx hb dX1_sum_59 rfl (lv_at hl 2 rfl) ?_
              refine lv_ishr hx hb dX1_sum_60 ?_
              refine lv_iconst (v := nI 1) hx hb dX1_sum_61 (by decide) ?_
              refine lv_iand hx hb dX1_sum_62 ?_
              refine bw_top (y := nI (bN (bt r13 v = true))) (b_test _ hv) ?_
              refine bw_ifne hx hb (tgt := 69) dX1_sum_63 (by decide) (fun c15 => ?_) (fun c15 => ?_)
              · refine lv_aload_n hx hb dX1_sum_69 rfl (lv_at hl 0 rfl) ?_
                refine lv_iload hx hb dX1_sum_70 (lv_at hl 5 rfl) ?_
                refine lv_iload_n hx hb dX1_sum_72 rfl (lv_at hl 3 rfl) ?_
                refine bw_ro (rest := []) ⟨hx, hb, hml, hown, hts⟩ (met_X1_has l D dA dZ ad _ hO hC j o hj ho) (cw_X1_35 hts ⟨Nat.le_of_ble_eq_true rfl, Nat.le_of_ble_eq_true rfl⟩) (va_recv hK hP (ci := 0) (q0 := 0) rfl rfl) hK hP hDT hP hS hA rfl rfl hl.1 (Nat.le_of_ble_eq_true rfl) dX1_sum_73 ⟨Nat.zero_le _, Nat.zero_le _⟩ (fun r16 H locs hv17 hP hS => ?_)
                refine lv_istore (lv' := [(6, .int r16), (0, .ref (ad 0)), (1, .int (nI h)), (2, .int (nI v)), (3, .int (nI o)), (4, .int (nI x)), (5, .int (nI j))]) hx hb dX1_sum_76 hl (by decide) rfl (fun ls hl => ?_)
                refine lv_iconst (v := nI 0) hx hb dX1_sum_78 (by decide) ?_
                refine lv_istore (lv' := [(7, .int (nI 0)), (6, .int r16), (0, .ref (ad 0)), (1, .int (nI h)), (2, .int (nI v)), (3, .int (nI o)), (4, .int (nI x)), (5, .int (nI j))]) hx hb dX1_sum_79 hl (by decide) rfl (fun ls hl => ?_)
                have hJ := hI
                refine w_loop (σ := Nat) 32 (fun k y H locs ls => lv_has ls 8 [(0, .ref (ad 0)), (1, .int (nI h)), (2, .int (nI v)), (3, .int (nI o)), (4, .int (nI y)), (5, .int (nI j)), (6, .int r16), (7, .int (nI k))] ∧ va_P D vwCl (fcW dA ad own rows up clo cho fai cou see) H ∧ va_S (fun q => s.heap.size ≤ q) s.heap H locs ∧ (y = x + wsm has up j o k)) ?_ ?_ 0 x _ _ _ (by omega) ⟨lv_sub hl [2, 3, 4, 5, 6, 7, 1, 0] rfl, hP, hS, rfl⟩
                · intro k y H locs ls hk hI hk18
                  obtain ⟨hl, hP, hS, hI⟩ := hI
                  refine lv_iload hx hb dX1_sum_81 (lv_at hl 7 rfl) ?_
                  refine lv_bipush (v := nI 32) hx hb dX1_sum_83 (by decide) ?_
                  refine bw_ge (by omega) (by omega) hx hb (tgt := 109) dX1_sum_85 (by decide) (fun c19 => ?_) (fun c19 => ?_)
                  · exact absurd c19 (by omega)
                  · refine lv_iload hx hb dX1_sum_88 (lv_at hl 4 rfl) ?_
                    refine lv_iload hx hb dX1_sum_90 (lv_at hl 6 rfl) ?_
                    refine lv_iload hx hb dX1_sum_92 (lv_at hl 7 rfl) ?_
                    refine lv_ishr hx hb dX1_sum_94 ?_
                    refine lv_iconst (v := nI 1) hx hb dX1_sum_95 (by decide) ?_
                    refine lv_iand hx hb dX1_sum_96 ?_
                    refine bw_top (y := nI (bN (bt r16 k = true))) (b_test _ hk) ?_
                    refine lv_iload hx hb dX1_sum_97 (lv_at hl 7 rfl) ?_
                    refine bw_mul hx hb dX1_sum_99 ?_
                    refine bw_add hx hb dX1_sum_100 ?_
                    refine lv_istore (lv' := [(4, .int (nI (y + ((bN (bt r16 k = true)) * k)))), (0, .ref (ad 0)), (1, .int (nI h)), (2, .int (nI v)), (3, .int (nI o)), (5, .int (nI j)), (6, .int r16), (7, .int (nI k))]) hx hb dX1_sum_101 hl (by decide) rfl (fun ls hl => ?_)
                    refine lv_iinc (v := nI (k + 1)) (lv' := [(7, .int (nI (k + 1))), (4, .int (nI (y + ((bN (bt r16 k = true)) * k)))), (0, .ref (ad 0)), (1, .int (nI h)), (2, .int (nI v)), (3, .int (nI o)), (5, .int (nI j)), (6, .int r16)]) hx hb dX1_sum_103 hl (k := 7) rfl (inc1 _) (by decide) rfl (fun ls hl => ?_)
                    refine lv_goto (tgt := 81) hx hb dX1_sum_106 (by decide) ?_
                    exact hk18 (y + bN (bt r16 k = true) * k) _ _ _ ⟨lv_sub hl [2, 3, 4, 5, 1, 6, 7, 0] rfl, hP, hS, wsm_s hI (hv17 k hk)⟩
                · intro y H locs ls hI
                  obtain ⟨hl, hP, hS, hI⟩ := hI
                  refine lv_iload hx hb dX1_sum_81 (lv_at hl 7 rfl) ?_
                  refine lv_bipush (v := nI 32) hx hb dX1_sum_83 (by decide) ?_
                  refine bw_ge (by omega) (by omega) hx hb (tgt := 109) dX1_sum_85 (by decide) (fun c20 => ?_) (fun c20 => ?_)
                  · refine lv_iinc (v := nI (j + 1)) (lv' := [(5, .int (nI (j + 1))), (0, .ref (ad 0)), (1, .int (nI h)), (2, .int (nI v)), (3, .int (nI o)), (4, .int (nI y)), (6, .int r16), (7, .int (nI 32))]) hx hb dX1_sum_109 hl (k := 5) rfl (inc1 _) (by decide) rfl (fun ls hl => ?_)
                    refine lv_goto (tgt := 35) hx hb dX1_sum_112 (by decide) ?_
                    exact hk10 y _ _ _ ⟨lv_sub hl [1, 2, 3, 4, 5, 0] rfl, hP, hS, sum_y hJ ⟨(hv14 v hv).mp c15, kb_8.mpr c12⟩ hI⟩
                  · exact absurd c20 (by omega)
              · refine lv_goto (tgt := 109) hx hb dX1_sum_66 (by decide) ?_
                refine lv_iinc (v := nI (j + 1)) (lv' := [(5, .int (nI (j + 1))), (0, .ref (ad 0)), (1, .int (nI h)), (2, .int (nI v)), (3, .int (nI o)), (4, .int (nI x))]) hx hb dX1_sum_109 hl (k := 5) rfl (inc1 _) (by decide) rfl (fun ls hl => ?_)
                refine lv_goto (tgt := 35) hx hb dX1_sum_112 (by decide) ?_
                exact hk10 x _ _ _ ⟨lv_sub hl [1, 2, 3, 4, 5, 0] rfl, hP, hS, sum_n hI (fun q => c15 ((hv14 v hv).mpr q.1))⟩
        · intro x H locs ls hI
          obtain ⟨hl, hP, hS, hI⟩ := hI
          refine lv_iload hx hb dX1_sum_35 (lv_at hl 5 rfl) ?_
          refine lv_bipush (v := nI 40) hx hb dX1_sum_37 (by decide) ?_
          refine bw_ge (by omega) (by omega) hx hb (tgt := 115) dX1_sum_39 (by decide) (fun c21 => ?_) (fun c21 => ?_)
          · refine lv_iload hx hb dX1_sum_115 (lv_at hl 4 rfl) ?_
            exact ro_iret hx hb hr hlocks hS dX1_sum_117 (by rw [sumS_g hh hv ho, hI])
          · exact absurd c21 (by omega)
      · refine lv_iconst (v := (-1)) hx hb dX1_sum_27 (by decide) ?_
        exact ro_iret hx hb hr hlocks hS dX1_sum_28 (by unfold sumS; rw [cif_f (fun q => c9 q.2.2)])

set_option maxHeartbeats 4000000 in
set_option maxRecDepth 100000 in
theorem met_X1_top (l : Launch) (D : va_G) (dA dZ : ClassId) (ad : Nat → Nat) (sz : Nat) {own : Nat → Int32} {rows : Int32} {up clo cho fai cou see has ch tol : Nat → Int32} (hR : Rp (own, rows, up, clo, cho, fai, cou, see) (has, up, ch, tol, rows)) (a b : Int32) : RO l yX1_top cX1_top 8 (some .int) rm_X1_top [.ref (ad 0), .int a, .int b] D dA dZ (fcW dA ad own rows up clo cho fai cou see) sz (fun r => r = topS has up ch a b) := by
  refine Met.ofW (cc := cX1_top) (maxL := 8) (ret := (some .int)) (by decide) rfl ?_
  intro p e s m args below meth c s₁ B hml hv
  obtain ⟨rfl, hsz, hP, hK, hDT⟩ := hv
  have hx := B.exec
  have hb := B.bytes
  have hr := B.returns
  have hts : ∀ w ∈ lw_all, w.before _ s = true := fun w h => atoms_spec (ws := ws_ yX1_top cX1_top 8 (some .int)) B.pre w (List.mem_cons_of_mem _ h)
  have hown : s.vm.findClass RX1 = some m.cls := findClass_of_methodNamed B.named
  have hlocks := B.notSynchronized
  subst hsz
  have hS : va_S (fun q => s.heap.size ≤ q) s.heap s.heap [] := va_S.rf
  have hA : ∀ q : Nat, s.heap.size ≤ q → (fun q => s.heap.size ≤ q) q := fun q h => h
  have hl := lv_entry ([.ref (ad 0), .int a, .int b]) (n := 8) (Nat.le_of_ble_eq_true rfl)
  rw [lg_entry_eq]
  generalize (lg_sl ([.ref (ad 0), .int a, .int b]) ++ List.replicate (8 - (lg_sl ([.ref (ad 0), .int a, .int b])).length) Slot.unset).toArray = ls at hl ⊢
  have hl : lv_has ls 8 [(0, .ref (ad 0)), (1, .int a), (2, .int b)] := hl
  have hO : rOwn own has := hR.1
  have hC : rClo clo up := hR.2.2.2.1
  have hH : rCho cho ch := hR.2.2.2.2.1
  have hF : rFai fai has up ch := hR.2.2.2.2.2.1
  have hN : rCou cou has up ch := hR.2.2.2.2.2.2.1
  have hE : ∀ i, i < 256 → see i = tol i := hR.2.2.2.2.2.2.2
  refine lv_iload_n hx hb dX1_top_0 rfl (lv_at hl 1 rfl) ?_
  refine lv_bipush (v := nI 8) hx hb dX1_top_1 (by decide) ?_
  refine bw_rs (rest := []) ⟨hx, hb, hml, hown, hts⟩ (met_X1_isIn l _ a 8 (by decide)) (cw_X1_31 hts ⟨Nat.le_of_ble_eq_true rfl, Nat.le_of_ble_eq_true rfl⟩) hP hS hA rfl rfl hl.1 (Nat.le_of_ble_eq_true rfl) dX1_top_3 ⟨Nat.zero_le _, Nat.zero_le _⟩ (fun r1 H locs hv2 hP hS => ?_)
  subst hv2
  refine bw_ifeq hx hb (tgt := 18) dX1_top_6 (by decide) (fun c3 => ?_) (fun c3 => ?_)
  · refine lv_iconst (v := (-1)) hx hb dX1_top_18 (by decide) ?_
    exact ro_iret hx hb hr hlocks hS dX1_top_19 (by unfold topS; rw [cif_f c3])
  · refine lv_iload_n hx hb dX1_top_9 rfl (lv_at hl 2 rfl) ?_
    refine lv_bipush (v := nI 32) hx hb dX1_top_10 (by decide) ?_
    refine bw_rs (rest := []) ⟨hx, hb, hml, hown, hts⟩ (met_X1_isIn l _ b 32 (by decide)) (cw_X1_31 hts ⟨Nat.le_of_ble_eq_true rfl, Nat.le_of_ble_eq_true rfl⟩) hP hS hA rfl rfl hl.1 (Nat.le_of_ble_eq_true rfl) dX1_top_12 ⟨Nat.zero_le _, Nat.zero_le _⟩ (fun r4 H locs hv5 hP hS => ?_)
    subst hv5
    refine bw_ifne hx hb (tgt := 20) dX1_top_15 (by decide) (fun c6 => ?_) (fun c6 => ?_)
    · obtain ⟨h, hh, rfl⟩ := c3
      obtain ⟨rk, hrk, rfl⟩ := c6
      refine lv_iconst (v := nI 0) hx hb dX1_top_20 (by decide) ?_
      refine lv_istore_n (lv' := [(3, .int (nI 0)), (0, .ref (ad 0)), (1, .int (nI h)), (2, .int (nI rk))]) hx hb dX1_top_21 rfl hl (by decide) rfl (fun ls hl => ?_)
      refine lv_iconst (v := (-1)) hx hb dX1_top_22 (by decide) ?_
      refine lv_istore (lv' := [(4, .int ((-1))), (3, .int (nI 0)), (0, .ref (ad 0)), (1, .int (nI h)), (2, .int (nI rk))]) hx hb dX1_top_23 hl (by decide) rfl (fun ls hl => ?_)
      refine lv_iconst (v := nI 0) hx hb dX1_top_25 (by decide) ?_
      refine lv_istore (lv' := [(5, .int (nI 0)), (4, .int ((-1))), (3, .int (nI 0)), (0, .ref (ad 0)), (1, .int (nI h)), (2, .int (nI rk))]) hx hb dX1_top_26 hl (by decide) rfl (fun ls hl => ?_)
      refine w_loop (σ := Int32 × Int32) (rk + 1) (fun k x H locs ls => lv_has ls 8 [(0, .ref (ad 0)), (1, .int (nI h)), (2, .int (nI rk)), (3, .int x.1), (4, .int x.2), (5, .int (nI k))] ∧ va_P D vwCl (fcW dA ad own rows up clo cho fai cou see) H ∧ va_S (fun q => s.heap.size ≤ q) s.heap H locs ∧ (topI (cN has up ch h) k x.1 ∧ (0 < k → ∃ b, x.2 = nI b ∧ topP (cN has up ch h) (nI (k - 1)) b))) ?_ ?_ 0 (nI 0, (-1)) _ _ _ (by omega) ⟨lv_sub hl [3, 4, 5, 2, 1, 0] rfl, hP, hS, ⟨topI_0 _, fun q => absurd q (Nat.lt_irrefl 0)⟩⟩
      · intro k x H locs ls hk hI hk7
        obtain ⟨hl, hP, hS, hI⟩ := hI
        refine lv_iload hx hb dX1_top_28 (lv_at hl 5 rfl) ?_
        refine lv_iload_n hx hb dX1_top_30 rfl (lv_at hl 2 rfl) ?_
        refine bw_gt (by omega) (by omega) hx hb (tgt := 132) dX1_top_31 (by decide) (fun c8 => ?_) (fun c8 => ?_)
        · exact absurd c8 (by omega)
        · obtain ⟨hT, -⟩ := hI
          refine lv_iconst (v := (-1)) hx hb dX1_top_34 (by decide) ?_
          refine lv_istore (lv' := [(4, .int ((-1))), (0, .ref (ad 0)), (1, .int (nI h)), (2, .int (nI rk)), (3, .int x.1), (5, .int (nI k))]) hx hb dX1_top_35 hl (by decide) rfl (fun ls hl => ?_)
          refine lv_iconst (v := nI 0) hx hb dX1_top_37 (by decide) ?_
          refine lv_istore (lv' := [(6, .int (nI 0)), (4, .int ((-1))), (0, .ref (ad 0)), (1, .int (nI h)), (2, .int (nI rk)), (3, .int x.1), (5, .int (nI k))]) hx hb dX1_top_38 hl (by decide) rfl (fun ls hl => ?_)
          refine w_loop (σ := Int32) 32 (fun j y H locs ls => lv_has ls 8 [(0, .ref (ad 0)), (1, .int (nI h)), (2, .int (nI rk)), (3, .int x.1), (4, .int y), (5, .int (nI k)), (6, .int (nI j))] ∧ va_P D vwCl (fcW dA ad own rows up clo cho fai cou see) H ∧ va_S (fun q => s.heap.size ≤ q) s.heap H locs ∧ (topJ (cN has up ch h) x.1 j y)) ?_ ?_ 0 (-1) _ _ _ (by omega) ⟨lv_sub hl [2, 3, 4, 5, 1, 6, 0] rfl, hP, hS, Or.inl ⟨rfl, fun w hw => absurd hw (Nat.not_lt_zero w)⟩⟩
          · intro j y H locs ls hj hI hk9
            obtain ⟨hl, hP, hS, hI⟩ := hI
            refine lv_iload hx hb dX1_top_40 (lv_at hl 6 rfl) ?_
            refine lv_bipush (v := nI 32) hx hb dX1_top_42 (by decide) ?_
            refine bw_ge (by omega) (by omega) hx hb (tgt := 112) dX1_top_44 (by decide) (fun c10 => ?_) (fun c10 => ?_)
            · exact absurd c10 (by omega)
            · refine lv_iload_n hx hb dX1_top_47 rfl (lv_at hl 3 rfl) ?_
              refine lv_iload hx hb dX1_top_48 (lv_at hl 6 rfl) ?_
              refine lv_ishr hx hb dX1_top_50 ?_
              refine lv_iconst (v := nI 1) hx hb dX1_top_51 (by decide) ?_
              refine lv_iand hx hb dX1_top_52 ?_
              refine bw_top (y := nI (bN (bt x.1 j = true))) (b_test _ hj) ?_
              refine w_cut 73 ls [] (fun v => v = nI (cif (bt x.1 j = true) 0 (cN has up ch h j))) (fun K11 => ?_) (fun v12 hv13 => ?_)
              · refine lv_iconst (v := nI 1) hx hb dX1_top_53 (by decide) ?_
                refine bw_ne1 hx hb (tgt := 61) dX1_top_54 (by decide) (fun c14 => ?_) (fun c14 => ?_)
                · refine lv_aload_n hx hb dX1_top_61 rfl (lv_at hl 0 rfl) ?_
                  refine fc_counts hx hb hts hown hK hP dX1_top_62 ?_
                  refine lv_bipush (v := nI 32) hx hb dX1_top_65 (by decide) ?_
                  refine lv_iload_n hx hb dX1_top_67 rfl (lv_at hl 1 rfl) ?_
                  refine bw_mul hx hb dX1_top_68 ?_
                  refine lv_iload hx hb dX1_top_69 (lv_at hl 6 rfl) ?_
                  refine bw_add hx hb dX1_top_71 ?_
                  refine bw_iald hx hb hK hP 6 rfl (((32 * h) + j)) (by omega) (by decide) dX1_top_72 ?_
                  refine bw_top (y := nI (cN has up ch h j)) (hN h hh j hj) ?_
                  exact K11 _ (by rw [cif_f c14])
                · refine lv_iconst (v := nI 0) hx hb dX1_top_57 (by decide) ?_
                  refine lv_goto (tgt := 73) hx hb dX1_top_58 (by decide) ?_
                  exact K11 _ (by rw [cif_t c14])
              · subst hv13
                have hn := cN_le has up ch h j
                have hn2 : cif (bt x.1 j = true) 0 (cN has up ch h j) ≤ 40 := by by_cases q : bt x.1 j = true; rw [cif_t q]; omega; rw [cif_f q]; omega
                refine lv_istore (lv' := [(7, .int (nI (cif (bt x.1 j = true) 0 (cN has up ch h j)))), (0, .ref (ad 0)), (1, .int (nI h)), (2, .int (nI rk)), (3, .int x.1), (4, .int y), (5, .int (nI k)), (6, .int (nI j))]) hx hb dX1_top_73 hl (by decide) rfl (fun ls hl => ?_)
                refine lv_iload hx hb dX1_top_75 (lv_at hl 0 rfl) ?_
                refine bw_ifle (by omega) hx hb (tgt := 106) dX1_top_77 (by decide) (fun c15 => ?_) (fun c15 => ?_)
                · refine lv_iinc (v := nI (j + 1)) (lv' := [(6, .int (nI (j + 1))), (7, .int (nI (cif (bt x.1 j = true) 0 (cN has up ch h j)))), (0, .ref (ad 0)), (1, .int (nI h)), (2, .int (nI rk)), (3, .int x.1), (4, .int y), (5, .int (nI k))]) hx hb dX1_top_106 hl (k := 7) rfl (inc1 _) (by decide) rfl (fun ls hl => ?_)
                  refine lv_goto (tgt := 40) hx hb dX1_top_109 (by decide) ?_
                  exact hk9 y _ _ _ ⟨lv_sub hl [2, 3, 4, 5, 6, 7, 0] rfl, hP, hS, topJ_z hI (by by_cases q : bt x.1 j = true; exact Or.inl q; rw [cif_f q] at c15; exact Or.inr c15)⟩
                · have hq : ¬ bt x.1 j = true := fun q => by rw [cif_t q] at c15; omega
                  have hq2 : cif (bt x.1 j = true) 0 (cN has up ch h j) = cN has up ch h j := cif_f hq
                  rw [hq2] at c15
                  rcases hI with ⟨rfl, hI⟩ | ⟨b, hb2, rfl, hi1, hi2, hi3⟩
                  · refine lv_iload hx hb dX1_top_80 (lv_at hl 5 rfl) ?_
                    refine lv_if_lt hx hb (tgt := 102) dX1_top_82 (by decide) (fun c16 => ?_) (fun c16 => ?_)
                    · refine lv_iload hx hb dX1_top_102 (lv_at hl 7 rfl) ?_
                      refine lv_istore (lv' := [(4, .int (nI j)), (7, .int (nI (cif (bt x.1 j = true) 0 (cN has up ch h j)))), (0, .ref (ad 0)), (1, .int (nI h)), (2, .int (nI rk)), (3, .int x.1), (5, .int (nI k)), (6, .int (nI j))]) hx hb dX1_top_104 hl (by decide) rfl (fun ls hl => ?_)
                      refine lv_iinc (v := nI (j + 1)) (lv' := [(6, .int (nI (j + 1))), (4, .int (nI j)), (7, .int (nI (cif (bt x.1 j = true) 0 (cN has up ch h j)))), (0, .ref (ad 0)), (1, .int (nI h)), (2, .int (nI rk)), (3, .int x.1), (5, .int (nI k))]) hx hb dX1_top_106 hl (k := 7) rfl (inc1 _) (by decide) rfl (fun ls hl => ?_)
                      refine lv_goto (tgt := 40) hx hb dX1_top_109 (by decide) ?_
                      exact hk9 (nI j) _ _ _ ⟨lv_sub hl [3, 4, 5, 6, 1, 7, 0] rfl, hP, hS, topJ_1 hI hq c15⟩
                    · exact absurd (by decide) c16
                  · have hn3 := cN_le has up ch h b
                    refine lv_iload hx hb dX1_top_80 (lv_at hl 5 rfl) ?_
                    refine lv_if_lt hx hb (tgt := 102) dX1_top_82 (by decide) (fun c17 => ?_) (fun c17 => ?_)
                    · exact absurd c17 (nI_pos (by omega))
                    · refine lv_iload hx hb dX1_top_85 (lv_at hl 0 rfl) ?_
                      refine lv_aload_n hx hb dX1_top_87 rfl (lv_at hl 1 rfl) ?_
                      refine fc_counts hx hb hts hown hK hP dX1_top_88 ?_
                      refine lv_bipush (v := nI 32) hx hb dX1_top_91 (by decide) ?_
                      refine lv_iload_n hx hb dX1_top_93 rfl (lv_at hl 2 rfl) ?_
                      refine bw_mul hx hb dX1_top_94 ?_
                      refine lv_iload hx hb dX1_top_95 (lv_at hl 5 rfl) ?_
                      refine bw_add hx hb dX1_top_97 ?_
                      refine bw_iald hx hb hK hP 6 rfl (((32 * h) + b)) (by omega) (by decide) dX1_top_98 ?_
                      refine bw_top (y := nI (cN has up ch h b)) (hN h hh b (by omega)) ?_
                      refine bw_le (by omega) (by omega) hx hb (tgt := 106) dX1_top_99 (by decide) (fun c18 => ?_) (fun c18 => ?_)
                      · rw [hq2] at c18
                        refine lv_iinc (v := nI (j + 1)) (lv' := [(6, .int (nI (j + 1))), (7, .int (nI (cif (bt x.1 j = true) 0 (cN has up ch h j)))), (0, .ref (ad 0)), (1, .int (nI h)), (2, .int (nI rk)), (3, .int x.1), (4, .int (nI b)), (5, .int (nI k))]) hx hb dX1_top_106 hl (k := 7) rfl (inc1 _) (by decide) rfl (fun ls hl => ?_)
                        refine lv_goto (tgt := 40) hx hb dX1_top_109 (by decide) ?_
                        exact hk9 (nI b) _ _ _ ⟨lv_sub hl [2, 3, 4, 5, 6, 7, 0] rfl, hP, hS, topJ_k hb2 hi1 hi2 hi3 c18⟩
                      · rw [hq2] at c18
                        refine lv_iload hx hb dX1_top_102 (lv_at hl 7 rfl) ?_
                        refine lv_istore (lv' := [(4, .int (nI j)), (7, .int (nI (cif (bt x.1 j = true) 0 (cN has up ch h j)))), (0, .ref (ad 0)), (1, .int (nI h)), (2, .int (nI rk)), (3, .int x.1), (5, .int (nI k)), (6, .int (nI j))]) hx hb dX1_top_104 hl (by decide) rfl (fun ls hl => ?_)
                        refine lv_iinc (v := nI (j + 1)) (lv' := [(6, .int (nI (j + 1))), (4, .int (nI j)), (7, .int (nI (cif (bt x.1 j = true) 0 (cN has up ch h j)))), (0, .ref (ad 0)), (1, .int (nI h)), (2, .int (nI rk)), (3, .int x.1), (5, .int (nI k))]) hx hb dX1_top_106 hl (k := 7) rfl (inc1 _) (by decide) rfl (fun ls hl => ?_)
                        refine lv_goto (tgt := 40) hx hb dX1_top_109 (by decide) ?_
                        exact hk9 (nI j) _ _ _ ⟨lv_sub hl [3, 4, 5, 6, 1, 7, 0] rfl, hP, hS, topJ_r hb2 hi3 hq c18⟩
          · intro y H locs ls hI
            obtain ⟨hl, hP, hS, hI⟩ := hI
            refine lv_iload hx hb dX1_top_40 (lv_at hl 6 rfl) ?_
            refine lv_bipush (v := nI 32) hx hb dX1_top_42 (by decide) ?_
            refine bw_ge (by omega) (by omega) hx hb (tgt := 112) dX1_top_44 (by decide) (fun c19 => ?_) (fun c19 => ?_)
            · rcases hI with ⟨rfl, hI⟩ | ⟨b, hb2, rfl, hi1, hi2, hi3⟩
              · refine lv_iload hx hb dX1_top_112 (lv_at hl 4 rfl) ?_
                refine lv_if_ge hx hb (tgt := 119) dX1_top_114 (by decide) (fun c20 => ?_) (fun c20 => ?_)
                · exact absurd c20 (by decide)
                · refine lv_iconst (v := (-1)) hx hb dX1_top_117 (by decide) ?_
                  exact ro_iret hx hb hr hlocks hS dX1_top_118 (by rw [topS_g hh, topG_n (top_none hT (by omega) hrk hI)])
              · refine lv_iload hx hb dX1_top_112 (lv_at hl 4 rfl) ?_
                refine lv_if_ge hx hb (tgt := 119) dX1_top_114 (by decide) (fun c21 => ?_) (fun c21 => ?_)
                · refine lv_iload_n hx hb dX1_top_119 rfl (lv_at hl 3 rfl) ?_
                  refine lv_iconst (v := nI 1) hx hb dX1_top_120 (by decide) ?_
                  refine lv_iload hx hb dX1_top_121 (lv_at hl 4 rfl) ?_
                  refine lv_ishl hx hb dX1_top_123 ?_
                  refine lv_ior hx hb dX1_top_124 ?_
                  refine lv_istore_n (lv' := [(3, .int (x.1 ||| ((nI 1) <<< ((nI b) &&& 31)))), (0, .ref (ad 0)), (1, .int (nI h)), (2, .int (nI rk)), (4, .int (nI b)), (5, .int (nI k)), (6, .int (nI 32))]) hx hb dX1_top_125 rfl hl (by decide) rfl (fun ls hl => ?_)
                  refine lv_iinc (v := nI (k + 1)) (lv' := [(5, .int (nI (k + 1))), (3, .int (x.1 ||| ((nI 1) <<< ((nI b) &&& 31)))), (0, .ref (ad 0)), (1, .int (nI h)), (2, .int (nI rk)), (4, .int (nI b)), (6, .int (nI 32))]) hx hb dX1_top_126 hl (k := 5) rfl (inc1 _) (by decide) rfl (fun ls hl => ?_)
                  refine lv_goto (tgt := 28) hx hb dX1_top_129 (by decide) ?_
                  exact hk7 (x.1 ||| (nI 1 <<< (nI b &&& 31)), nI b) _ _ _ ⟨lv_sub hl [2, 3, 4, 1, 5, 0] rfl, hP, hS, ⟨topI_s hT hb2 hi1 hi2 hi3, fun _ => ⟨b, rfl, by rw [Nat.add_sub_cancel]; exact top_bef hT hb2 hi1 hi2 hi3⟩⟩⟩
                · exact absurd (nI_pos' (by omega)) c21
            · exact absurd c19 (by omega)
      · intro x H locs ls hI
        obtain ⟨hl, hP, hS, hI⟩ := hI
        refine lv_iload hx hb dX1_top_28 (lv_at hl 5 rfl) ?_
        refine lv_iload_n hx hb dX1_top_30 rfl (lv_at hl 2 rfl) ?_
        refine bw_gt (by omega) (by omega) hx hb (tgt := 132) dX1_top_31 (by decide) (fun c22 => ?_) (fun c22 => ?_)
        · refine lv_iload hx hb dX1_top_132 (lv_at hl 4 rfl) ?_
          obtain ⟨-, hI⟩ := hI
          obtain ⟨b, e1, e2⟩ := hI (Nat.succ_pos rk)
          rw [Nat.add_sub_cancel] at e2
          exact ro_iret hx hb hr hlocks hS dX1_top_134 (by rw [topS_g hh, topG_y e2]; exact e1)
        · exact absurd c22 (by omega)
    · obtain ⟨h, hh, rfl⟩ := c3
      refine lv_iconst (v := (-1)) hx hb dX1_top_18 (by decide) ?_
      exact ro_iret hx hb hr hlocks hS dX1_top_19 (by rw [topS_g hh, topG_n (top_bad c6)])

set_option maxHeartbeats 4000000 in
set_option maxRecDepth 100000 in
theorem met_X1_changed (l : Launch) (D : va_G) (dA dZ : ClassId) (ad : Nat → Nat) (sz : Nat) {own : Nat → Int32} {rows : Int32} {up clo cho fai cou see has ch tol : Nat → Int32} (hR : Rp (own, rows, up, clo, cho, fai, cou, see) (has, up, ch, tol, rows))  : RW l yX1_changed cX1_changed 3 (some .int) rm_X1_changed [.ref (ad 0)] D dA dZ (fcW dA ad own rows up clo cho fai cou see) sz (S := FS) (fun r u => r = (chgS has up ch tol rows).1 ∧ Rp u (chgS has up ch tol rows).2) (fun u => fcU dA ad u) := by
  refine Met.ofW (cc := cX1_changed) (maxL := 3) (ret := (some .int)) (by decide) rfl ?_
  intro p e s m args below meth c s₁ B hml hv
  obtain ⟨rfl, hsz, hP, hK, hDT⟩ := hv
  have hx := B.exec
  have hb := B.bytes
  have hr := B.returns
  have hts : ∀ w ∈ lw_all, w.before _ s = true := fun w h => atoms_spec (ws := ws_ yX1_changed cX1_changed 3 (some .int)) B.pre w (List.mem_cons_of_mem _ h)
  have hown : s.vm.findClass RX1 = some m.cls := findClass_of_methodNamed B.named
  have hlocks := B.notSynchronized
  subst hsz
  have hD := hDT.self (sz := s.heap.size)
  generalize hAe : va_A (fcW dA ad own rows up clo cho fai cou see) s.heap.size = A at hD ⊢
  have hA : ∀ q : Nat, s.heap.size ≤ q → A q := fun q h => by rw [← hAe]; exact Or.inr h
  have hS : va_S A s.heap s.heap [] := va_S.rf
  have hl := lv_entry ([.ref (ad 0)]) (n := 3) (Nat.le_of_ble_eq_true rfl)
  rw [lg_entry_eq]
  generalize (lg_sl ([.ref (ad 0)]) ++ List.replicate (3 - (lg_sl ([.ref (ad 0)])).length) Slot.unset).toArray = ls at hl ⊢
  have hl : lv_has ls 3 [(0, .ref (ad 0))] := hl
  have hO : rOwn own has := hR.1
  have hC : rClo clo up := hR.2.2.2.1
  have hH : rCho cho ch := hR.2.2.2.2.1
  have hF : rFai fai has up ch := hR.2.2.2.2.2.1
  have hN : rCou cou has up ch := hR.2.2.2.2.2.2.1
  have hE : ∀ i, i < 256 → see i = tol i := hR.2.2.2.2.2.2.2
  refine lv_iconst (v := nI 0) hx hb dX1_changed_0 (by decide) ?_
  refine lv_istore_n (lv' := [(1, .int (nI 0)), (0, .ref (ad 0))]) hx hb dX1_changed_1 rfl hl (by decide) rfl (fun ls hl => ?_)
  refine lv_iconst (v := nI 0) hx hb dX1_changed_2 (by decide) ?_
  refine lv_istore_n (lv' := [(2, .int (nI 0)), (1, .int (nI 0)), (0, .ref (ad 0))]) hx hb dX1_changed_3 rfl hl (by decide) rfl (fun ls hl => ?_)
  refine w_loop (σ := Nat × (Nat → Int32)) 256 (fun j x H locs ls => lv_has ls 3 [(0, .ref (ad 0)), (1, .int (nI x.1)), (2, .int (nI j))] ∧ va_P D vwCl (fcW dA ad own rows up clo cho fai cou x.2) H ∧ va_D A (fcW dA ad own rows up clo cho fai cou x.2) ∧ va_S A s.heap H locs ∧ (x.1 = chgN has up ch tol j ∧ ∀ i, i < 256 → x.2 i = chgT has up ch tol j i)) ?_ ?_ 0 (0, see) _ _ _ (by omega) ⟨lv_sub hl [2, 1, 0] rfl, hP, hD, hS, ⟨rfl, fun i hi => (hE i hi).trans (chgT_n (Nat.zero_le i)).symm⟩⟩
  · intro j x H locs ls hj hI hk1
    obtain ⟨hl, hP, hD, hS, hI⟩ := hI
    refine lv_iload_n hx hb dX1_changed_4 rfl (lv_at hl 2 rfl) ?_
    refine lv_aload_n hx hb dX1_changed_5 rfl (lv_at hl 0 rfl) ?_
    refine fc_counts hx hb hts hown hK hP dX1_changed_6 ?_
    refine va_alen (v := nI 256) hx hb hK hP 6 0 rfl rfl rfl dX1_changed_9 ?_
    refine bw_ge (by omega) (by omega) hx hb (tgt := 54) dX1_changed_10 (by decide) (fun c2 => ?_) (fun c2 => ?_)
    · exact absurd c2 (by omega)
    · have e1 := rCou_i hN hj
      have e2 : x.2 j = tol j := (hI.2 j hj).trans (chgT_n (Nat.le_refl j))
      refine lv_iload_n hx hb dX1_changed_13 rfl (lv_at hl 1 rfl) ?_
      refine lv_aload_n hx hb dX1_changed_14 rfl (lv_at hl 0 rfl) ?_
      refine fc_counts hx hb hts hown hK hP dX1_changed_15 ?_
      refine lv_iload_n hx hb dX1_changed_18 rfl (lv_at hl 2 rfl) ?_
      refine bw_iald hx hb hK hP 6 rfl j (by omega) (by decide) dX1_changed_19 ?_
      refine lv_aload_n hx hb dX1_changed_20 rfl (lv_at hl 0 rfl) ?_
      refine fc_seen hx hb hts hown hK hP dX1_changed_21 ?_
      refine lv_iload_n hx hb dX1_changed_24 rfl (lv_at hl 2 rfl) ?_
      refine bw_iald hx hb hK hP 7 rfl j (by omega) (by decide) dX1_changed_25 ?_
      refine w_cut 34 ls [.int (nI x.1)] (fun v => v = nI (bN (¬ nI (cI has up ch j) = tol j))) (fun K3 => ?_) (fun v4 hv5 => ?_)
      · refine lv_icmp_eq hx hb (tgt := 33) dX1_changed_26 (by decide) (fun c6 => ?_) (fun c6 => ?_)
        · refine lv_iconst (v := nI 0) hx hb dX1_changed_33 (by decide) ?_
          exact K3 _ (by rw [bN_f (fun q => q (by rw [← e1, ← e2]; exact c6))])
        · refine lv_iconst (v := nI 1) hx hb dX1_changed_29 (by decide) ?_
          refine lv_goto (tgt := 34) hx hb dX1_changed_30 (by decide) ?_
          exact K3 _ (by rw [bN_t (fun q => c6 (by rw [e1, e2]; exact q))])
      · subst hv5
        refine bw_add hx hb dX1_changed_34 ?_
        refine lv_istore_n (lv' := [(1, .int (nI (x.1 + (bN (¬ nI (cI has up ch j) = tol j))))), (0, .ref (ad 0)), (2, .int (nI j))]) hx hb dX1_changed_35 rfl hl (by decide) rfl (fun ls hl => ?_)
        refine lv_aload_n hx hb dX1_changed_36 rfl (lv_at hl 1 rfl) ?_
        refine fc_seen hx hb hts hown hK hP dX1_changed_37 ?_
        refine lv_iload_n hx hb dX1_changed_40 rfl (lv_at hl 2 rfl) ?_
        refine lv_aload_n hx hb dX1_changed_41 rfl (lv_at hl 1 rfl) ?_
        refine fc_counts hx hb hts hown hK hP dX1_changed_42 ?_
        refine lv_iload_n hx hb dX1_changed_45 rfl (lv_at hl 2 rfl) ?_
        refine bw_iald hx hb hK hP 6 rfl j (by omega) (by decide) dX1_changed_46 ?_
        refine bw_iast hx hb hK hP hD hS 7 rfl j (by omega) (by decide) dX1_changed_47 (fun H locs hP hD hS => ?_)
        have hP : va_P D vwCl (fcW dA ad own rows up clo cho fai cou (upd x.2 j (cou j))) H := hP
        have hD : va_D A (fcW dA ad own rows up clo cho fai cou (upd x.2 j (cou j))) := hD
        refine lv_iinc (v := nI (j + 1)) (lv' := [(2, .int (nI (j + 1))), (1, .int (nI (x.1 + (bN (¬ nI (cI has up ch j) = tol j))))), (0, .ref (ad 0))]) hx hb dX1_changed_48 hl (k := 2) rfl (inc1 _) (by decide) rfl (fun ls hl => ?_)
        refine lv_goto (tgt := 4) hx hb dX1_changed_51 (by decide) ?_
        exact hk1 (x.1 + bN (¬ nI (cI has up ch j) = tol j), upd x.2 j (cou j)) _ _ _ ⟨lv_sub hl [2, 1, 0] rfl, hP, hD, hS, ⟨by rw [hI.1]; rfl, chg_step hI.2 e1⟩⟩
  · intro x H locs ls hI
    obtain ⟨hl, hP, hD, hS, hI⟩ := hI
    refine lv_iload_n hx hb dX1_changed_4 rfl (lv_at hl 2 rfl) ?_
    refine lv_aload_n hx hb dX1_changed_5 rfl (lv_at hl 0 rfl) ?_
    refine fc_counts hx hb hts hown hK hP dX1_changed_6 ?_
    refine va_alen (v := nI 256) hx hb hK hP 6 0 rfl rfl rfl dX1_changed_9 ?_
    refine bw_ge (by omega) (by omega) hx hb (tgt := 54) dX1_changed_10 (by decide) (fun c7 => ?_) (fun c7 => ?_)
    · refine lv_iload_n hx hb dX1_changed_54 rfl (lv_at hl 1 rfl) ?_
      exact rw_iret ((own, rows, up, clo, cho, fai, cou, x.2)) hx hb hr hlocks hP hD hS dX1_changed_55 (⟨by rw [hI.1]; rfl, hO, rfl, rfl, hC, hH, hF, hN, hI.2⟩)
    · exact absurd c7 (by omega)

set_option maxHeartbeats 4000000 in
set_option maxRecDepth 100000 in
theorem met_X1_common (l : Launch) (sz : Nat) (a b : Nat) (ha : a ≤ 40) (hb2 : b ≤ 40) : RS l yX1_common cX1_common 5 (some .int) rm_X1_common [.int (nI a), .int (nI b)] sz (fun r => r = nI (Nat.gcd a b)) := by
  refine Met.ofW (cc := cX1_common) (maxL := 5) (ret := (some .int)) (by decide) rfl ?_
  intro p e s m args below meth c s₁ B hml hv
  obtain ⟨rfl, hsz⟩ := hv
  have hsz : s.heap.size = sz := hsz
  have hx := B.exec
  have hb := B.bytes
  have hr := B.returns
  have hts : ∀ w ∈ lw_all, w.before _ s = true := fun w h => atoms_spec (ws := ws_ yX1_common cX1_common 5 (some .int)) B.pre w (List.mem_cons_of_mem _ h)
  have hown : s.vm.findClass RX1 = some m.cls := findClass_of_methodNamed B.named
  have hlocks := B.notSynchronized
  subst hsz
  have hS : va_S (fun q => s.heap.size ≤ q) s.heap s.heap [] := va_S.rf
  have hA : ∀ q : Nat, s.heap.size ≤ q → (fun q => s.heap.size ≤ q) q := fun q h => h
  have hP : va_P ((fun _ => 0), (fun _ _ => 0)) vwCl [] s.heap := fun k q h => by cases h
  have hl := lv_entry ([.int (nI a), .int (nI b)]) (n := 5) (Nat.le_of_ble_eq_true rfl)
  rw [lg_entry_eq]
  generalize (lg_sl ([.int (nI a), .int (nI b)]) ++ List.replicate (5 - (lg_sl ([.int (nI a), .int (nI b)])).length) Slot.unset).toArray = ls at hl ⊢
  have hl : lv_has ls 5 [(0, .int (nI a)), (1, .int (nI b))] := hl
  refine lv_iload_n hx hb dX1_common_0 rfl (lv_at hl 0 rfl) ?_
  refine lv_istore_n (lv' := [(2, .int (nI a)), (0, .int (nI a)), (1, .int (nI b))]) hx hb dX1_common_1 rfl hl (by decide) rfl (fun ls hl => ?_)
  refine lv_iload_n hx hb dX1_common_2 rfl (lv_at hl 2 rfl) ?_
  refine lv_istore_n (lv' := [(3, .int (nI b)), (2, .int (nI a)), (0, .int (nI a)), (1, .int (nI b))]) hx hb dX1_common_3 rfl hl (by decide) rfl (fun ls hl => ?_)
  refine w_loopm (σ := Nat × Nat) (fun x => x.2) (fun x H locs ls => lv_has ls 5 [(2, .int (nI x.1)), (3, .int (nI x.2))] ∧ va_P ((fun _ => 0), (fun _ _ => 0)) vwCl [] H ∧ va_S (fun q => s.heap.size ≤ q) s.heap H locs ∧ (x.1 ≤ 40 ∧ x.2 ≤ 40 ∧ Nat.gcd x.1 x.2 = Nat.gcd a b)) ?_ (a, b) _ _ _ ⟨lv_sub hl [1, 0] rfl, hP, hS, ⟨ha, hb2, rfl⟩⟩
  intro x H locs ls hI hk1
  obtain ⟨hl, hP, hS, hI⟩ := hI
  obtain ⟨h1, h2, h3⟩ := hI
  refine lv_iload_n hx hb dX1_common_4 rfl (lv_at hl 1 rfl) ?_
  refine bw_ife (by omega) hx hb (tgt := 21) dX1_common_5 (by decide) (fun c2 => ?_) (fun c2 => ?_)
  · refine lv_iload_n hx hb dX1_common_21 rfl (lv_at hl 0 rfl) ?_
    exact ro_iret hx hb hr hlocks hS dX1_common_22 (by rw [← h3, c2, Nat.gcd_zero_right])
  · refine lv_iload_n hx hb dX1_common_8 rfl (lv_at hl 0 rfl) ?_
    refine lv_iload_n hx hb dX1_common_9 rfl (lv_at hl 1 rfl) ?_
    refine lv_irem hx hb dX1_common_10 (nI_ne0 (by omega) (by omega)) ?_
    refine bw_top (y := nI (x.1 % x.2)) (pk_rem (by omega) (by omega) (by omega)) ?_
    refine lv_istore (lv' := [(4, .int (nI (x.1 % x.2))), (2, .int (nI x.1)), (3, .int (nI x.2))]) hx hb dX1_common_11 hl (by decide) rfl (fun ls hl => ?_)
    refine lv_iload_n hx hb dX1_common_13 rfl (lv_at hl 2 rfl) ?_
    refine lv_istore_n (lv' := [(2, .int (nI x.2)), (4, .int (nI (x.1 % x.2))), (3, .int (nI x.2))]) hx hb dX1_common_14 rfl hl (by decide) rfl (fun ls hl => ?_)
    refine lv_iload hx hb dX1_common_15 (lv_at hl 1 rfl) ?_
    refine lv_istore_n (lv' := [(3, .int (nI (x.1 % x.2))), (2, .int (nI x.2)), (4, .int (nI (x.1 % x.2)))]) hx hb dX1_common_17 rfl hl (by decide) rfl (fun ls hl => ?_)
    refine lv_goto (tgt := 4) hx hb dX1_common_18 (by decide) ?_
    exact hk1 (x.2, x.1 % x.2) _ _ _ (Nat.mod_lt _ (by omega)) ⟨lv_sub hl [1, 0] rfl, hP, hS, ⟨h2, Nat.le_of_lt (Nat.lt_of_lt_of_le (Nat.mod_lt _ (by omega)) h2), by rw [← h3]; exact gcd_step x.1 x.2⟩⟩

set_option maxHeartbeats 4000000 in
set_option maxRecDepth 100000 in
theorem met_X1_above (l : Launch) (D : va_G) (dA dZ : ClassId) (ad : Nat → Nat) (sz : Nat) {own : Nat → Int32} {rows : Int32} {up clo cho fai cou see has ch tol : Nat → Int32} (hR : Rp (own, rows, up, clo, cho, fai, cou, see) (has, up, ch, tol, rows)) (hac : acy up) (a b : Int32) : RW l yX1_above cX1_above 5 (some .int) rm_X1_above [.ref (ad 0), .int a, .int b] D dA dZ (fcW dA ad own rows up clo cho fai cou see) sz (S := FS) (fun r u => r = (abvS has up ch tol rows a b).1 ∧ Rp u (abvS has up ch tol rows a b).2) (fun u => fcU dA ad u) := by
  refine Met.ofW (cc := cX1_above) (maxL := 5) (ret := (some .int)) (by decide) rfl ?_
  intro p e s m args below meth c s₁ B hml hv
  obtain ⟨rfl, hsz, hP, hK, hDT⟩ := hv
  have hx := B.exec
  have hb := B.bytes
  have hr := B.returns
  have hts : ∀ w ∈ lw_all, w.before _ s = true := fun w h => atoms_spec (ws := ws_ yX1_above cX1_above 5 (some .int)) B.pre w (List.mem_cons_of_mem _ h)
  have hown : s.vm.findClass RX1 = some m.cls := findClass_of_methodNamed B.named
  have hlocks := B.notSynchronized
  subst hsz
  have hD := hDT.self (sz := s.heap.size)
  generalize hAe : va_A (fcW dA ad own rows up clo cho fai cou see) s.heap.size = A at hD ⊢
  have hA : ∀ q : Nat, s.heap.size ≤ q → A q := fun q h => by rw [← hAe]; exact Or.inr h
  have hS : va_S A s.heap s.heap [] := va_S.rf
  have hl := lv_entry ([.ref (ad 0), .int a, .int b]) (n := 5) (Nat.le_of_ble_eq_true rfl)
  rw [lg_entry_eq]
  generalize (lg_sl ([.ref (ad 0), .int a, .int b]) ++ List.replicate (5 - (lg_sl ([.ref (ad 0), .int a, .int b])).length) Slot.unset).toArray = ls at hl ⊢
  have hl : lv_has ls 5 [(0, .ref (ad 0)), (1, .int a), (2, .int b)] := hl
  have hO : rOwn own has := hR.1
  have hC : rClo clo up := hR.2.2.2.1
  have hH : rCho cho ch := hR.2.2.2.2.1
  have hF : rFai fai has up ch := hR.2.2.2.2.2.1
  have hN : rCou cou has up ch := hR.2.2.2.2.2.2.1
  have hE : ∀ i, i < 256 → see i = tol i := hR.2.2.2.2.2.2.2
  refine lv_iload_n hx hb dX1_above_0 rfl (lv_at hl 1 rfl) ?_
  refine lv_bipush (v := nI 32) hx hb dX1_above_1 (by decide) ?_
  refine bw_rs (rest := []) ⟨hx, hb, hml, hown, hts⟩ (met_X1_isIn l _ a 32 (by decide)) (cw_X1_31 hts ⟨Nat.le_of_ble_eq_true rfl, Nat.le_of_ble_eq_true rfl⟩) hP hS hA rfl rfl hl.1 (Nat.le_of_ble_eq_true rfl) dX1_above_3 ⟨Nat.zero_le _, Nat.zero_le _⟩ (fun r1 H locs hv2 hP hS => ?_)
  subst hv2
  refine bw_ifeq hx hb (tgt := 23) dX1_above_6 (by decide) (fun c3 => ?_) (fun c3 => ?_)
  · refine lv_iconst (v := (-1)) hx hb dX1_above_23 (by decide) ?_
    exact rw_iret ((own, rows, up, clo, cho, fai, cou, see)) hx hb hr hlocks hP hD hS dX1_above_24 (by unfold abvS; rw [cif_f (fun q => c3 q.1)]; exact ⟨rfl, hR⟩)
  · obtain ⟨k, hk, rfl⟩ := c3
    refine lv_iload_n hx hb dX1_above_9 rfl (lv_at hl 2 rfl) ?_
    refine lv_iconst (v := (-1)) hx hb dX1_above_10 (by decide) ?_
    refine lv_icmp_eq hx hb (tgt := 25) dX1_above_11 (by decide) (fun c4 => ?_) (fun c4 => ?_)
    · subst c4
      refine lv_iload_n hx hb dX1_above_25 rfl (lv_at hl 2 rfl) ?_
      refine lv_iconst (v := (-1)) hx hb dX1_above_26 (by decide) ?_
      refine lv_icmp_eq hx hb (tgt := 47) dX1_above_27 (by decide) (fun c5 => ?_) (fun c5 => ?_)
      · refine lv_aload_n hx hb dX1_above_47 rfl (lv_at hl 0 rfl) ?_
        refine fc_uppers hx hb hts hown hK hP dX1_above_48 ?_
        refine lv_iload_n hx hb dX1_above_51 rfl (lv_at hl 1 rfl) ?_
        refine bw_iald hx hb hK hP 2 rfl k (by omega) (by decide) dX1_above_52 ?_
        refine lv_iload_n hx hb dX1_above_53 rfl (lv_at hl 2 rfl) ?_
        refine lv_icmp_ne hx hb (tgt := 59) dX1_above_54 (by decide) (fun c6 => ?_) (fun c6 => ?_)
        · have hac2 : acy (upd up k ((-1))) := acy_none hac k
          obtain ⟨rk, hrk⟩ := hac2
          refine lv_aload_n hx hb dX1_above_59 rfl (lv_at hl 0 rfl) ?_
          refine lv_iconst (v := (-1)) hx hb dX1_above_60 (by decide) ?_
          refine bw_rv (rest := []) ⟨hx, hb, hml, hown, hts⟩ (met_X1_weighAll l D dA dZ ad _ hO hC hH (-1) (Or.inr ⟨rfl, hF⟩)) (cw_X1_57 hts ⟨Nat.le_of_ble_eq_true rfl, Nat.le_of_ble_eq_true rfl⟩) (va_recv hK hP (ci := 0) (q0 := 0) rfl rfl) hK hP hD hS hA rfl rfl hl.1 (Nat.le_of_ble_eq_true rfl) dX1_above_61 ⟨Nat.zero_le _, Nat.zero_le _⟩ (fun u7 H locs hv8 hP hD hS => ?_)
          refine lv_aload_n hx hb dX1_above_64 rfl (lv_at hl 0 rfl) ?_
          refine fc_uppers hx hb hts hown hK hP dX1_above_65 ?_
          refine lv_iload_n hx hb dX1_above_68 rfl (lv_at hl 1 rfl) ?_
          refine lv_iload_n hx hb dX1_above_69 rfl (lv_at hl 2 rfl) ?_
          refine bw_iast hx hb hK hP hD hS 2 rfl k (by omega) (by decide) dX1_above_70 (fun H locs hP hD hS => ?_)
          have hP : va_P D vwCl (fcW dA ad own rows (upd up k ((-1))) clo cho u7.1 u7.2 see) H := hP
          have hD : va_D A (fcW dA ad own rows (upd up k ((-1))) clo cho u7.1 u7.2 see) := hD
          refine lv_iconst (v := nI 0) hx hb dX1_above_71 (by decide) ?_
          refine lv_istore_n (lv' := [(3, .int (nI 0)), (0, .ref (ad 0)), (1, .int (nI k)), (2, .int ((-1)))]) hx hb dX1_above_72 rfl hl (by decide) rfl (fun ls hl => ?_)
          have hUP : upd up k ((-1)) = upd up k ((-1)) := rfl
          refine w_loop (σ := Nat → Int32) 32 (fun j y H locs ls => lv_has ls 5 [(0, .ref (ad 0)), (1, .int (nI k)), (2, .int ((-1))), (3, .int (nI j))] ∧ va_P D vwCl (fcW dA ad own rows (upd up k ((-1))) y cho u7.1 u7.2 see) H ∧ va_D A (fcW dA ad own rows (upd up k ((-1))) y cho u7.1 u7.2 see) ∧ va_S A s.heap H locs ∧ (cloI (upd up k ((-1))) j y)) ?_ ?_ 0 clo _ _ _ (by omega) ⟨lv_sub hl [1, 2, 3, 0] rfl, hP, hD, hS, fun a ha => absurd ha (Nat.not_lt_zero a)⟩
          · intro j y H locs ls hj hI hk9
            obtain ⟨hl, hP, hD, hS, hI⟩ := hI
            refine lv_iload_n hx hb dX1_above_73 rfl (lv_at hl 3 rfl) ?_
            refine lv_bipush (v := nI 32) hx hb dX1_above_74 (by decide) ?_
            refine bw_ge (by omega) (by omega) hx hb (tgt := 126) dX1_above_76 (by decide) (fun c10 => ?_) (fun c10 => ?_)
            · exact absurd c10 (by omega)
            · refine lv_aload_n hx hb dX1_above_79 rfl (lv_at hl 0 rfl) ?_
              refine fc_closed hx hb hts hown hK hP dX1_above_80 ?_
              refine lv_iload_n hx hb dX1_above_83 rfl (lv_at hl 3 rfl) ?_
              refine lv_iconst (v := nI 0) hx hb dX1_above_84 (by decide) ?_
              refine bw_iast hx hb hK hP hD hS 3 rfl j (by omega) (by decide) dX1_above_85 (fun H locs hP hD hS => ?_)
              have hP : va_P D vwCl (fcW dA ad own rows (upd up k ((-1))) (upd y j (nI 0)) cho u7.1 u7.2 see) H := hP
              have hD : va_D A (fcW dA ad own rows (upd up k ((-1))) (upd y j (nI 0)) cho u7.1 u7.2 see) := hD
              refine lv_iload_n hx hb dX1_above_86 rfl (lv_at hl 3 rfl) ?_
              refine lv_istore (lv' := [(4, .int (nI j)), (0, .ref (ad 0)), (1, .int (nI k)), (2, .int ((-1))), (3, .int (nI j))]) hx hb dX1_above_87 hl (by decide) rfl (fun ls hl => ?_)
              refine w_loopm (σ := (Nat → Int32) × Int32 × Nat) (fun x => x.2.2) (fun x H locs ls => lv_has ls 5 [(0, .ref (ad 0)), (1, .int (nI k)), (2, .int ((-1))), (3, .int (nI j)), (4, .int x.2.1)] ∧ va_P D vwCl (fcW dA ad own rows (upd up k ((-1))) x.1 cho u7.1 u7.2 see) H ∧ va_D A (fcW dA ad own rows (upd up k ((-1))) x.1 cho u7.1 u7.2 see) ∧ va_S A s.heap H locs ∧ (cloJ (upd up k ((-1))) rk j x)) ?_ (upd y j (nI 0), nI j, rk j + 1) _ _ _ ⟨lv_sub hl [1, 2, 3, 4, 0] rfl, hP, hD, hS, cloJ_0 hj hI⟩
              intro x H locs ls hI hk11
              obtain ⟨hl, hP, hD, hS, hI⟩ := hI
              obtain ⟨hI1, hI2⟩ := hI
              rcases hI2 with ⟨e9, hI2⟩ | ⟨z, hz, e9, hz2, hI2⟩
              · refine lv_iload hx hb dX1_above_89 (lv_at hl 4 rfl) ?_
                refine lv_iconst (v := (-1)) hx hb dX1_above_91 (by decide) ?_
                refine lv_icmp_eq hx hb (tgt := 120) dX1_above_92 (by decide) (fun c12 => ?_) (fun c12 => ?_)
                · refine lv_iinc (v := nI (j + 1)) (lv' := [(3, .int (nI (j + 1))), (0, .ref (ad 0)), (1, .int (nI k)), (2, .int ((-1))), (4, .int x.2.1)]) hx hb dX1_above_120 hl (k := 3) rfl (inc1 _) (by decide) rfl (fun ls hl => ?_)
                  refine lv_goto (tgt := 73) hx hb dX1_above_123 (by decide) ?_
                  exact hk9 x.1 _ _ _ ⟨lv_sub hl [1, 2, 3, 0] rfl, hP, hD, hS, cloI_s hI1 hI2⟩
                · exact absurd e9 c12
              · rw [e9] at hl
                refine lv_iload hx hb dX1_above_89 (lv_at hl 4 rfl) ?_
                refine lv_iconst (v := (-1)) hx hb dX1_above_91 (by decide) ?_
                refine lv_icmp_eq hx hb (tgt := 120) dX1_above_92 (by decide) (fun c13 => ?_) (fun c13 => ?_)
                · exact absurd c13.symm (m1_nI (by omega))
                · refine lv_aload_n hx hb dX1_above_95 rfl (lv_at hl 0 rfl) ?_
                  refine fc_closed hx hb hts hown hK hP dX1_above_96 ?_
                  refine lv_iload_n hx hb dX1_above_99 rfl (lv_at hl 3 rfl) ?_
                  refine lv_dup2_11 hx hb dX1_above_100 rfl rfl ?_
                  refine bw_iald hx hb hK hP 3 rfl j (by omega) (by decide) dX1_above_101 ?_
                  refine lv_iconst (v := nI 1) hx hb dX1_above_102 (by decide) ?_
                  refine lv_iload hx hb dX1_above_103 (lv_at hl 4 rfl) ?_
                  refine lv_ishl hx hb dX1_above_105 ?_
                  refine lv_ior hx hb dX1_above_106 ?_
                  refine bw_iast hx hb hK hP hD hS 3 rfl j (by omega) (by decide) dX1_above_107 (fun H locs hP hD hS => ?_)
                  have hP : va_P D vwCl (fcW dA ad own rows (upd up k ((-1))) (upd x.1 j ((x.1 j) ||| ((nI 1) <<< ((nI z) &&& 31)))) cho u7.1 u7.2 see) H := hP
                  have hD : va_D A (fcW dA ad own rows (upd up k ((-1))) (upd x.1 j ((x.1 j) ||| ((nI 1) <<< ((nI z) &&& 31)))) cho u7.1 u7.2 see) := hD
                  refine lv_aload_n hx hb dX1_above_108 rfl (lv_at hl 0 rfl) ?_
                  refine fc_uppers hx hb hts hown hK hP dX1_above_109 ?_
                  refine lv_iload hx hb dX1_above_112 (lv_at hl 4 rfl) ?_
                  refine bw_iald hx hb hK hP 2 rfl z (by omega) (by decide) dX1_above_114 ?_
                  refine lv_istore (lv' := [(4, .int ((upd up k ((-1))) z)), (0, .ref (ad 0)), (1, .int (nI k)), (2, .int ((-1))), (3, .int (nI j))]) hx hb dX1_above_115 hl (by decide) rfl (fun ls hl => ?_)
                  refine lv_goto (tgt := 89) hx hb dX1_above_117 (by decide) ?_
                  exact hk11 (upd x.1 j (x.1 j ||| (nI 1 <<< (nI z &&& 31))), (upd up k ((-1))) z, rk z) _ _ _ (hz2) ⟨lv_sub hl [1, 2, 3, 4, 0] rfl, hP, hD, hS, cloJ_s hrk hI1 hz hI2⟩
          · intro y H locs ls hI
            obtain ⟨hl, hP, hD, hS, hI⟩ := hI
            refine lv_iload_n hx hb dX1_above_73 rfl (lv_at hl 3 rfl) ?_
            refine lv_bipush (v := nI 32) hx hb dX1_above_74 (by decide) ?_
            refine bw_ge (by omega) (by omega) hx hb (tgt := 126) dX1_above_76 (by decide) (fun c14 => ?_) (fun c14 => ?_)
            · refine lv_aload_n hx hb dX1_above_126 rfl (lv_at hl 0 rfl) ?_
              refine lv_iconst (v := nI 1) hx hb dX1_above_127 (by decide) ?_
              refine bw_rv (rest := []) ⟨hx, hb, hml, hown, hts⟩ (met_X1_weighAll l D dA dZ ad _ hO (hI : rClo y (upd up k ((-1)))) hH (nI 1) (Or.inl rfl)) (cw_X1_57 hts ⟨Nat.le_of_ble_eq_true rfl, Nat.le_of_ble_eq_true rfl⟩) (va_recv hK hP (ci := 0) (q0 := 0) rfl rfl) hK hP hD hS hA rfl rfl hl.1 (Nat.le_of_ble_eq_true rfl) dX1_above_128 ⟨Nat.zero_le _, Nat.zero_le _⟩ (fun u15 H locs hv16 hP hD hS => ?_)
              refine lv_iconst (v := nI 1) hx hb dX1_above_131 (by decide) ?_
              exact rw_iret ((own, rows, (upd up k ((-1))), y, cho, u15.1, u15.2, see)) hx hb hr hlocks hP hD hS dX1_above_132 (by rw [abvS_g hk (Or.inl rfl), abvG, cif_f c6, cif_f (fun ⟨u, hu, q, _⟩ => m1_nI (by omega) q)]; exact ⟨rfl, hO, rfl, rfl, hI, hH, hv16.1, all_done hN hv8.2 hv16.2, hE⟩)
            · exact absurd c14 (by omega)
        · refine lv_iconst (v := nI 0) hx hb dX1_above_57 (by decide) ?_
          exact rw_iret ((own, rows, up, clo, cho, fai, cou, see)) hx hb hr hlocks hP hD hS dX1_above_58 (by rw [abvS_g hk (Or.inl rfl), abvG, cif_t c6]; exact ⟨rfl, hR⟩)
      · exact absurd rfl c5
    · refine lv_iload_n hx hb dX1_above_14 rfl (lv_at hl 2 rfl) ?_
      refine lv_bipush (v := nI 32) hx hb dX1_above_15 (by decide) ?_
      refine bw_rs (rest := []) ⟨hx, hb, hml, hown, hts⟩ (met_X1_isIn l _ b 32 (by decide)) (cw_X1_31 hts ⟨Nat.le_of_ble_eq_true rfl, Nat.le_of_ble_eq_true rfl⟩) hP hS hA rfl rfl hl.1 (Nat.le_of_ble_eq_true rfl) dX1_above_17 ⟨Nat.zero_le _, Nat.zero_le _⟩ (fun r17 H locs hv18 hP hS => ?_)
      subst hv18
      refine bw_ifne hx hb (tgt := 25) dX1_above_20 (by decide) (fun c19 => ?_) (fun c19 => ?_)
      · obtain ⟨u, hu, rfl⟩ := c19
        refine lv_iload_n hx hb dX1_above_25 rfl (lv_at hl 2 rfl) ?_
        refine lv_iconst (v := (-1)) hx hb dX1_above_26 (by decide) ?_
        refine lv_icmp_eq hx hb (tgt := 47) dX1_above_27 (by decide) (fun c20 => ?_) (fun c20 => ?_)
        · exact absurd c20.symm (m1_nI (by omega))
        · refine lv_aload_n hx hb dX1_above_30 rfl (lv_at hl 0 rfl) ?_
          refine fc_closed hx hb hts hown hK hP dX1_above_31 ?_
          refine lv_iload_n hx hb dX1_above_34 rfl (lv_at hl 2 rfl) ?_
          refine bw_iald hx hb hK hP 3 rfl u (by omega) (by decide) dX1_above_35 ?_
          refine lv_iload_n hx hb dX1_above_36 rfl (lv_at hl 1 rfl) ?_
          refine lv_ishr hx hb dX1_above_37 ?_
          refine lv_iconst (v := nI 1) hx hb dX1_above_38 (by decide) ?_
          refine lv_iand hx hb dX1_above_39 ?_
          refine bw_top (y := nI (bN (bt (clo u) k = true))) (b_test _ hk) ?_
          refine lv_iconst (v := nI 1) hx hb dX1_above_40 (by decide) ?_
          refine bw_ne1 hx hb (tgt := 47) dX1_above_41 (by decide) (fun c21 => ?_) (fun c21 => ?_)
          · have hnu : ¬ und up u k := fun q => c21 ((hC u hu k hk).mpr q)
            refine lv_aload_n hx hb dX1_above_47 rfl (lv_at hl 0 rfl) ?_
            refine fc_uppers hx hb hts hown hK hP dX1_above_48 ?_
            refine lv_iload_n hx hb dX1_above_51 rfl (lv_at hl 1 rfl) ?_
            refine bw_iald hx hb hK hP 2 rfl k (by omega) (by decide) dX1_above_52 ?_
            refine lv_iload_n hx hb dX1_above_53 rfl (lv_at hl 2 rfl) ?_
            refine lv_icmp_ne hx hb (tgt := 59) dX1_above_54 (by decide) (fun c22 => ?_) (fun c22 => ?_)
            · have hac2 : acy (upd up k (nI u)) := acy_set hac hk hu hnu
              obtain ⟨rk, hrk⟩ := hac2
              refine lv_aload_n hx hb dX1_above_59 rfl (lv_at hl 0 rfl) ?_
              refine lv_iconst (v := (-1)) hx hb dX1_above_60 (by decide) ?_
              refine bw_rv (rest := []) ⟨hx, hb, hml, hown, hts⟩ (met_X1_weighAll l D dA dZ ad _ hO hC hH (-1) (Or.inr ⟨rfl, hF⟩)) (cw_X1_57 hts ⟨Nat.le_of_ble_eq_true rfl, Nat.le_of_ble_eq_true rfl⟩) (va_recv hK hP (ci := 0) (q0 := 0) rfl rfl) hK hP hD hS hA rfl rfl hl.1 (Nat.le_of_ble_eq_true rfl) dX1_above_61 ⟨Nat.zero_le _, Nat.zero_le _⟩ (fun u23 H locs hv24 hP hD hS => ?_)
              refine lv_aload_n hx hb dX1_above_64 rfl (lv_at hl 0 rfl) ?_
              refine fc_uppers hx hb hts hown hK hP dX1_above_65 ?_
              refine lv_iload_n hx hb dX1_above_68 rfl (lv_at hl 1 rfl) ?_
              refine lv_iload_n hx hb dX1_above_69 rfl (lv_at hl 2 rfl) ?_
              refine bw_iast hx hb hK hP hD hS 2 rfl k (by omega) (by decide) dX1_above_70 (fun H locs hP hD hS => ?_)
              have hP : va_P D vwCl (fcW dA ad own rows (upd up k (nI u)) clo cho u23.1 u23.2 see) H := hP
              have hD : va_D A (fcW dA ad own rows (upd up k (nI u)) clo cho u23.1 u23.2 see) := hD
              refine lv_iconst (v := nI 0) hx hb dX1_above_71 (by decide) ?_
              refine lv_istore_n (lv' := [(3, .int (nI 0)), (0, .ref (ad 0)), (1, .int (nI k)), (2, .int (nI u))]) hx hb dX1_above_72 rfl hl (by decide) rfl (fun ls hl => ?_)
              have hUP : upd up k (nI u) = upd up k (nI u) := rfl
              refine w_loop (σ := Nat → Int32) 32 (fun j y H locs ls => lv_has ls 5 [(0, .ref (ad 0)), (1, .int (nI k)), (2, .int (nI u)), (3, .int (nI j))] ∧ va_P D vwCl (fcW dA ad own rows (upd up k (nI u)) y cho u23.1 u23.2 see) H ∧ va_D A (fcW dA ad own rows (upd up k (nI u)) y cho u23.1 u23.2 see) ∧ va_S A s.heap H locs ∧ (cloI (upd up k (nI u)) j y)) ?_ ?_ 0 clo _ _ _ (by omega) ⟨lv_sub hl [1, 2, 3, 0] rfl, hP, hD, hS, fun a ha => absurd ha (Nat.not_lt_zero a)⟩
              · intro j y H locs ls hj hI hk25
                obtain ⟨hl, hP, hD, hS, hI⟩ := hI
                refine lv_iload_n hx hb dX1_above_73 rfl (lv_at hl 3 rfl) ?_
                refine lv_bipush (v := nI 32) hx hb dX1_above_74 (by decide) ?_
                refine bw_ge (by omega) (by omega) hx hb (tgt := 126) dX1_above_76 (by decide) (fun c26 => ?_) (fun c26 => ?_)
                · exact absurd c26 (by omega)
                · refine lv_aload_n hx hb dX1_above_79 rfl (lv_at hl 0 rfl) ?_
                  refine fc_closed hx hb hts hown hK hP dX1_above_80 ?_
                  refine lv_iload_n hx hb dX1_above_83 rfl (lv_at hl 3 rfl) ?_
                  refine lv_iconst (v := nI 0) hx hb dX1_above_84 (by decide) ?_
                  refine bw_iast hx hb hK hP hD hS 3 rfl j (by omega) (by decide) dX1_above_85 (fun H locs hP hD hS => ?_)
                  have hP : va_P D vwCl (fcW dA ad own rows (upd up k (nI u)) (upd y j (nI 0)) cho u23.1 u23.2 see) H := hP
                  have hD : va_D A (fcW dA ad own rows (upd up k (nI u)) (upd y j (nI 0)) cho u23.1 u23.2 see) := hD
                  refine lv_iload_n hx hb dX1_above_86 rfl (lv_at hl 3 rfl) ?_
                  refine lv_istore (lv' := [(4, .int (nI j)), (0, .ref (ad 0)), (1, .int (nI k)), (2, .int (nI u)), (3, .int (nI j))]) hx hb dX1_above_87 hl (by decide) rfl (fun ls hl => ?_)
                  refine w_loopm (σ := (Nat → Int32) × Int32 × Nat) (fun x => x.2.2) (fun x H locs ls => lv_has ls 5 [(0, .ref (ad 0)), (1, .int (nI k)), (2, .int (nI u)), (3, .int (nI j)), (4, .int x.2.1)] ∧ va_P D vwCl (fcW dA ad own rows (upd up k (nI u)) x.1 cho u23.1 u23.2 see) H ∧ va_D A (fcW dA ad own rows (upd up k (nI u)) x.1 cho u23.1 u23.2 see) ∧ va_S A s.heap H locs ∧ (cloJ (upd up k (nI u)) rk j x)) ?_ (upd y j (nI 0), nI j, rk j + 1) _ _ _ ⟨lv_sub hl [1, 2, 3, 4, 0] rfl, hP, hD, hS, cloJ_0 hj hI⟩
                  intro x H locs ls hI hk27
                  obtain ⟨hl, hP, hD, hS, hI⟩ := hI
                  obtain ⟨hI1, hI2⟩ := hI
                  rcases hI2 with ⟨e9, hI2⟩ | ⟨z, hz, e9, hz2, hI2⟩
                  · refine lv_iload hx hb dX1_above_89 (lv_at hl 4 rfl) ?_
                    refine lv_iconst (v := (-1)) hx hb dX1_above_91 (by decide) ?_
                    refine lv_icmp_eq hx hb (tgt := 120) dX1_above_92 (by decide) (fun c28 => ?_) (fun c28 => ?_)
                    · refine lv_iinc (v := nI (j + 1)) (lv' := [(3, .int (nI (j + 1))), (0, .ref (ad 0)), (1, .int (nI k)), (2, .int (nI u)), (4, .int x.2.1)]) hx hb dX1_above_120 hl (k := 3) rfl (inc1 _) (by decide) rfl (fun ls hl => ?_)
                      refine lv_goto (tgt := 73) hx hb dX1_above_123 (by decide) ?_
                      exact hk25 x.1 _ _ _ ⟨lv_sub hl [1, 2, 3, 0] rfl, hP, hD, hS, cloI_s hI1 hI2⟩
                    · exact absurd e9 c28
                  · rw [e9] at hl
                    refine lv_iload hx hb dX1_above_89 (lv_at hl 4 rfl) ?_
                    refine lv_iconst (v := (-1)) hx hb dX1_above_91 (by decide) ?_
                    refine lv_icmp_eq hx hb (tgt := 120) dX1_above_92 (by decide) (fun c29 => ?_) (fun c29 => ?_)
                    · exact absurd c29.symm (m1_nI (by omega))
                    · refine lv_aload_n hx hb dX1_above_95 rfl (lv_at hl 0 rfl) ?_
                      refine fc_closed hx hb hts hown hK hP dX1_above_96 ?_
                      refine lv_iload_n hx hb dX1_above_99 rfl (lv_at hl 3 rfl) ?_
                      refine lv_dup2_11 hx hb dX1_above_100 rfl rfl ?_
                      refine bw_iald hx hb hK hP 3 rfl j (by omega) (by decide) dX1_above_101 ?_
                      refine lv_iconst (v := nI 1) hx hb dX1_above_102 (by decide) ?_
                      refine lv_iload hx hb dX1_above_103 (lv_at hl 4 rfl) ?_
                      refine lv_ishl hx hb dX1_above_105 ?_
                      refine lv_ior hx hb dX1_above_106 ?_
                      refine bw_iast hx hb hK hP hD hS 3 rfl j (by omega) (by decide) dX1_above_107 (fun H locs hP hD hS => ?_)
                      have hP : va_P D vwCl (fcW dA ad own rows (upd up k (nI u)) (upd x.1 j ((x.1 j) ||| ((nI 1) <<< ((nI z) &&& 31)))) cho u23.1 u23.2 see) H := hP
                      have hD : va_D A (fcW dA ad own rows (upd up k (nI u)) (upd x.1 j ((x.1 j) ||| ((nI 1) <<< ((nI z) &&& 31)))) cho u23.1 u23.2 see) := hD
                      refine lv_aload_n hx hb dX1_above_108 rfl (lv_at hl 0 rfl) ?_
                      refine fc_uppers hx hb hts hown hK hP dX1_above_109 ?_
                      refine lv_iload hx hb dX1_above_112 (lv_at hl 4 rfl) ?_
                      refine bw_iald hx hb hK hP 2 rfl z (by omega) (by decide) dX1_above_114 ?_
                      refine lv_istore (lv' := [(4, .int ((upd up k (nI u)) z)), (0, .ref (ad 0)), (1, .int (nI k)), (2, .int (nI u)), (3, .int (nI j))]) hx hb dX1_above_115 hl (by decide) rfl (fun ls hl => ?_)
                      refine lv_goto (tgt := 89) hx hb dX1_above_117 (by decide) ?_
                      exact hk27 (upd x.1 j (x.1 j ||| (nI 1 <<< (nI z &&& 31))), (upd up k (nI u)) z, rk z) _ _ _ (hz2) ⟨lv_sub hl [1, 2, 3, 4, 0] rfl, hP, hD, hS, cloJ_s hrk hI1 hz hI2⟩
              · intro y H locs ls hI
                obtain ⟨hl, hP, hD, hS, hI⟩ := hI
                refine lv_iload_n hx hb dX1_above_73 rfl (lv_at hl 3 rfl) ?_
                refine lv_bipush (v := nI 32) hx hb dX1_above_74 (by decide) ?_
                refine bw_ge (by omega) (by omega) hx hb (tgt := 126) dX1_above_76 (by decide) (fun c30 => ?_) (fun c30 => ?_)
                · refine lv_aload_n hx hb dX1_above_126 rfl (lv_at hl 0 rfl) ?_
                  refine lv_iconst (v := nI 1) hx hb dX1_above_127 (by decide) ?_
                  refine bw_rv (rest := []) ⟨hx, hb, hml, hown, hts⟩ (met_X1_weighAll l D dA dZ ad _ hO (hI : rClo y (upd up k (nI u))) hH (nI 1) (Or.inl rfl)) (cw_X1_57 hts ⟨Nat.le_of_ble_eq_true rfl, Nat.le_of_ble_eq_true rfl⟩) (va_recv hK hP (ci := 0) (q0 := 0) rfl rfl) hK hP hD hS hA rfl rfl hl.1 (Nat.le_of_ble_eq_true rfl) dX1_above_128 ⟨Nat.zero_le _, Nat.zero_le _⟩ (fun u31 H locs hv32 hP hD hS => ?_)
                  refine lv_iconst (v := nI 1) hx hb dX1_above_131 (by decide) ?_
                  exact rw_iret ((own, rows, (upd up k (nI u)), y, cho, u31.1, u31.2, see)) hx hb hr hlocks hP hD hS dX1_above_132 (by rw [abvS_g hk (Or.inr (inR_nI hu)), abvG, cif_f c22, cif_f (fun ⟨u2, hu2, q, r⟩ => by rw [← (nI_eq (by omega) (by omega)).mp q] at r; exact hnu r)]; exact ⟨rfl, hO, rfl, rfl, hI, hH, hv32.1, all_done hN hv24.2 hv32.2, hE⟩)
                · exact absurd c30 (by omega)
            · refine lv_iconst (v := nI 0) hx hb dX1_above_57 (by decide) ?_
              exact rw_iret ((own, rows, up, clo, cho, fai, cou, see)) hx hb hr hlocks hP hD hS dX1_above_58 (by rw [abvS_g hk (Or.inr (inR_nI hu)), abvG, cif_t c22]; exact ⟨rfl, hR⟩)
          · refine lv_bipush (v := (-3)) hx hb dX1_above_44 (by decide) ?_
            exact rw_iret ((own, rows, up, clo, cho, fai, cou, see)) hx hb hr hlocks hP hD hS dX1_above_46 (by rw [abvS_g hk (Or.inr (inR_nI hu)), abvG, cif_f (fun q => und_no hac hk hu q ((hC u hu k hk).mp c21)), cif_t ⟨u, hu, rfl, (hC u hu k hk).mp c21⟩]; exact ⟨rfl, hR⟩)
      · refine lv_iconst (v := (-1)) hx hb dX1_above_23 (by decide) ?_
        exact rw_iret ((own, rows, up, clo, cho, fai, cou, see)) hx hb hr hlocks hP hD hS dX1_above_24 (by unfold abvS; rw [cif_f (fun q => by rcases q.2 with z | z; exact c4 z; exact c19 z)]; exact ⟨rfl, hR⟩)
end
section
set_option maxRecDepth 100000
/-! ===== steps of the reference's methods ===== -/
theorem z01 {x : Int32} (h : x = nI 0 ∨ x = nI 1) : x = nI (bN (x = nI 1)) := by
  rcases h with h | h
  · rw [bN_f (fun q => by rw [h] at q; exact absurd q (by decide))]; exact h
  · rw [bN_t h]; exact h
theorem hs_val {has : Nat → Int32} (H : ∀ i, i < 10240 → has i = nI 0 ∨ has i = nI 1) {t h v : Nat} (ht : t < 40) (hh : h < 8) (hv : v < 32) : has ((t * 8 + h) * 32 + v) = nI (bN (hsP has t h v)) := z01 (H _ (by omega))
theorem ch_val {ch : Nat → Int32} (H : ∀ i, i < 256 → ch i = nI 0 ∨ ch i = nI 1) {h v : Nat} (hh : h < 8) (hv : v < 32) : ch (32 * h + v) = nI (bN (chP ch h v)) := z01 (H _ (by omega))
theorem hpN {h : Nat} (hh : h < 8) : ∀ g, g < 8 → (nI g = nI h ↔ g = h) := fun g hg => nI_eq (by omega) (by omega)
theorem hpM : ∀ g, g < 8 → (nI g = -1 ↔ g = 8) := fun g hg => ⟨fun q => absurd q.symm (m1_nI (by omega)), fun q => by omega⟩
/-- isUnder under way -/
def undI (up : Nat → Int32) (rk : Nat → Nat) (k v : Nat) (x : Int32 × Nat) : Prop := (x.1 = -1 ∧ ¬ und up k v) ∨ ∃ z, z < 32 ∧ x.1 = nI z ∧ rk z < x.2 ∧ (und up k v ↔ und up z v)
theorem undI_s {up : Nat → Int32} {rk : Nat → Nat} (hr : rkd up rk) {k v z : Nat} (hz : z < 32) (h : und up k v ↔ und up z v) (ne : ¬ z = v) : undI up rk k v (up z, rk z) := by
  rcases hr z hz with e | ⟨j, hj, e, r⟩
  · refine Or.inl ⟨e, fun q => ?_⟩
    rcases und_iff.mp (h.mp q) with q | ⟨i, hi, q1, q2⟩
    · exact ne q
    · exact absurd (e.symm.trans q1) (m1_nI (by omega))
  · refine Or.inr ⟨j, hj, e, r, h.trans ?_⟩
    constructor
    · intro q
      rcases und_iff.mp q with q | ⟨i, hi, q1, q2⟩
      · exact absurd q ne
      · have : i = j := (nI_eq (by omega) (by omega)).mp (q1.symm.trans e)
        subst this
        exact q2
    · intro q
      exact und_iff.mpr (Or.inr ⟨j, hj, e, q⟩)
theorem ex_s {P : Nat → Prop} {j : Nat} : (∃ k, k < j + 1 ∧ P k) ↔ (∃ k, k < j ∧ P k) ∨ P j := by
  constructor
  · rintro ⟨k, hk, h⟩
    by_cases e : k = j
    · subst e; exact Or.inr h
    · exact Or.inl ⟨k, by omega, h⟩
  · rintro (⟨k, hk, h⟩ | h)
    · exact ⟨k, by omega, h⟩
    · exact ⟨j, by omega, h⟩
theorem ex_0 {P : Nat → Prop} : ¬ ∃ k, k < 0 ∧ P k := fun ⟨k, hk, _⟩ => Nat.not_lt_zero k hk
theorem all_s {P : Nat → Prop} {j : Nat} : (∀ k, k < j + 1 → P k) ↔ (∀ k, k < j → P k) ∧ P j := by
  constructor
  · intro h
    exact ⟨fun k hk => h k (by omega), h j (by omega)⟩
  · rintro ⟨h, h2⟩ k hk
    by_cases e : k = j
    · subst e; exact h2
    · exact h k (by omega)
/-- the greatest that goes into both, up to k -/
def gcI (a n k b : Nat) : Prop := 0 < b ∧ b ∣ a ∧ b ∣ n ∧ b ≤ a ∧ ∀ d, 0 < d → d < k → d ∣ a → d ∣ n → d ≤ b
theorem gcI_1 {a n : Nat} (ha : 0 < a) : gcI a n 1 1 := ⟨Nat.one_pos, Nat.one_dvd a, Nat.one_dvd n, ha, fun d h1 h2 => by omega⟩
theorem gcI_y {a n k b : Nat} (ha : 0 < a) (hk : 0 < k) (h1 : a % k = 0) (h2 : n % k = 0) : gcI a n (k + 1) k :=
  ⟨hk, Nat.dvd_of_mod_eq_zero h1, Nat.dvd_of_mod_eq_zero h2, Nat.le_of_dvd ha (Nat.dvd_of_mod_eq_zero h1), fun d _ q _ _ => by omega⟩
theorem gcI_n {a n k b : Nat} (h : gcI a n k b) (c : ¬ (a % k = 0 ∧ n % k = 0)) : gcI a n (k + 1) b := by
  refine ⟨h.1, h.2.1, h.2.2.1, h.2.2.2.1, fun d h1 h2 h3 h4 => ?_⟩
  by_cases e : d = k
  · subst e
    exact absurd ⟨Nat.mod_eq_zero_of_dvd h3, Nat.mod_eq_zero_of_dvd h4⟩ c
  · exact h.2.2.2.2 d h1 (by omega) h3 h4
theorem gcI_e {a n b : Nat} (ha : 0 < a) (h : gcI a n (a + 1) b) : b = Nat.gcd a n := by
  have h1 : b ∣ Nat.gcd a n := Nat.dvd_gcd h.2.1 h.2.2.1
  have hg : 0 < Nat.gcd a n := Nat.gcd_pos_of_pos_left n ha
  have h2 : b ≤ Nat.gcd a n := Nat.le_of_dvd hg h1
  have h3 : Nat.gcd a n ≤ a := Nat.le_of_dvd ha (Nat.gcd_dvd_left a n)
  have h4 := h.2.2.2.2 (Nat.gcd a n) hg (by omega) (Nat.gcd_dvd_left a n) (Nat.gcd_dvd_right a n)
  omega
abbrev NS : Type := Int32 × MS × (Nat → Int32)
abbrev mdU (dA dZ : ClassId) (ad : Nat → Nat) (u : NS) : va_W := mdW dA dZ ad u.1 u.2.1.1 u.2.1.2.1 u.2.1.2.2.1 u.2.1.2.2.2.1 u.2.2 u.2.1.2.2.2.2
/-! the picture stays well made -/
theorem upd01 {f : Nat → Int32} {n : Nat} (H : ∀ i, i < n → f i = nI 0 ∨ f i = nI 1) (k : Nat) {x : Int32} (hx : x = nI 0 ∨ x = nI 1) : ∀ i, i < n → upd f k x i = nI 0 ∨ upd f k x i = nI 1 := by
  intro i hi
  by_cases e : i = k
  · rw [e, pk_us]; exact hx
  · rw [pk_un e]; exact H i hi
theorem bN01 (p : Prop) : nI (bN p) = nI 0 ∨ nI (bN p) = nI 1 := by
  by_cases h : p
  · rw [bN_t h]; exact Or.inr rfl
  · rw [bN_f h]; exact Or.inl rfl
section OKS
variable {has up ch tol : Nat → Int32} {rows : Int32}
theorem ok_row (H : mOK (has, up, ch, tol, rows)) (a b d : Int32) : mOK (rowS has up ch tol rows a b d).2 := by
  unfold rowS
  by_cases q : inR a 40 ∧ inR b 8 ∧ inR d 32
  · rw [cif_t q]
    unfold rowG
    by_cases q1 : hsP has a.toNatClampNeg b.toNatClampNeg d.toNatClampNeg
    · rw [cif_t q1]; exact H
    · rw [cif_f q1]
      by_cases q2 : rows = nI 300
      · rw [cif_t q2]; exact H
      · rw [cif_f q2]; exact ⟨upd01 H.1 _ (Or.inr rfl), H.2.1, H.2.2⟩
  · rw [cif_f q]; exact H
theorem ok_drop (H : mOK (has, up, ch, tol, rows)) (a b d : Int32) : mOK (dropS has up ch tol rows a b d).2 := by
  unfold dropS
  by_cases q : inR a 40 ∧ inR b 8 ∧ inR d 32
  · rw [cif_t q]
    unfold dropG
    by_cases q1 : hsP has a.toNatClampNeg b.toNatClampNeg d.toNatClampNeg
    · rw [cif_t q1]; exact ⟨upd01 H.1 _ (Or.inl rfl), H.2.1, H.2.2⟩
    · rw [cif_f q1]; exact H
  · rw [cif_f q]; exact H
theorem ok_abv (H : mOK (has, up, ch, tol, rows)) (a b : Int32) : mOK (abvS has up ch tol rows a b).2 := by
  by_cases q : inR a 32 ∧ (b = -1 ∨ inR b 32)
  · obtain ⟨⟨k, hk, rfl⟩, q⟩ := q
    rw [abvS_g hk q]
    unfold abvG
    by_cases q1 : up k = b
    · rw [cif_t q1]; exact H
    · rw [cif_f q1]
      by_cases q2 : ∃ u, u < 32 ∧ b = nI u ∧ und up u k
      · rw [cif_t q2]; exact H
      · rw [cif_f q2]
        refine ⟨H.1, H.2.1, ?_⟩
        rcases q with q | ⟨u, hu, q⟩
        · rw [q]; exact acy_none H.2.2 k
        · rw [q]; exact acy_set H.2.2 hk hu (fun z => q2 ⟨u, hu, q, z⟩)
  · unfold abvS
    rw [cif_f q]; exact H
theorem ok_cho (H : mOK (has, up, ch, tol, rows)) (a b : Int32) (on : Prop) : mOK (choS has up ch tol rows a b on).2 := by
  unfold choS
  by_cases q : inR a 8 ∧ inR b 32
  · rw [cif_t q]; exact ⟨H.1, upd01 H.2.1 _ (bN01 on), H.2.2⟩
  · rw [cif_f q]; exact H
theorem ok_chg (H : mOK (has, up, ch, tol, rows)) : mOK (chgS has up ch tol rows).2 := ⟨H.1, H.2.1, H.2.2⟩
end OKS
end
section
set_option maxRecDepth 100000
set_option maxHeartbeats 4000000 in
set_option maxRecDepth 100000 in
theorem met_X2_isThing (l : Launch) (sz : Nat) (v : Int32) : RS l yX2_isThing cX2_isThing 1 (some .boolean) rm_X2_isThing [.int v] sz (fun r => r = nI (bN (inR v 40))) := by
  refine Met.ofW (cc := cX2_isThing) (maxL := 1) (ret := (some .boolean)) (by decide) rfl ?_
  intro p e s m args below meth c s₁ B hml hv
  obtain ⟨rfl, hsz⟩ := hv
  have hsz : s.heap.size = sz := hsz
  have hx := B.exec
  have hb := B.bytes
  have hr := B.returns
  have hts : ∀ w ∈ lw_all, w.before _ s = true := fun w h => atoms_spec (ws := ws_ yX2_isThing cX2_isThing 1 (some .boolean)) B.pre w (List.mem_cons_of_mem _ h)
  have hown : s.vm.findClass RX2 = some m.cls := findClass_of_methodNamed B.named
  have hlocks := B.notSynchronized
  subst hsz
  have hS : va_S (fun q => s.heap.size ≤ q) s.heap s.heap [] := va_S.rf
  have hA : ∀ q : Nat, s.heap.size ≤ q → (fun q => s.heap.size ≤ q) q := fun q h => h
  have hP : va_P ((fun _ => 0), (fun _ _ => 0)) vwCl [] s.heap := fun k q h => by cases h
  have hl := lv_entry ([.int v]) (n := 1) (Nat.le_of_ble_eq_true rfl)
  rw [lg_entry_eq]
  generalize (lg_sl ([.int v]) ++ List.replicate (1 - (lg_sl ([.int v])).length) Slot.unset).toArray = ls at hl ⊢
  have hl : lv_has ls 1 [(0, .int v)] := hl
  refine lv_iload_n hx hb dX2_isThing_0 rfl (lv_at hl 0 rfl) ?_
  refine lv_if_lt hx hb (tgt := 14) dX2_isThing_1 (by decide) (fun c1 => ?_) (fun c1 => ?_)
  · refine lv_iconst (v := nI 0) hx hb dX2_isThing_14 (by decide) ?_
    exact ro_zret (rfl) hx hb hr hlocks hS dX2_isThing_15 (by rw [bN_f (inR_n1 (by decide) c1)])
  · refine lv_iload_n hx hb dX2_isThing_4 rfl (lv_at hl 0 rfl) ?_
    refine lv_bipush (v := nI 40) hx hb dX2_isThing_5 (by decide) ?_
    refine lv_icmp_ge hx hb (tgt := 14) dX2_isThing_7 (by decide) (fun c2 => ?_) (fun c2 => ?_)
    · refine lv_iconst (v := nI 0) hx hb dX2_isThing_14 (by decide) ?_
      exact ro_zret (rfl) hx hb hr hlocks hS dX2_isThing_15 (by rw [bN_f (inR_n2 (by decide) c2)])
    · refine lv_iconst (v := nI 1) hx hb dX2_isThing_10 (by decide) ?_
      refine lv_goto (tgt := 15) hx hb dX2_isThing_11 (by decide) ?_
      exact ro_zret (rfl) hx hb hr hlocks hS dX2_isThing_15 (by rw [bN_t (inR_y (by decide) c1 c2)])

set_option maxHeartbeats 4000000 in
set_option maxRecDepth 100000 in
theorem met_X2_isHead (l : Launch) (sz : Nat) (v : Int32) : RS l yX2_isHead cX2_isHead 1 (some .boolean) rm_X2_isHead [.int v] sz (fun r => r = nI (bN (inR v 8))) := by
  refine Met.ofW (cc := cX2_isHead) (maxL := 1) (ret := (some .boolean)) (by decide) rfl ?_
  intro p e s m args below meth c s₁ B hml hv
  obtain ⟨rfl, hsz⟩ := hv
  have hsz : s.heap.size = sz := hsz
  have hx := B.exec
  have hb := B.bytes
  have hr := B.returns
  have hts : ∀ w ∈ lw_all, w.before _ s = true := fun w h => atoms_spec (ws := ws_ yX2_isHead cX2_isHead 1 (some .boolean)) B.pre w (List.mem_cons_of_mem _ h)
  have hown : s.vm.findClass RX2 = some m.cls := findClass_of_methodNamed B.named
  have hlocks := B.notSynchronized
  subst hsz
  have hS : va_S (fun q => s.heap.size ≤ q) s.heap s.heap [] := va_S.rf
  have hA : ∀ q : Nat, s.heap.size ≤ q → (fun q => s.heap.size ≤ q) q := fun q h => h
  have hP : va_P ((fun _ => 0), (fun _ _ => 0)) vwCl [] s.heap := fun k q h => by cases h
  have hl := lv_entry ([.int v]) (n := 1) (Nat.le_of_ble_eq_true rfl)
  rw [lg_entry_eq]
  generalize (lg_sl ([.int v]) ++ List.replicate (1 - (lg_sl ([.int v])).length) Slot.unset).toArray = ls at hl ⊢
  have hl : lv_has ls 1 [(0, .int v)] := hl
  refine lv_iload_n hx hb dX2_isHead_0 rfl (lv_at hl 0 rfl) ?_
  refine lv_if_lt hx hb (tgt := 14) dX2_isHead_1 (by decide) (fun c1 => ?_) (fun c1 => ?_)
  · refine lv_iconst (v := nI 0) hx hb dX2_isHead_14 (by decide) ?_
    exact ro_zret (rfl) hx hb hr hlocks hS dX2_isHead_15 (by rw [bN_f (inR_n1 (by decide) c1)])
  · refine lv_iload_n hx hb dX2_isHead_4 rfl (lv_at hl 0 rfl) ?_
    refine lv_bipush (v := nI 8) hx hb dX2_isHead_5 (by decide) ?_
    refine lv_icmp_ge hx hb (tgt := 14) dX2_isHead_7 (by decide) (fun c2 => ?_) (fun c2 => ?_)
    · refine lv_iconst (v := nI 0) hx hb dX2_isHead_14 (by decide) ?_
      exact ro_zret (rfl) hx hb hr hlocks hS dX2_isHead_15 (by rw [bN_f (inR_n2 (by decide) c2)])
    · refine lv_iconst (v := nI 1) hx hb dX2_isHead_10 (by decide) ?_
      refine lv_goto (tgt := 15) hx hb dX2_isHead_11 (by decide) ?_
      exact ro_zret (rfl) hx hb hr hlocks hS dX2_isHead_15 (by rw [bN_t (inR_y (by decide) c1 c2)])

set_option maxHeartbeats 4000000 in
set_option maxRecDepth 100000 in
theorem met_X2_isValue (l : Launch) (sz : Nat) (v : Int32) : RS l yX2_isValue cX2_isValue 1 (some .boolean) rm_X2_isValue [.int v] sz (fun r => r = nI (bN (inR v 32))) := by
  refine Met.ofW (cc := cX2_isValue) (maxL := 1) (ret := (some .boolean)) (by decide) rfl ?_
  intro p e s m args below meth c s₁ B hml hv
  obtain ⟨rfl, hsz⟩ := hv
  have hsz : s.heap.size = sz := hsz
  have hx := B.exec
  have hb := B.bytes
  have hr := B.returns
  have hts : ∀ w ∈ lw_all, w.before _ s = true := fun w h => atoms_spec (ws := ws_ yX2_isValue cX2_isValue 1 (some .boolean)) B.pre w (List.mem_cons_of_mem _ h)
  have hown : s.vm.findClass RX2 = some m.cls := findClass_of_methodNamed B.named
  have hlocks := B.notSynchronized
  subst hsz
  have hS : va_S (fun q => s.heap.size ≤ q) s.heap s.heap [] := va_S.rf
  have hA : ∀ q : Nat, s.heap.size ≤ q → (fun q => s.heap.size ≤ q) q := fun q h => h
  have hP : va_P ((fun _ => 0), (fun _ _ => 0)) vwCl [] s.heap := fun k q h => by cases h
  have hl := lv_entry ([.int v]) (n := 1) (Nat.le_of_ble_eq_true rfl)
  rw [lg_entry_eq]
  generalize (lg_sl ([.int v]) ++ List.replicate (1 - (lg_sl ([.int v])).length) Slot.unset).toArray = ls at hl ⊢
  have hl : lv_has ls 1 [(0, .int v)] := hl
  refine lv_iload_n hx hb dX2_isValue_0 rfl (lv_at hl 0 rfl) ?_
  refine lv_if_lt hx hb (tgt := 14) dX2_isValue_1 (by decide) (fun c1 => ?_) (fun c1 => ?_)
  · refine lv_iconst (v := nI 0) hx hb dX2_isValue_14 (by decide) ?_
    exact ro_zret (rfl) hx hb hr hlocks hS dX2_isValue_15 (by rw [bN_f (inR_n1 (by decide) c1)])
  · refine lv_iload_n hx hb dX2_isValue_4 rfl (lv_at hl 0 rfl) ?_
    refine lv_bipush (v := nI 32) hx hb dX2_isValue_5 (by decide) ?_
    refine lv_icmp_ge hx hb (tgt := 14) dX2_isValue_7 (by decide) (fun c2 => ?_) (fun c2 => ?_)
    · refine lv_iconst (v := nI 0) hx hb dX2_isValue_14 (by decide) ?_
      exact ro_zret (rfl) hx hb hr hlocks hS dX2_isValue_15 (by rw [bN_f (inR_n2 (by decide) c2)])
    · refine lv_iconst (v := nI 1) hx hb dX2_isValue_10 (by decide) ?_
      refine lv_goto (tgt := 15) hx hb dX2_isValue_11 (by decide) ?_
      exact ro_zret (rfl) hx hb hr hlocks hS dX2_isValue_15 (by rw [bN_t (inR_y (by decide) c1 c2)])

set_option maxHeartbeats 4000000 in
set_option maxRecDepth 100000 in
theorem met_X2_at (l : Launch) (sz : Nat) (t h v : Nat) : RS l yX2_at cX2_at 3 (some .int) rm_X2_at [.int (nI t), .int (nI h), .int (nI v)] sz (fun r => r = nI ((t * 8 + h) * 32 + v)) := by
  refine Met.ofW (cc := cX2_at) (maxL := 3) (ret := (some .int)) (by decide) rfl ?_
  intro p e s m args below meth c s₁ B hml hv
  obtain ⟨rfl, hsz⟩ := hv
  have hsz : s.heap.size = sz := hsz
  have hx := B.exec
  have hb := B.bytes
  have hr := B.returns
  have hts : ∀ w ∈ lw_all, w.before _ s = true := fun w h => atoms_spec (ws := ws_ yX2_at cX2_at 3 (some .int)) B.pre w (List.mem_cons_of_mem _ h)
  have hown : s.vm.findClass RX2 = some m.cls := findClass_of_methodNamed B.named
  have hlocks := B.notSynchronized
  subst hsz
  have hS : va_S (fun q => s.heap.size ≤ q) s.heap s.heap [] := va_S.rf
  have hA : ∀ q : Nat, s.heap.size ≤ q → (fun q => s.heap.size ≤ q) q := fun q h => h
  have hP : va_P ((fun _ => 0), (fun _ _ => 0)) vwCl [] s.heap := fun k q h => by cases h
  have hl := lv_entry ([.int (nI t), .int (nI h), .int (nI v)]) (n := 3) (Nat.le_of_ble_eq_true rfl)
  rw [lg_entry_eq]
  generalize (lg_sl ([.int (nI t), .int (nI h), .int (nI v)]) ++ List.replicate (3 - (lg_sl ([.int (nI t), .int (nI h), .int (nI v)])).length) Slot.unset).toArray = ls at hl ⊢
  have hl : lv_has ls 3 [(0, .int (nI t)), (1, .int (nI h)), (2, .int (nI v))] := hl
  refine lv_iload_n hx hb dX2_at_0 rfl (lv_at hl 0 rfl) ?_
  refine lv_bipush (v := nI 8) hx hb dX2_at_1 (by decide) ?_
  refine bw_mul hx hb dX2_at_3 ?_
  refine lv_iload_n hx hb dX2_at_4 rfl (lv_at hl 1 rfl) ?_
  refine bw_add hx hb dX2_at_5 ?_
  refine lv_bipush (v := nI 32) hx hb dX2_at_6 (by decide) ?_
  refine bw_mul hx hb dX2_at_8 ?_
  refine lv_iload_n hx hb dX2_at_9 rfl (lv_at hl 2 rfl) ?_
  refine bw_add hx hb dX2_at_10 ?_
  exact ro_iret hx hb hr hlocks hS dX2_at_11 (rfl)

set_option maxHeartbeats 4000000 in
set_option maxRecDepth 100000 in
theorem met_X2_isUnder (l : Launch) (D : va_G) (dA dZ : ClassId) (ad : Nat → Nat) (sz : Nat) {cod : Int32} {has up ch tol cou : Nat → Int32} {rows : Int32} (hM : mOK (has, up, ch, tol, rows)) (k v : Nat) (hk : k < 32) (hv : v < 32) : RO l yX2_isUnder cX2_isUnder 4 (some .boolean) rm_X2_isUnder [.ref (ad 0), .int (nI k), .int (nI v)] D dA dZ (mdW dA dZ ad cod has up ch tol cou rows) sz (fun r => r = nI (bN (und up k v))) := by
  refine Met.ofW (cc := cX2_isUnder) (maxL := 4) (ret := (some .boolean)) (by decide) rfl ?_
  intro p e s m args below meth c s₁ B hml hv
  obtain ⟨rfl, hsz, hP, hK, hDT⟩ := hv
  have hx := B.exec
  have hb := B.bytes
  have hr := B.returns
  have hts : ∀ w ∈ lw_all, w.before _ s = true := fun w h => atoms_spec (ws := ws_ yX2_isUnder cX2_isUnder 4 (some .boolean)) B.pre w (List.mem_cons_of_mem _ h)
  have hown : s.vm.findClass RX2 = some m.cls := findClass_of_methodNamed B.named
  have hlocks := B.notSynchronized
  subst hsz
  have hS : va_S (fun q => s.heap.size ≤ q) s.heap s.heap [] := va_S.rf
  have hA : ∀ q : Nat, s.heap.size ≤ q → (fun q => s.heap.size ≤ q) q := fun q h => h
  have hl := lv_entry ([.ref (ad 0), .int (nI k), .int (nI v)]) (n := 4) (Nat.le_of_ble_eq_true rfl)
  rw [lg_entry_eq]
  generalize (lg_sl ([.ref (ad 0), .int (nI k), .int (nI v)]) ++ List.replicate (4 - (lg_sl ([.ref (ad 0), .int (nI k), .int (nI v)])).length) Slot.unset).toArray = ls at hl ⊢
  have hl : lv_has ls 4 [(0, .ref (ad 0)), (1, .int (nI k)), (2, .int (nI v))] := hl
  obtain ⟨rk, hrk⟩ := hM.2.2
  have hrk : rkd up rk := hrk
  refine lv_iload_n hx hb dX2_isUnder_0 rfl (lv_at hl 1 rfl) ?_
  refine lv_istore_n (lv' := [(3, .int (nI k)), (0, .ref (ad 0)), (1, .int (nI k)), (2, .int (nI v))]) hx hb dX2_isUnder_1 rfl hl (by decide) rfl (fun ls hl => ?_)
  refine w_loopm (σ := Int32 × Nat) (fun x => x.2) (fun x H locs ls => lv_has ls 4 [(0, .ref (ad 0)), (1, .int (nI k)), (2, .int (nI v)), (3, .int x.1)] ∧ va_P D vwCl (mdW dA dZ ad cod has up ch tol cou rows) H ∧ va_S (fun q => s.heap.size ≤ q) s.heap H locs ∧ (undI up rk k v x)) ?_ (nI k, rk k + 1) _ _ _ ⟨lv_sub hl [1, 2, 3, 0] rfl, hP, hS, Or.inr ⟨k, hk, rfl, Nat.lt_succ_self _, Iff.rfl⟩⟩
  intro x H locs ls hI hk1
  obtain ⟨hl, hP, hS, hI⟩ := hI
  rcases hI with ⟨e9, hI⟩ | ⟨z, hz, e9, hz2, hI⟩
  · refine lv_iload_n hx hb dX2_isUnder_2 rfl (lv_at hl 3 rfl) ?_
    refine lv_iconst (v := (-1)) hx hb dX2_isUnder_3 (by decide) ?_
    refine lv_icmp_eq hx hb (tgt := 22) dX2_isUnder_4 (by decide) (fun c2 => ?_) (fun c2 => ?_)
    · refine lv_iload_n hx hb dX2_isUnder_22 rfl (lv_at hl 3 rfl) ?_
      refine lv_iconst (v := (-1)) hx hb dX2_isUnder_23 (by decide) ?_
      refine lv_icmp_eq hx hb (tgt := 31) dX2_isUnder_24 (by decide) (fun c3 => ?_) (fun c3 => ?_)
      · refine lv_iconst (v := nI 0) hx hb dX2_isUnder_31 (by decide) ?_
        exact ro_zret (rfl) hx hb hr hlocks hS dX2_isUnder_32 (by rw [bN_f hI])
      · exact absurd e9 c3
    · exact absurd e9 c2
  · rw [e9] at hl
    refine lv_iload_n hx hb dX2_isUnder_2 rfl (lv_at hl 3 rfl) ?_
    refine lv_iconst (v := (-1)) hx hb dX2_isUnder_3 (by decide) ?_
    refine lv_icmp_eq hx hb (tgt := 22) dX2_isUnder_4 (by decide) (fun c4 => ?_) (fun c4 => ?_)
    · exact absurd c4.symm (m1_nI (by omega))
    · refine lv_iload_n hx hb dX2_isUnder_7 rfl (lv_at hl 3 rfl) ?_
      refine lv_iload_n hx hb dX2_isUnder_8 rfl (lv_at hl 2 rfl) ?_
      refine bw_eq (by omega) (by omega) hx hb (tgt := 22) dX2_isUnder_9 (by decide) (fun c5 => ?_) (fun c5 => ?_)
      · refine lv_iload_n hx hb dX2_isUnder_22 rfl (lv_at hl 3 rfl) ?_
        refine lv_iconst (v := (-1)) hx hb dX2_isUnder_23 (by decide) ?_
        refine lv_icmp_eq hx hb (tgt := 31) dX2_isUnder_24 (by decide) (fun c6 => ?_) (fun c6 => ?_)
        · exact absurd c6.symm (m1_nI (by omega))
        · refine lv_iconst (v := nI 1) hx hb dX2_isUnder_27 (by decide) ?_
          refine lv_goto (tgt := 32) hx hb dX2_isUnder_28 (by decide) ?_
          exact ro_zret (rfl) hx hb hr hlocks hS dX2_isUnder_32 (by rw [bN_t (hI.mpr (c5 ▸ und_rf up z))])
      · refine lv_aload_n hx hb dX2_isUnder_12 rfl (lv_at hl 0 rfl) ?_
        refine md_above hx hb hts hown hK hP dX2_isUnder_13 ?_
        refine lv_iload_n hx hb dX2_isUnder_16 rfl (lv_at hl 3 rfl) ?_
        refine bw_iald hx hb hK hP 2 rfl z (by omega) (by decide) dX2_isUnder_17 ?_
        refine lv_istore_n (lv' := [(3, .int (up z)), (0, .ref (ad 0)), (1, .int (nI k)), (2, .int (nI v))]) hx hb dX2_isUnder_18 rfl hl (by decide) rfl (fun ls hl => ?_)
        refine lv_goto (tgt := 2) hx hb dX2_isUnder_19 (by decide) ?_
        exact hk1 (up z, rk z) _ _ _ (hz2) ⟨lv_sub hl [1, 2, 3, 0] rfl, hP, hS, undI_s hrk hz hI c5⟩

set_option maxHeartbeats 4000000 in
set_option maxRecDepth 100000 in
theorem met_X2_owns (l : Launch) (D : va_G) (dA dZ : ClassId) (ad : Nat → Nat) (sz : Nat) {cod : Int32} {has up ch tol cou : Nat → Int32} {rows : Int32} (hM : mOK (has, up, ch, tol, rows)) (t h v : Nat) (ht : t < 40) (hh : h < 8) (hv : v < 32) : RO l yX2_owns cX2_owns 6 (some .boolean) rm_X2_owns [.ref (ad 0), .int (nI t), .int (nI h), .int (nI v)] D dA dZ (mdW dA dZ ad cod has up ch tol cou rows) sz (fun r => r = nI (bN (ow has up t h v))) := by
  refine Met.ofW (cc := cX2_owns) (maxL := 6) (ret := (some .boolean)) (by decide) rfl ?_
  intro p e s m args below meth c s₁ B hml hv
  obtain ⟨rfl, hsz, hP, hK, hDT⟩ := hv
  have hx := B.exec
  have hb := B.bytes
  have hr := B.returns
  have hts : ∀ w ∈ lw_all, w.before _ s = true := fun w h => atoms_spec (ws := ws_ yX2_owns cX2_owns 6 (some .boolean)) B.pre w (List.mem_cons_of_mem _ h)
  have hown : s.vm.findClass RX2 = some m.cls := findClass_of_methodNamed B.named
  have hlocks := B.notSynchronized
  subst hsz
  have hS : va_S (fun q => s.heap.size ≤ q) s.heap s.heap [] := va_S.rf
  have hA : ∀ q : Nat, s.heap.size ≤ q → (fun q => s.heap.size ≤ q) q := fun q h => h
  have hl := lv_entry ([.ref (ad 0), .int (nI t), .int (nI h), .int (nI v)]) (n := 6) (Nat.le_of_ble_eq_true rfl)
  rw [lg_entry_eq]
  generalize (lg_sl ([.ref (ad 0), .int (nI t), .int (nI h), .int (nI v)]) ++ List.replicate (6 - (lg_sl ([.ref (ad 0), .int (nI t), .int (nI h), .int (nI v)])).length) Slot.unset).toArray = ls at hl ⊢
  have hl : lv_has ls 6 [(0, .ref (ad 0)), (1, .int (nI t)), (2, .int (nI h)), (3, .int (nI v))] := hl
  refine lv_iload_n hx hb dX2_owns_0 rfl (lv_at hl 2 rfl) ?_
  refine bw_ifle (by omega) hx hb (tgt := 16) dX2_owns_1 (by decide) (fun c1 => ?_) (fun c1 => ?_)
  · subst c1
    refine lv_iconst (v := nI 0) hx hb dX2_owns_16 (by decide) ?_
    refine bw_top (y := nI (bN False)) (by rw [bN_f id]) ?_
    refine lv_istore (lv' := [(4, .int (nI (bN False))), (0, .ref (ad 0)), (1, .int (nI t)), (2, .int (nI 0)), (3, .int (nI v))]) hx hb dX2_owns_17 hl (by decide) rfl (fun ls hl => ?_)
    refine lv_iconst (v := nI 0) hx hb dX2_owns_19 (by decide) ?_
    refine lv_istore (lv' := [(5, .int (nI 0)), (4, .int (nI (bN False))), (0, .ref (ad 0)), (1, .int (nI t)), (2, .int (nI 0)), (3, .int (nI v))]) hx hb dX2_owns_20 hl (by decide) rfl (fun ls hl => ?_)
    refine w_loop (σ := Prop) 32 (fun j x H locs ls => lv_has ls 6 [(0, .ref (ad 0)), (1, .int (nI t)), (3, .int (nI v)), (4, .int (nI (bN x))), (5, .int (nI j))] ∧ va_P D vwCl (mdW dA dZ ad cod has up ch tol cou rows) H ∧ va_S (fun q => s.heap.size ≤ q) s.heap H locs ∧ (x ↔ ∃ k, k < j ∧ (hsP has t 0 k ∧ und up k v))) ?_ ?_ 0 False _ _ _ (by omega) ⟨lv_sub hl [2, 3, 5, 1, 0] rfl, hP, hS, ⟨False.elim, fun q => ex_0 q⟩⟩
    · intro j x H locs ls hj hI hk2
      obtain ⟨hl, hP, hS, hI⟩ := hI
      refine lv_iload hx hb dX2_owns_22 (lv_at hl 4 rfl) ?_
      refine lv_bipush (v := nI 32) hx hb dX2_owns_24 (by decide) ?_
      refine bw_ge (by omega) (by omega) hx hb (tgt := 72) dX2_owns_26 (by decide) (fun c3 => ?_) (fun c3 => ?_)
      · exact absurd c3 (by omega)
      · refine w_cutH 64 ls [] (fun q9 H locs => (q9 = nI (bN (x ∨ (hsP has t 0 j ∧ und up j v)))) ∧ va_P D vwCl (mdW dA dZ ad cod has up ch tol cou rows) H ∧ va_S (fun q => s.heap.size ≤ q) s.heap H locs) (fun K4 => ?_) (fun v5 H locs hv6 => ?_)
        · refine lv_iload hx hb dX2_owns_29 (lv_at hl 3 rfl) ?_
          refine bw_ifne hx hb (tgt := 59) dX2_owns_31 (by decide) (fun c7 => ?_) (fun c7 => ?_)
          · refine lv_iconst (v := nI 1) hx hb dX2_owns_59 (by decide) ?_
            refine lv_goto (tgt := 64) hx hb dX2_owns_60 (by decide) ?_
            exact K4 _ _ _ ⟨by rw [bN_t (Or.inl c7)], hP, hS⟩
          · refine lv_aload_n hx hb dX2_owns_34 rfl (lv_at hl 0 rfl) ?_
            refine md_has hx hb hts hown hK hP dX2_owns_35 ?_
            refine lv_iload_n hx hb dX2_owns_38 rfl (lv_at hl 1 rfl) ?_
            refine lv_iconst (v := nI 0) hx hb dX2_owns_39 (by decide) ?_
            refine lv_iload hx hb dX2_owns_40 (lv_at hl 4 rfl) ?_
            refine bw_rs (rest := [.ref (ad 1)]) ⟨hx, hb, hml, hown, hts⟩ (met_X2_at l _ t 0 j) (cw_X2_40 hts ⟨Nat.le_of_ble_eq_true rfl, Nat.le_of_ble_eq_true rfl⟩) hP hS hA rfl rfl hl.1 (Nat.le_of_ble_eq_true rfl) dX2_owns_42 ⟨Nat.zero_le _, Nat.zero_le _⟩ (fun r8 H locs hv9 hP hS => ?_)
            subst hv9
            refine bw_zald hx hb hK hP 1 rfl (((t * 8 + 0) * 32 + j)) (by omega) (by decide) dX2_owns_45 ?_
            refine bw_top (y := nI (bN (hsP has t 0 j))) (hs_val hM.1 ht (by omega) hj) ?_
            refine bw_ifeq hx hb (tgt := 63) dX2_owns_46 (by decide) (fun c10 => ?_) (fun c10 => ?_)
            · refine lv_iconst (v := nI 0) hx hb dX2_owns_63 (by decide) ?_
              exact K4 _ _ _ ⟨by rw [bN_f (fun q => by rcases q with q | q; exact c7 q; exact c10 q.1)], hP, hS⟩
            · refine lv_aload_n hx hb dX2_owns_49 rfl (lv_at hl 0 rfl) ?_
              refine lv_iload hx hb dX2_owns_50 (lv_at hl 4 rfl) ?_
              refine lv_iload_n hx hb dX2_owns_52 rfl (lv_at hl 2 rfl) ?_
              refine bw_ro (rest := []) ⟨hx, hb, hml, hown, hts⟩ (met_X2_isUnder l D dA dZ ad _ hM j v hj hv) (cw_X2_47 hts ⟨Nat.le_of_ble_eq_true rfl, Nat.le_of_ble_eq_true rfl⟩) (va_recv hK hP (ci := 1) (q0 := 0) rfl rfl) hK hP hDT hP hS hA rfl rfl hl.1 (Nat.le_of_ble_eq_true rfl) dX2_owns_53 ⟨Nat.zero_le _, Nat.zero_le _⟩ (fun r11 H locs hv12 hP hS => ?_)
              subst hv12
              refine bw_ifeq hx hb (tgt := 63) dX2_owns_56 (by decide) (fun c13 => ?_) (fun c13 => ?_)
              · refine lv_iconst (v := nI 0) hx hb dX2_owns_63 (by decide) ?_
                exact K4 _ _ _ ⟨by rw [bN_f (fun q => by rcases q with q | q; exact c7 q; exact c13 q.2)], hP, hS⟩
              · refine lv_iconst (v := nI 1) hx hb dX2_owns_59 (by decide) ?_
                refine lv_goto (tgt := 64) hx hb dX2_owns_60 (by decide) ?_
                exact K4 _ _ _ ⟨by rw [bN_t (Or.inr ⟨c10, c13⟩)], hP, hS⟩
        · obtain ⟨hv6, hP, hS⟩ := hv6
          subst hv6
          refine lv_istore (lv' := [(4, .int (nI (bN (x ∨ (hsP has t 0 j ∧ und up j v))))), (0, .ref (ad 0)), (1, .int (nI t)), (3, .int (nI v)), (5, .int (nI j))]) hx hb dX2_owns_64 hl (by decide) rfl (fun ls hl => ?_)
          refine lv_iinc (v := nI (j + 1)) (lv' := [(5, .int (nI (j + 1))), (4, .int (nI (bN (x ∨ (hsP has t 0 j ∧ und up j v))))), (0, .ref (ad 0)), (1, .int (nI t)), (3, .int (nI v))]) hx hb dX2_owns_66 hl (k := 4) rfl (inc1 _) (by decide) rfl (fun ls hl => ?_)
          refine lv_goto (tgt := 22) hx hb dX2_owns_69 (by decide) ?_
          exact hk2 (x ∨ (hsP has t 0 j ∧ und up j v)) _ _ _ ⟨lv_sub hl [2, 3, 4, 1, 0] rfl, hP, hS, by rw [ex_s, ← hI]⟩
    · intro x H locs ls hI
      obtain ⟨hl, hP, hS, hI⟩ := hI
      refine lv_iload hx hb dX2_owns_22 (lv_at hl 4 rfl) ?_
      refine lv_bipush (v := nI 32) hx hb dX2_owns_24 (by decide) ?_
      refine bw_ge (by omega) (by omega) hx hb (tgt := 72) dX2_owns_26 (by decide) (fun c14 => ?_) (fun c14 => ?_)
      · refine lv_iload hx hb dX2_owns_72 (lv_at hl 3 rfl) ?_
        exact ro_zret (nb_nar _) hx hb hr hlocks hS dX2_owns_74 (by rw [bN_c (ow_0.trans hI.symm)])
      · exact absurd c14 (by omega)
  · refine lv_aload_n hx hb dX2_owns_4 rfl (lv_at hl 0 rfl) ?_
    refine md_has hx hb hts hown hK hP dX2_owns_5 ?_
    refine lv_iload_n hx hb dX2_owns_8 rfl (lv_at hl 1 rfl) ?_
    refine lv_iload_n hx hb dX2_owns_9 rfl (lv_at hl 2 rfl) ?_
    refine lv_iload_n hx hb dX2_owns_10 rfl (lv_at hl 3 rfl) ?_
    refine bw_rs (rest := [.ref (ad 1)]) ⟨hx, hb, hml, hown, hts⟩ (met_X2_at l _ t h v) (cw_X2_40 hts ⟨Nat.le_of_ble_eq_true rfl, Nat.le_of_ble_eq_true rfl⟩) hP hS hA rfl rfl hl.1 (Nat.le_of_ble_eq_true rfl) dX2_owns_11 ⟨Nat.zero_le _, Nat.zero_le _⟩ (fun r15 H locs hv16 hP hS => ?_)
    subst hv16
    refine bw_zald hx hb hK hP 1 rfl (((t * 8 + h) * 32 + v)) (by omega) (by decide) dX2_owns_14 ?_
    refine bw_top (y := nI (bN (hsP has t h v))) (hs_val hM.1 ht hh hv) ?_
    exact ro_zret (nb_nar _) hx hb hr hlocks hS dX2_owns_15 (by rw [bN_c (ow_s c1)])

set_option maxHeartbeats 4000000 in
set_option maxRecDepth 100000 in
theorem met_X2_isMet (l : Launch) (D : va_G) (dA dZ : ClassId) (ad : Nat → Nat) (sz : Nat) {cod : Int32} {has up ch tol cou : Nat → Int32} {rows : Int32} (hM : mOK (has, up, ch, tol, rows)) (t h : Nat) (ht : t < 40) (hh : h < 8) : RO l yX2_isMet cX2_isMet 6 (some .boolean) rm_X2_isMet [.ref (ad 0), .int (nI t), .int (nI h)] D dA dZ (mdW dA dZ ad cod has up ch tol cou rows) sz (fun r => r = nI (bN (mt has up ch t h))) := by
  refine Met.ofW (cc := cX2_isMet) (maxL := 6) (ret := (some .boolean)) (by decide) rfl ?_
  intro p e s m args below meth c s₁ B hml hv
  obtain ⟨rfl, hsz, hP, hK, hDT⟩ := hv
  have hx := B.exec
  have hb := B.bytes
  have hr := B.returns
  have hts : ∀ w ∈ lw_all, w.before _ s = true := fun w h => atoms_spec (ws := ws_ yX2_isMet cX2_isMet 6 (some .boolean)) B.pre w (List.mem_cons_of_mem _ h)
  have hown : s.vm.findClass RX2 = some m.cls := findClass_of_methodNamed B.named
  have hlocks := B.notSynchronized
  subst hsz
  have hS : va_S (fun q => s.heap.size ≤ q) s.heap s.heap [] := va_S.rf
  have hA : ∀ q : Nat, s.heap.size ≤ q → (fun q => s.heap.size ≤ q) q := fun q h => h
  have hl := lv_entry ([.ref (ad 0), .int (nI t), .int (nI h)]) (n := 6) (Nat.le_of_ble_eq_true rfl)
  rw [lg_entry_eq]
  generalize (lg_sl ([.ref (ad 0), .int (nI t), .int (nI h)]) ++ List.replicate (6 - (lg_sl ([.ref (ad 0), .int (nI t), .int (nI h)])).length) Slot.unset).toArray = ls at hl ⊢
  have hl : lv_has ls 6 [(0, .ref (ad 0)), (1, .int (nI t)), (2, .int (nI h))] := hl
  refine lv_iconst (v := nI 0) hx hb dX2_isMet_0 (by decide) ?_
  refine bw_top (y := nI (bN False)) (by rw [bN_f id]) ?_
  refine lv_istore_n (lv' := [(3, .int (nI (bN False))), (0, .ref (ad 0)), (1, .int (nI t)), (2, .int (nI h))]) hx hb dX2_isMet_1 rfl hl (by decide) rfl (fun ls hl => ?_)
  refine lv_iconst (v := nI 0) hx hb dX2_isMet_2 (by decide) ?_
  refine bw_top (y := nI (bN False)) (by rw [bN_f id]) ?_
  refine lv_istore (lv' := [(4, .int (nI (bN False))), (3, .int (nI (bN False))), (0, .ref (ad 0)), (1, .int (nI t)), (2, .int (nI h))]) hx hb dX2_isMet_3 hl (by decide) rfl (fun ls hl => ?_)
  refine lv_iconst (v := nI 0) hx hb dX2_isMet_5 (by decide) ?_
  refine lv_istore (lv' := [(5, .int (nI 0)), (4, .int (nI (bN False))), (3, .int (nI (bN False))), (0, .ref (ad 0)), (1, .int (nI t)), (2, .int (nI h))]) hx hb dX2_isMet_6 hl (by decide) rfl (fun ls hl => ?_)
  refine w_loop (σ := Prop × Prop) 32 (fun j x H locs ls => lv_has ls 6 [(0, .ref (ad 0)), (1, .int (nI t)), (2, .int (nI h)), (3, .int (nI (bN x.1))), (4, .int (nI (bN x.2))), (5, .int (nI j))] ∧ va_P D vwCl (mdW dA dZ ad cod has up ch tol cou rows) H ∧ va_S (fun q => s.heap.size ≤ q) s.heap H locs ∧ ((x.1 ↔ ∃ v, v < j ∧ chP ch h v) ∧ (x.2 ↔ ∃ v, v < j ∧ (chP ch h v ∧ ow has up t h v)))) ?_ ?_ 0 (False, False) _ _ _ (by omega) ⟨lv_sub hl [3, 4, 5, 2, 1, 0] rfl, hP, hS, ⟨⟨False.elim, fun q => ex_0 q⟩, ⟨False.elim, fun q => ex_0 q⟩⟩⟩
  · intro j x H locs ls hj hI hk1
    obtain ⟨hl, hP, hS, hI⟩ := hI
    refine lv_iload hx hb dX2_isMet_8 (lv_at hl 5 rfl) ?_
    refine lv_bipush (v := nI 32) hx hb dX2_isMet_10 (by decide) ?_
    refine bw_ge (by omega) (by omega) hx hb (tgt := 61) dX2_isMet_12 (by decide) (fun c2 => ?_) (fun c2 => ?_)
    · exact absurd c2 (by omega)
    · refine lv_aload_n hx hb dX2_isMet_15 rfl (lv_at hl 0 rfl) ?_
      refine md_chosen hx hb hts hown hK hP dX2_isMet_16 ?_
      refine lv_bipush (v := nI 32) hx hb dX2_isMet_19 (by decide) ?_
      refine lv_iload_n hx hb dX2_isMet_21 rfl (lv_at hl 2 rfl) ?_
      refine bw_mul hx hb dX2_isMet_22 ?_
      refine lv_iload hx hb dX2_isMet_23 (lv_at hl 5 rfl) ?_
      refine bw_add hx hb dX2_isMet_25 ?_
      refine bw_zald hx hb hK hP 3 rfl (((32 * h) + j)) (by omega) (by decide) dX2_isMet_26 ?_
      refine bw_top (y := nI (bN (chP ch h j))) (ch_val hM.2.1 hh hj) ?_
      refine bw_ifeq hx hb (tgt := 55) dX2_isMet_27 (by decide) (fun c3 => ?_) (fun c3 => ?_)
      · refine lv_iinc (v := nI (j + 1)) (lv' := [(5, .int (nI (j + 1))), (0, .ref (ad 0)), (1, .int (nI t)), (2, .int (nI h)), (3, .int (nI (bN x.1))), (4, .int (nI (bN x.2)))]) hx hb dX2_isMet_55 hl (k := 5) rfl (inc1 _) (by decide) rfl (fun ls hl => ?_)
        refine lv_goto (tgt := 8) hx hb dX2_isMet_58 (by decide) ?_
        exact hk1 x _ _ _ ⟨lv_sub hl [1, 2, 3, 4, 5, 0] rfl, hP, hS, ⟨by rw [ex_s, ← hI.1]; exact ⟨Or.inl, fun q => by rcases q with q | q; exact q; exact absurd q c3⟩, by rw [ex_s, ← hI.2]; exact ⟨Or.inl, fun q => by rcases q with q | q; exact q; exact absurd q.1 c3⟩⟩⟩
      · refine lv_iconst (v := nI 1) hx hb dX2_isMet_30 (by decide) ?_
        refine bw_top (y := nI (bN True)) (by rw [bN_t trivial]) ?_
        refine lv_istore_n (lv' := [(3, .int (nI (bN True))), (0, .ref (ad 0)), (1, .int (nI t)), (2, .int (nI h)), (4, .int (nI (bN x.2))), (5, .int (nI j))]) hx hb dX2_isMet_31 rfl hl (by decide) rfl (fun ls hl => ?_)
        refine w_cutH 53 ls [] (fun q9 H locs => (q9 = nI (bN (x.2 ∨ ow has up t h j))) ∧ va_P D vwCl (mdW dA dZ ad cod has up ch tol cou rows) H ∧ va_S (fun q => s.heap.size ≤ q) s.heap H locs) (fun K4 => ?_) (fun v5 H locs hv6 => ?_)
        · refine lv_iload hx hb dX2_isMet_32 (lv_at hl 4 rfl) ?_
          refine bw_ifne hx hb (tgt := 48) dX2_isMet_34 (by decide) (fun c7 => ?_) (fun c7 => ?_)
          · refine lv_iconst (v := nI 1) hx hb dX2_isMet_48 (by decide) ?_
            refine lv_goto (tgt := 53) hx hb dX2_isMet_49 (by decide) ?_
            exact K4 _ _ _ ⟨by rw [bN_t (Or.inl c7)], hP, hS⟩
          · refine lv_aload_n hx hb dX2_isMet_37 rfl (lv_at hl 1 rfl) ?_
            refine lv_iload_n hx hb dX2_isMet_38 rfl (lv_at hl 2 rfl) ?_
            refine lv_iload_n hx hb dX2_isMet_39 rfl (lv_at hl 3 rfl) ?_
            refine lv_iload hx hb dX2_isMet_40 (lv_at hl 5 rfl) ?_
            refine bw_ro (rest := []) ⟨hx, hb, hml, hown, hts⟩ (met_X2_owns l D dA dZ ad _ hM t h j ht hh hj) (cw_X2_51 hts ⟨Nat.le_of_ble_eq_true rfl, Nat.le_of_ble_eq_true rfl⟩) (va_recv hK hP (ci := 1) (q0 := 0) rfl rfl) hK hP hDT hP hS hA rfl rfl hl.1 (Nat.le_of_ble_eq_true rfl) dX2_isMet_42 ⟨Nat.zero_le _, Nat.zero_le _⟩ (fun r8 H locs hv9 hP hS => ?_)
            subst hv9
            refine bw_ifeq hx hb (tgt := 52) dX2_isMet_45 (by decide) (fun c10 => ?_) (fun c10 => ?_)
            · refine lv_iconst (v := nI 0) hx hb dX2_isMet_52 (by decide) ?_
              exact K4 _ _ _ ⟨by rw [bN_f (fun q => by rcases q with q | q; exact c7 q; exact c10 q)], hP, hS⟩
            · refine lv_iconst (v := nI 1) hx hb dX2_isMet_48 (by decide) ?_
              refine lv_goto (tgt := 53) hx hb dX2_isMet_49 (by decide) ?_
              exact K4 _ _ _ ⟨by rw [bN_t (Or.inr c10)], hP, hS⟩
        · obtain ⟨hv6, hP, hS⟩ := hv6
          subst hv6
          refine lv_istore (lv' := [(4, .int (nI (bN (x.2 ∨ ow has up t h j)))), (3, .int (nI (bN True))), (0, .ref (ad 0)), (1, .int (nI t)), (2, .int (nI h)), (5, .int (nI j))]) hx hb dX2_isMet_53 hl (by decide) rfl (fun ls hl => ?_)
          refine lv_iinc (v := nI (j + 1)) (lv' := [(5, .int (nI (j + 1))), (4, .int (nI (bN (x.2 ∨ ow has up t h j)))), (3, .int (nI (bN True))), (0, .ref (ad 0)), (1, .int (nI t)), (2, .int (nI h))]) hx hb dX2_isMet_55 hl (k := 5) rfl (inc1 _) (by decide) rfl (fun ls hl => ?_)
          refine lv_goto (tgt := 8) hx hb dX2_isMet_58 (by decide) ?_
          exact hk1 (True, (x.2 ∨ ow has up t h j)) _ _ _ ⟨lv_sub hl [3, 4, 5, 2, 1, 0] rfl, hP, hS, ⟨by rw [ex_s]; exact ⟨fun _ => Or.inr c3, fun _ => trivial⟩, by rw [ex_s, ← hI.2]; exact or_congr_right ⟨fun q => ⟨c3, q⟩, fun q => q.2⟩⟩⟩
  · intro x H locs ls hI
    obtain ⟨hl, hP, hS, hI⟩ := hI
    refine lv_iload hx hb dX2_isMet_8 (lv_at hl 5 rfl) ?_
    refine lv_bipush (v := nI 32) hx hb dX2_isMet_10 (by decide) ?_
    refine bw_ge (by omega) (by omega) hx hb (tgt := 61) dX2_isMet_12 (by decide) (fun c11 => ?_) (fun c11 => ?_)
    · refine lv_iload hx hb dX2_isMet_61 (lv_at hl 4 rfl) ?_
      refine bw_ifne hx hb (tgt := 70) dX2_isMet_63 (by decide) (fun c12 => ?_) (fun c12 => ?_)
      · refine lv_iconst (v := nI 1) hx hb dX2_isMet_70 (by decide) ?_
        refine lv_goto (tgt := 75) hx hb dX2_isMet_71 (by decide) ?_
        exact ro_zret (rfl) hx hb hr hlocks hS dX2_isMet_75 (by rw [bN_t (p := mt has up ch t h) (Or.inl (hI.2.mp c12))])
      · refine lv_iload_n hx hb dX2_isMet_66 rfl (lv_at hl 3 rfl) ?_
        refine bw_ifne hx hb (tgt := 74) dX2_isMet_67 (by decide) (fun c13 => ?_) (fun c13 => ?_)
        · refine lv_iconst (v := nI 0) hx hb dX2_isMet_74 (by decide) ?_
          exact ro_zret (rfl) hx hb hr hlocks hS dX2_isMet_75 (by rw [bN_f (fun q => by rcases q with q | q; exact c12 (hI.2.mpr q); exact q (hI.1.mp c13))])
        · refine lv_iconst (v := nI 1) hx hb dX2_isMet_70 (by decide) ?_
          refine lv_goto (tgt := 75) hx hb dX2_isMet_71 (by decide) ?_
          exact ro_zret (rfl) hx hb hr hlocks hS dX2_isMet_75 (by rw [bN_t (p := mt has up ch t h) (Or.inr (fun q => c13 (hI.1.mpr q)))])
    · exact absurd c11 (by omega)

set_option maxHeartbeats 4000000 in
set_option maxRecDepth 100000 in
theorem met_X2_isKeptBut (l : Launch) (D : va_G) (dA dZ : ClassId) (ad : Nat → Nat) (sz : Nat) {cod : Int32} {has up ch tol cou : Nat → Int32} {rows : Int32} (hM : mOK (has, up, ch, tol, rows)) (t h : Nat) (ht : t < 40) (hp : Int32) (hhp : ∀ g, g < 8 → (nI g = hp ↔ g = h)) : RO l yX2_isKeptBut cX2_isKeptBut 5 (some .boolean) rm_X2_isKeptBut [.ref (ad 0), .int (nI t), .int hp] D dA dZ (mdW dA dZ ad cod has up ch tol cou rows) sz (fun r => r = nI (bN (kb has up ch t h))) := by
  refine Met.ofW (cc := cX2_isKeptBut) (maxL := 5) (ret := (some .boolean)) (by decide) rfl ?_
  intro p e s m args below meth c s₁ B hml hv
  obtain ⟨rfl, hsz, hP, hK, hDT⟩ := hv
  have hx := B.exec
  have hb := B.bytes
  have hr := B.returns
  have hts : ∀ w ∈ lw_all, w.before _ s = true := fun w h => atoms_spec (ws := ws_ yX2_isKeptBut cX2_isKeptBut 5 (some .boolean)) B.pre w (List.mem_cons_of_mem _ h)
  have hown : s.vm.findClass RX2 = some m.cls := findClass_of_methodNamed B.named
  have hlocks := B.notSynchronized
  subst hsz
  have hS : va_S (fun q => s.heap.size ≤ q) s.heap s.heap [] := va_S.rf
  have hA : ∀ q : Nat, s.heap.size ≤ q → (fun q => s.heap.size ≤ q) q := fun q h => h
  have hl := lv_entry ([.ref (ad 0), .int (nI t), .int hp]) (n := 5) (Nat.le_of_ble_eq_true rfl)
  rw [lg_entry_eq]
  generalize (lg_sl ([.ref (ad 0), .int (nI t), .int hp]) ++ List.replicate (5 - (lg_sl ([.ref (ad 0), .int (nI t), .int hp])).length) Slot.unset).toArray = ls at hl ⊢
  have hl : lv_has ls 5 [(0, .ref (ad 0)), (1, .int (nI t)), (2, .int hp)] := hl
  refine lv_iconst (v := nI 1) hx hb dX2_isKeptBut_0 (by decide) ?_
  refine bw_top (y := nI (bN True)) (by rw [bN_t trivial]) ?_
  refine lv_istore_n (lv' := [(3, .int (nI (bN True))), (0, .ref (ad 0)), (1, .int (nI t)), (2, .int hp)]) hx hb dX2_isKeptBut_1 rfl hl (by decide) rfl (fun ls hl => ?_)
  refine lv_iconst (v := nI 0) hx hb dX2_isKeptBut_2 (by decide) ?_
  refine lv_istore (lv' := [(4, .int (nI 0)), (3, .int (nI (bN True))), (0, .ref (ad 0)), (1, .int (nI t)), (2, .int hp)]) hx hb dX2_isKeptBut_3 hl (by decide) rfl (fun ls hl => ?_)
  refine w_loop (σ := Prop) 8 (fun j x H locs ls => lv_has ls 5 [(0, .ref (ad 0)), (1, .int (nI t)), (2, .int hp), (3, .int (nI (bN x))), (4, .int (nI j))] ∧ va_P D vwCl (mdW dA dZ ad cod has up ch tol cou rows) H ∧ va_S (fun q => s.heap.size ≤ q) s.heap H locs ∧ (x ↔ ∀ g, g < j → (g ≠ h → mt has up ch t g))) ?_ ?_ 0 True _ _ _ (by omega) ⟨lv_sub hl [2, 3, 4, 1, 0] rfl, hP, hS, ⟨fun _ g hg => absurd hg (Nat.not_lt_zero g), fun _ => trivial⟩⟩
  · intro j x H locs ls hj hI hk1
    obtain ⟨hl, hP, hS, hI⟩ := hI
    refine lv_iload hx hb dX2_isKeptBut_5 (lv_at hl 4 rfl) ?_
    refine lv_bipush (v := nI 8) hx hb dX2_isKeptBut_7 (by decide) ?_
    refine bw_ge (by omega) (by omega) hx hb (tgt := 44) dX2_isKeptBut_9 (by decide) (fun c2 => ?_) (fun c2 => ?_)
    · exact absurd c2 (by omega)
    · refine w_cutH 37 ls [] (fun q9 H locs => (q9 = nI (bN (x ∧ (j ≠ h → mt has up ch t j)))) ∧ va_P D vwCl (mdW dA dZ ad cod has up ch tol cou rows) H ∧ va_S (fun q => s.heap.size ≤ q) s.heap H locs) (fun K3 => ?_) (fun v4 H locs hv5 => ?_)
      · refine lv_iload_n hx hb dX2_isKeptBut_12 rfl (lv_at hl 3 rfl) ?_
        refine bw_ifeq hx hb (tgt := 36) dX2_isKeptBut_13 (by decide) (fun c6 => ?_) (fun c6 => ?_)
        · refine lv_iconst (v := nI 0) hx hb dX2_isKeptBut_36 (by decide) ?_
          exact K3 _ _ _ ⟨by rw [bN_f (fun q => c6 q.1)], hP, hS⟩
        · refine lv_iload hx hb dX2_isKeptBut_16 (lv_at hl 4 rfl) ?_
          refine lv_iload_n hx hb dX2_isKeptBut_18 rfl (lv_at hl 2 rfl) ?_
          refine lv_icmp_eq hx hb (tgt := 32) dX2_isKeptBut_19 (by decide) (fun c7 => ?_) (fun c7 => ?_)
          · refine lv_iconst (v := nI 1) hx hb dX2_isKeptBut_32 (by decide) ?_
            refine lv_goto (tgt := 37) hx hb dX2_isKeptBut_33 (by decide) ?_
            exact K3 _ _ _ ⟨by rw [bN_t ⟨c6, fun q => absurd ((hhp j hj).mp c7) q⟩], hP, hS⟩
          · refine lv_aload_n hx hb dX2_isKeptBut_22 rfl (lv_at hl 0 rfl) ?_
            refine lv_iload_n hx hb dX2_isKeptBut_23 rfl (lv_at hl 1 rfl) ?_
            refine lv_iload hx hb dX2_isKeptBut_24 (lv_at hl 4 rfl) ?_
            refine bw_ro (rest := []) ⟨hx, hb, hml, hown, hts⟩ (met_X2_isMet l D dA dZ ad _ hM t j ht hj) (cw_X2_55 hts ⟨Nat.le_of_ble_eq_true rfl, Nat.le_of_ble_eq_true rfl⟩) (va_recv hK hP (ci := 1) (q0 := 0) rfl rfl) hK hP hDT hP hS hA rfl rfl hl.1 (Nat.le_of_ble_eq_true rfl) dX2_isKeptBut_26 ⟨Nat.zero_le _, Nat.zero_le _⟩ (fun r8 H locs hv9 hP hS => ?_)
            subst hv9
            refine bw_ifeq hx hb (tgt := 36) dX2_isKeptBut_29 (by decide) (fun c10 => ?_) (fun c10 => ?_)
            · refine lv_iconst (v := nI 0) hx hb dX2_isKeptBut_36 (by decide) ?_
              exact K3 _ _ _ ⟨by rw [bN_f (fun q => c10 (q.2 (fun z => c7 ((hhp j hj).mpr z))))], hP, hS⟩
            · refine lv_iconst (v := nI 1) hx hb dX2_isKeptBut_32 (by decide) ?_
              refine lv_goto (tgt := 37) hx hb dX2_isKeptBut_33 (by decide) ?_
              exact K3 _ _ _ ⟨by rw [bN_t ⟨c6, fun _ => c10⟩], hP, hS⟩
      · obtain ⟨hv5, hP, hS⟩ := hv5
        subst hv5
        refine lv_istore_n (lv' := [(3, .int (nI (bN (x ∧ (j ≠ h → mt has up ch t j))))), (0, .ref (ad 0)), (1, .int (nI t)), (2, .int hp), (4, .int (nI j))]) hx hb dX2_isKeptBut_37 rfl hl (by decide) rfl (fun ls hl => ?_)
        refine lv_iinc (v := nI (j + 1)) (lv' := [(4, .int (nI (j + 1))), (3, .int (nI (bN (x ∧ (j ≠ h → mt has up ch t j))))), (0, .ref (ad 0)), (1, .int (nI t)), (2, .int hp)]) hx hb dX2_isKeptBut_38 hl (k := 4) rfl (inc1 _) (by decide) rfl (fun ls hl => ?_)
        refine lv_goto (tgt := 5) hx hb dX2_isKeptBut_41 (by decide) ?_
        exact hk1 (x ∧ (j ≠ h → mt has up ch t j)) _ _ _ ⟨lv_sub hl [2, 3, 4, 1, 0] rfl, hP, hS, by rw [all_s, ← hI]⟩
  · intro x H locs ls hI
    obtain ⟨hl, hP, hS, hI⟩ := hI
    refine lv_iload hx hb dX2_isKeptBut_5 (lv_at hl 4 rfl) ?_
    refine lv_bipush (v := nI 8) hx hb dX2_isKeptBut_7 (by decide) ?_
    refine bw_ge (by omega) (by omega) hx hb (tgt := 44) dX2_isKeptBut_9 (by decide) (fun c11 => ?_) (fun c11 => ?_)
    · refine lv_iload_n hx hb dX2_isKeptBut_44 rfl (lv_at hl 3 rfl) ?_
      exact ro_zret (nb_nar _) hx hb hr hlocks hS dX2_isKeptBut_45 (by rw [bN_c hI]; rfl)
    · exact absurd c11 (by omega)

set_option maxHeartbeats 4000000 in
set_option maxRecDepth 100000 in
theorem met_X2_count (l : Launch) (D : va_G) (dA dZ : ClassId) (ad : Nat → Nat) (sz : Nat) {cod : Int32} {has up ch tol cou : Nat → Int32} {rows : Int32} (hM : mOK (has, up, ch, tol, rows)) (h v : Nat) (hh : h < 8) (hv : v < 32) : RO l yX2_count cX2_count 5 (some .int) rm_X2_count [.ref (ad 0), .int (nI h), .int (nI v)] D dA dZ (mdW dA dZ ad cod has up ch tol cou rows) sz (fun r => r = nI (cN has up ch h v)) := by
  refine Met.ofW (cc := cX2_count) (maxL := 5) (ret := (some .int)) (by decide) rfl ?_
  intro p e s m args below meth c s₁ B hml hv
  obtain ⟨rfl, hsz, hP, hK, hDT⟩ := hv
  have hx := B.exec
  have hb := B.bytes
  have hr := B.returns
  have hts : ∀ w ∈ lw_all, w.before _ s = true := fun w h => atoms_spec (ws := ws_ yX2_count cX2_count 5 (some .int)) B.pre w (List.mem_cons_of_mem _ h)
  have hown : s.vm.findClass RX2 = some m.cls := findClass_of_methodNamed B.named
  have hlocks := B.notSynchronized
  subst hsz
  have hS : va_S (fun q => s.heap.size ≤ q) s.heap s.heap [] := va_S.rf
  have hA : ∀ q : Nat, s.heap.size ≤ q → (fun q => s.heap.size ≤ q) q := fun q h => h
  have hl := lv_entry ([.ref (ad 0), .int (nI h), .int (nI v)]) (n := 5) (Nat.le_of_ble_eq_true rfl)
  rw [lg_entry_eq]
  generalize (lg_sl ([.ref (ad 0), .int (nI h), .int (nI v)]) ++ List.replicate (5 - (lg_sl ([.ref (ad 0), .int (nI h), .int (nI v)])).length) Slot.unset).toArray = ls at hl ⊢
  have hl : lv_has ls 5 [(0, .ref (ad 0)), (1, .int (nI h)), (2, .int (nI v))] := hl
  refine lv_iconst (v := nI 0) hx hb dX2_count_0 (by decide) ?_
  refine lv_istore_n (lv' := [(3, .int (nI 0)), (0, .ref (ad 0)), (1, .int (nI h)), (2, .int (nI v))]) hx hb dX2_count_1 rfl hl (by decide) rfl (fun ls hl => ?_)
  refine lv_iconst (v := nI 0) hx hb dX2_count_2 (by decide) ?_
  refine lv_istore (lv' := [(4, .int (nI 0)), (3, .int (nI 0)), (0, .ref (ad 0)), (1, .int (nI h)), (2, .int (nI v))]) hx hb dX2_count_3 hl (by decide) rfl (fun ls hl => ?_)
  refine w_loop (σ := Unit) 40 (fun j x H locs ls => lv_has ls 5 [(0, .ref (ad 0)), (1, .int (nI h)), (2, .int (nI v)), (3, .int (nI (cnt (fun t => ow has up t h v ∧ kb has up ch t h) j))), (4, .int (nI j))] ∧ va_P D vwCl (mdW dA dZ ad cod has up ch tol cou rows) H ∧ va_S (fun q => s.heap.size ≤ q) s.heap H locs ∧ (True)) ?_ ?_ 0 () _ _ _ (by omega) ⟨lv_sub hl [2, 3, 4, 1, 0] rfl, hP, hS, trivial⟩
  · intro j x H locs ls hj hI hk1
    obtain ⟨hl, hP, hS, hI⟩ := hI
    refine lv_iload hx hb dX2_count_5 (lv_at hl 4 rfl) ?_
    refine lv_bipush (v := nI 40) hx hb dX2_count_7 (by decide) ?_
    refine bw_ge (by omega) (by omega) hx hb (tgt := 47) dX2_count_9 (by decide) (fun c2 => ?_) (fun c2 => ?_)
    · exact absurd c2 (by omega)
    · refine lv_iload_n hx hb dX2_count_12 rfl (lv_at hl 3 rfl) ?_
      refine lv_aload_n hx hb dX2_count_13 rfl (lv_at hl 0 rfl) ?_
      refine lv_iload hx hb dX2_count_14 (lv_at hl 4 rfl) ?_
      refine lv_iload_n hx hb dX2_count_16 rfl (lv_at hl 1 rfl) ?_
      refine lv_iload_n hx hb dX2_count_17 rfl (lv_at hl 2 rfl) ?_
      refine bw_ro (rest := [.int (nI (cnt (fun t => ow has up t h v ∧ kb has up ch t h) j))]) ⟨hx, hb, hml, hown, hts⟩ (met_X2_owns l D dA dZ ad _ hM j h v hj hh hv) (cw_X2_51 hts ⟨Nat.le_of_ble_eq_true rfl, Nat.le_of_ble_eq_true rfl⟩) (va_recv hK hP (ci := 1) (q0 := 0) rfl rfl) hK hP hDT hP hS hA rfl rfl hl.1 (Nat.le_of_ble_eq_true rfl) dX2_count_18 ⟨Nat.zero_le _, Nat.zero_le _⟩ (fun r3 H locs hv4 hP hS => ?_)
      subst hv4
      refine w_cutH 39 ls [.int (nI (cnt (fun t => ow has up t h v ∧ kb has up ch t h) j))] (fun q9 H locs => (q9 = nI (bN (ow has up j h v ∧ kb has up ch j h))) ∧ va_P D vwCl (mdW dA dZ ad cod has up ch tol cou rows) H ∧ va_S (fun q => s.heap.size ≤ q) s.heap H locs) (fun K5 => ?_) (fun v6 H locs hv7 => ?_)
      · refine bw_ifeq hx hb (tgt := 38) dX2_count_21 (by decide) (fun c8 => ?_) (fun c8 => ?_)
        · refine lv_iconst (v := nI 0) hx hb dX2_count_38 (by decide) ?_
          exact K5 _ _ _ ⟨by rw [bN_f (fun q => c8 q.1)], hP, hS⟩
        · refine lv_aload_n hx hb dX2_count_24 rfl (lv_at hl 0 rfl) ?_
          refine lv_iload hx hb dX2_count_25 (lv_at hl 4 rfl) ?_
          refine lv_iload_n hx hb dX2_count_27 rfl (lv_at hl 1 rfl) ?_
          refine bw_ro (rest := [.int (nI (cnt (fun t => ow has up t h v ∧ kb has up ch t h) j))]) ⟨hx, hb, hml, hown, hts⟩ (met_X2_isKeptBut l D dA dZ ad _ hM j h hj (nI h) (hpN hh)) (cw_X2_58 hts ⟨Nat.le_of_ble_eq_true rfl, Nat.le_of_ble_eq_true rfl⟩) (va_recv hK hP (ci := 1) (q0 := 0) rfl rfl) hK hP hDT hP hS hA rfl rfl hl.1 (Nat.le_of_ble_eq_true rfl) dX2_count_28 ⟨Nat.zero_le _, Nat.zero_le _⟩ (fun r9 H locs hv10 hP hS => ?_)
          subst hv10
          refine bw_ifeq hx hb (tgt := 38) dX2_count_31 (by decide) (fun c11 => ?_) (fun c11 => ?_)
          · refine lv_iconst (v := nI 0) hx hb dX2_count_38 (by decide) ?_
            exact K5 _ _ _ ⟨by rw [bN_f (fun q => c11 q.2)], hP, hS⟩
          · refine lv_iconst (v := nI 1) hx hb dX2_count_34 (by decide) ?_
            refine lv_goto (tgt := 39) hx hb dX2_count_35 (by decide) ?_
            exact K5 _ _ _ ⟨by rw [bN_t ⟨c8, c11⟩], hP, hS⟩
      · obtain ⟨hv7, hP, hS⟩ := hv7
        subst hv7
        refine bw_add hx hb dX2_count_39 ?_
        refine lv_istore_n (lv' := [(3, .int (nI ((cnt (fun t => ow has up t h v ∧ kb has up ch t h) j) + (bN (ow has up j h v ∧ kb has up ch j h))))), (0, .ref (ad 0)), (1, .int (nI h)), (2, .int (nI v)), (4, .int (nI j))]) hx hb dX2_count_40 rfl hl (by decide) rfl (fun ls hl => ?_)
        refine lv_iinc (v := nI (j + 1)) (lv' := [(4, .int (nI (j + 1))), (3, .int (nI ((cnt (fun t => ow has up t h v ∧ kb has up ch t h) j) + (bN (ow has up j h v ∧ kb has up ch j h))))), (0, .ref (ad 0)), (1, .int (nI h)), (2, .int (nI v))]) hx hb dX2_count_41 hl (k := 4) rfl (inc1 _) (by decide) rfl (fun ls hl => ?_)
        refine lv_goto (tgt := 5) hx hb dX2_count_44 (by decide) ?_
        exact hk1 () _ _ _ ⟨lv_sub hl [2, 3, 4, 1, 0] rfl, hP, hS, trivial⟩
  · intro x H locs ls hI
    obtain ⟨hl, hP, hS, hI⟩ := hI
    refine lv_iload hx hb dX2_count_5 (lv_at hl 4 rfl) ?_
    refine lv_bipush (v := nI 40) hx hb dX2_count_7 (by decide) ?_
    refine bw_ge (by omega) (by omega) hx hb (tgt := 47) dX2_count_9 (by decide) (fun c12 => ?_) (fun c12 => ?_)
    · refine lv_iload_n hx hb dX2_count_47 rfl (lv_at hl 3 rfl) ?_
      exact ro_iret hx hb hr hlocks hS dX2_count_48 (rfl)
    · exact absurd c12 (by omega)

set_option maxHeartbeats 4000000 in
set_option maxRecDepth 100000 in
theorem met_X2_all (l : Launch) (D : va_G) (dA dZ : ClassId) (ad : Nat → Nat) (sz : Nat) {cod : Int32} {has up ch tol cou : Nat → Int32} {rows : Int32} (hM : mOK (has, up, ch, tol, rows)) (h : Nat) (hp : Int32) (hhp : ∀ g, g < 8 → (nI g = hp ↔ g = h)) : RO l yX2_all cX2_all 4 (some .int) rm_X2_all [.ref (ad 0), .int hp] D dA dZ (mdW dA dZ ad cod has up ch tol cou rows) sz (fun r => r = nI (aN has up ch h)) := by
  refine Met.ofW (cc := cX2_all) (maxL := 4) (ret := (some .int)) (by decide) rfl ?_
  intro p e s m args below meth c s₁ B hml hv
  obtain ⟨rfl, hsz, hP, hK, hDT⟩ := hv
  have hx := B.exec
  have hb := B.bytes
  have hr := B.returns
  have hts : ∀ w ∈ lw_all, w.before _ s = true := fun w h => atoms_spec (ws := ws_ yX2_all cX2_all 4 (some .int)) B.pre w (List.mem_cons_of_mem _ h)
  have hown : s.vm.findClass RX2 = some m.cls := findClass_of_methodNamed B.named
  have hlocks := B.notSynchronized
  subst hsz
  have hS : va_S (fun q => s.heap.size ≤ q) s.heap s.heap [] := va_S.rf
  have hA : ∀ q : Nat, s.heap.size ≤ q → (fun q => s.heap.size ≤ q) q := fun q h => h
  have hl := lv_entry ([.ref (ad 0), .int hp]) (n := 4) (Nat.le_of_ble_eq_true rfl)
  rw [lg_entry_eq]
  generalize (lg_sl ([.ref (ad 0), .int hp]) ++ List.replicate (4 - (lg_sl ([.ref (ad 0), .int hp])).length) Slot.unset).toArray = ls at hl ⊢
  have hl : lv_has ls 4 [(0, .ref (ad 0)), (1, .int hp)] := hl
  refine lv_iconst (v := nI 0) hx hb dX2_all_0 (by decide) ?_
  refine lv_istore_n (lv' := [(2, .int (nI 0)), (0, .ref (ad 0)), (1, .int hp)]) hx hb dX2_all_1 rfl hl (by decide) rfl (fun ls hl => ?_)
  refine lv_iconst (v := nI 0) hx hb dX2_all_2 (by decide) ?_
  refine lv_istore_n (lv' := [(3, .int (nI 0)), (2, .int (nI 0)), (0, .ref (ad 0)), (1, .int hp)]) hx hb dX2_all_3 rfl hl (by decide) rfl (fun ls hl => ?_)
  refine w_loop (σ := Unit) 40 (fun j x H locs ls => lv_has ls 4 [(0, .ref (ad 0)), (1, .int hp), (2, .int (nI (cnt (fun t => kb has up ch t h) j))), (3, .int (nI j))] ∧ va_P D vwCl (mdW dA dZ ad cod has up ch tol cou rows) H ∧ va_S (fun q => s.heap.size ≤ q) s.heap H locs ∧ (True)) ?_ ?_ 0 () _ _ _ (by omega) ⟨lv_sub hl [2, 3, 1, 0] rfl, hP, hS, trivial⟩
  · intro j x H locs ls hj hI hk1
    obtain ⟨hl, hP, hS, hI⟩ := hI
    refine lv_iload_n hx hb dX2_all_4 rfl (lv_at hl 3 rfl) ?_
    refine lv_bipush (v := nI 40) hx hb dX2_all_5 (by decide) ?_
    refine bw_ge (by omega) (by omega) hx hb (tgt := 33) dX2_all_7 (by decide) (fun c2 => ?_) (fun c2 => ?_)
    · exact absurd c2 (by omega)
    · refine lv_iload_n hx hb dX2_all_10 rfl (lv_at hl 2 rfl) ?_
      refine lv_aload_n hx hb dX2_all_11 rfl (lv_at hl 0 rfl) ?_
      refine lv_iload_n hx hb dX2_all_12 rfl (lv_at hl 3 rfl) ?_
      refine lv_iload_n hx hb dX2_all_13 rfl (lv_at hl 1 rfl) ?_
      refine bw_ro (rest := [.int (nI (cnt (fun t => kb has up ch t h) j))]) ⟨hx, hb, hml, hown, hts⟩ (met_X2_isKeptBut l D dA dZ ad _ hM j h hj hp hhp) (cw_X2_58 hts ⟨Nat.le_of_ble_eq_true rfl, Nat.le_of_ble_eq_true rfl⟩) (va_recv hK hP (ci := 1) (q0 := 0) rfl rfl) hK hP hDT hP hS hA rfl rfl hl.1 (Nat.le_of_ble_eq_true rfl) dX2_all_14 ⟨Nat.zero_le _, Nat.zero_le _⟩ (fun r3 H locs hv4 hP hS => ?_)
      subst hv4
      refine w_cutH 25 ls [.int (nI (cnt (fun t => kb has up ch t h) j))] (fun q9 H locs => (q9 = nI (bN (kb has up ch j h))) ∧ va_P D vwCl (mdW dA dZ ad cod has up ch tol cou rows) H ∧ va_S (fun q => s.heap.size ≤ q) s.heap H locs) (fun K5 => ?_) (fun v6 H locs hv7 => ?_)
      · refine bw_ifeq hx hb (tgt := 24) dX2_all_17 (by decide) (fun c8 => ?_) (fun c8 => ?_)
        · refine lv_iconst (v := nI 0) hx hb dX2_all_24 (by decide) ?_
          exact K5 _ _ _ ⟨by rw [bN_f c8], hP, hS⟩
        · refine lv_iconst (v := nI 1) hx hb dX2_all_20 (by decide) ?_
          refine lv_goto (tgt := 25) hx hb dX2_all_21 (by decide) ?_
          exact K5 _ _ _ ⟨by rw [bN_t c8], hP, hS⟩
      · obtain ⟨hv7, hP, hS⟩ := hv7
        subst hv7
        refine bw_add hx hb dX2_all_25 ?_
        refine lv_istore_n (lv' := [(2, .int (nI ((cnt (fun t => kb has up ch t h) j) + (bN (kb has up ch j h))))), (0, .ref (ad 0)), (1, .int hp), (3, .int (nI j))]) hx hb dX2_all_26 rfl hl (by decide) rfl (fun ls hl => ?_)
        refine lv_iinc (v := nI (j + 1)) (lv' := [(3, .int (nI (j + 1))), (2, .int (nI ((cnt (fun t => kb has up ch t h) j) + (bN (kb has up ch j h))))), (0, .ref (ad 0)), (1, .int hp)]) hx hb dX2_all_27 hl (k := 3) rfl (inc1 _) (by decide) rfl (fun ls hl => ?_)
        refine lv_goto (tgt := 4) hx hb dX2_all_30 (by decide) ?_
        exact hk1 () _ _ _ ⟨lv_sub hl [2, 3, 1, 0] rfl, hP, hS, trivial⟩
  · intro x H locs ls hI
    obtain ⟨hl, hP, hS, hI⟩ := hI
    refine lv_iload_n hx hb dX2_all_4 rfl (lv_at hl 3 rfl) ?_
    refine lv_bipush (v := nI 40) hx hb dX2_all_5 (by decide) ?_
    refine bw_ge (by omega) (by omega) hx hb (tgt := 33) dX2_all_7 (by decide) (fun c9 => ?_) (fun c9 => ?_)
    · refine lv_iload_n hx hb dX2_all_33 rfl (lv_at hl 2 rfl) ?_
      exact ro_iret hx hb hr hlocks hS dX2_all_34 (rfl)
    · exact absurd c9 (by omega)

set_option maxHeartbeats 4000000 in
set_option maxRecDepth 100000 in
theorem met_X2_thrown (l : Launch) (D : va_G) (dA dZ : ClassId) (ad : Nat → Nat) (sz : Nat) {cod : Int32} {has up ch tol cou : Nat → Int32} {rows : Int32}  : RO l yX2_thrown cX2_thrown 1 (some .int) rm_X2_thrown [.ref (ad 0)] D dA dZ (mdW dA dZ ad cod has up ch tol cou rows) sz (fun r => r = cod) := by
  refine Met.ofW (cc := cX2_thrown) (maxL := 1) (ret := (some .int)) (by decide) rfl ?_
  intro p e s m args below meth c s₁ B hml hv
  obtain ⟨rfl, hsz, hP, hK, hDT⟩ := hv
  have hx := B.exec
  have hb := B.bytes
  have hr := B.returns
  have hts : ∀ w ∈ lw_all, w.before _ s = true := fun w h => atoms_spec (ws := ws_ yX2_thrown cX2_thrown 1 (some .int)) B.pre w (List.mem_cons_of_mem _ h)
  have hown : s.vm.findClass RX2 = some m.cls := findClass_of_methodNamed B.named
  have hlocks := B.notSynchronized
  subst hsz
  have hS : va_S (fun q => s.heap.size ≤ q) s.heap s.heap [] := va_S.rf
  have hA : ∀ q : Nat, s.heap.size ≤ q → (fun q => s.heap.size ≤ q) q := fun q h => h
  have hl := lv_entry ([.ref (ad 0)]) (n := 1) (Nat.le_of_ble_eq_true rfl)
  rw [lg_entry_eq]
  generalize (lg_sl ([.ref (ad 0)]) ++ List.replicate (1 - (lg_sl ([.ref (ad 0)])).length) Slot.unset).toArray = ls at hl ⊢
  have hl : lv_has ls 1 [(0, .ref (ad 0))] := hl
  refine lv_aload_n hx hb dX2_thrown_0 rfl (lv_at hl 0 rfl) ?_
  refine md_code hx hb hts hown hK hP dX2_thrown_1 ?_
  exact ro_iret hx hb hr hlocks hS dX2_thrown_4 (rfl)
end
section
set_option maxRecDepth 100000
set_option maxHeartbeats 4000000 in
set_option maxRecDepth 100000 in
theorem met_X2_rows (l : Launch) (D : va_G) (dA dZ : ClassId) (ad : Nat → Nat) (sz : Nat) {cod : Int32} {has up ch tol cou : Nat → Int32} {rows : Int32} (hM : mOK (has, up, ch, tol, rows))  : RW l yX2_rows cX2_rows 1 (some .int) rm_X2_rows [.ref (ad 0)] D dA dZ (mdW dA dZ ad cod has up ch tol cou rows) sz (S := NS) (fun r u => r = rows ∧ u.1 = nI 0 ∧ u.2.1 = (has, up, ch, tol, rows)) (fun u => mdU dA dZ ad u) := by
  refine Met.ofW (cc := cX2_rows) (maxL := 1) (ret := (some .int)) (by decide) rfl ?_
  intro p e s m args below meth c s₁ B hml hv
  obtain ⟨rfl, hsz, hP, hK, hDT⟩ := hv
  have hx := B.exec
  have hb := B.bytes
  have hr := B.returns
  have hts : ∀ w ∈ lw_all, w.before _ s = true := fun w h => atoms_spec (ws := ws_ yX2_rows cX2_rows 1 (some .int)) B.pre w (List.mem_cons_of_mem _ h)
  have hown : s.vm.findClass RX2 = some m.cls := findClass_of_methodNamed B.named
  have hlocks := B.notSynchronized
  subst hsz
  have hD := hDT.self (sz := s.heap.size)
  generalize hAe : va_A (mdW dA dZ ad cod has up ch tol cou rows) s.heap.size = A at hD ⊢
  have hA : ∀ q : Nat, s.heap.size ≤ q → A q := fun q h => by rw [← hAe]; exact Or.inr h
  have hS : va_S A s.heap s.heap [] := va_S.rf
  have hl := lv_entry ([.ref (ad 0)]) (n := 1) (Nat.le_of_ble_eq_true rfl)
  rw [lg_entry_eq]
  generalize (lg_sl ([.ref (ad 0)]) ++ List.replicate (1 - (lg_sl ([.ref (ad 0)])).length) Slot.unset).toArray = ls at hl ⊢
  have hl : lv_has ls 1 [(0, .ref (ad 0))] := hl
  refine lv_aload_n hx hb dX2_rows_0 rfl (lv_at hl 0 rfl) ?_
  refine lv_iconst (v := nI 0) hx hb dX2_rows_1 (by decide) ?_
  refine md_put_code hx hb hts hown hK hP hD hS dX2_rows_2 (fun H locs hP hD hS => ?_)
  refine lv_aload_n hx hb dX2_rows_5 rfl (lv_at hl 0 rfl) ?_
  refine md_rows hx hb hts hown hK hP dX2_rows_6 ?_
  exact rw_iret ((nI 0, (has, up, ch, tol, rows), cou)) hx hb hr hlocks hP hD hS dX2_rows_9 (⟨rfl, rfl, rfl⟩)

set_option maxHeartbeats 4000000 in
set_option maxRecDepth 100000 in
theorem met_X2_row (l : Launch) (D : va_G) (dA dZ : ClassId) (ad : Nat → Nat) (sz : Nat) {cod : Int32} {has up ch tol cou : Nat → Int32} {rows : Int32} (hM : mOK (has, up, ch, tol, rows)) (a b d : Int32) : RW l yX2_row cX2_row 4 (some .int) rm_X2_row [.ref (ad 0), .int a, .int b, .int d] D dA dZ (mdW dA dZ ad cod has up ch tol cou rows) sz (S := NS) (fun r u => r = (rowS has up ch tol rows a b d).1 ∧ u.1 = nI 0 ∧ u.2.1 = (rowS has up ch tol rows a b d).2) (fun u => mdU dA dZ ad u) := by
  refine Met.ofW (cc := cX2_row) (maxL := 4) (ret := (some .int)) (by decide) rfl ?_
  intro p e s m args below meth c s₁ B hml hv
  obtain ⟨rfl, hsz, hP, hK, hDT⟩ := hv
  have hx := B.exec
  have hb := B.bytes
  have hr := B.returns
  have hts : ∀ w ∈ lw_all, w.before _ s = true := fun w h => atoms_spec (ws := ws_ yX2_row cX2_row 4 (some .int)) B.pre w (List.mem_cons_of_mem _ h)
  have hown : s.vm.findClass RX2 = some m.cls := findClass_of_methodNamed B.named
  have hlocks := B.notSynchronized
  subst hsz
  have hD := hDT.self (sz := s.heap.size)
  generalize hAe : va_A (mdW dA dZ ad cod has up ch tol cou rows) s.heap.size = A at hD ⊢
  have hA : ∀ q : Nat, s.heap.size ≤ q → A q := fun q h => by rw [← hAe]; exact Or.inr h
  have hS : va_S A s.heap s.heap [] := va_S.rf
  have hl := lv_entry ([.ref (ad 0), .int a, .int b, .int d]) (n := 4) (Nat.le_of_ble_eq_true rfl)
  rw [lg_entry_eq]
  generalize (lg_sl ([.ref (ad 0), .int a, .int b, .int d]) ++ List.replicate (4 - (lg_sl ([.ref (ad 0), .int a, .int b, .int d])).length) Slot.unset).toArray = ls at hl ⊢
  have hl : lv_has ls 4 [(0, .ref (ad 0)), (1, .int a), (2, .int b), (3, .int d)] := hl
  refine lv_aload_n hx hb dX2_row_0 rfl (lv_at hl 0 rfl) ?_
  refine lv_iconst (v := nI 0) hx hb dX2_row_1 (by decide) ?_
  refine md_put_code hx hb hts hown hK hP hD hS dX2_row_2 (fun H locs hP hD hS => ?_)
  refine lv_iload_n hx hb dX2_row_5 rfl (lv_at hl 1 rfl) ?_
  refine bw_rs (rest := []) ⟨hx, hb, hml, hown, hts⟩ (met_X2_isThing l _ a) (cw_X2_30 hts ⟨Nat.le_of_ble_eq_true rfl, Nat.le_of_ble_eq_true rfl⟩) hP hS hA rfl rfl hl.1 (Nat.le_of_ble_eq_true rfl) dX2_row_6 ⟨Nat.zero_le _, Nat.zero_le _⟩ (fun r1 H locs hv2 hP hS => ?_)
  subst hv2
  refine bw_ifeq hx hb (tgt := 26) dX2_row_9 (by decide) (fun c3 => ?_) (fun c3 => ?_)
  · refine lv_iconst (v := (-1)) hx hb dX2_row_26 (by decide) ?_
    exact rw_iret ((nI 0, (has, up, ch, tol, rows), cou)) hx hb hr hlocks hP hD hS dX2_row_27 (by unfold rowS; rw [cif_f (fun q => c3 q.1)]; exact ⟨rfl, rfl, rfl⟩)
  · refine lv_iload_n hx hb dX2_row_12 rfl (lv_at hl 2 rfl) ?_
    refine bw_rs (rest := []) ⟨hx, hb, hml, hown, hts⟩ (met_X2_isHead l _ b) (cw_X2_34 hts ⟨Nat.le_of_ble_eq_true rfl, Nat.le_of_ble_eq_true rfl⟩) hP hS hA rfl rfl hl.1 (Nat.le_of_ble_eq_true rfl) dX2_row_13 ⟨Nat.zero_le _, Nat.zero_le _⟩ (fun r4 H locs hv5 hP hS => ?_)
    subst hv5
    refine bw_ifeq hx hb (tgt := 26) dX2_row_16 (by decide) (fun c6 => ?_) (fun c6 => ?_)
    · refine lv_iconst (v := (-1)) hx hb dX2_row_26 (by decide) ?_
      exact rw_iret ((nI 0, (has, up, ch, tol, rows), cou)) hx hb hr hlocks hP hD hS dX2_row_27 (by unfold rowS; rw [cif_f (fun q => c6 q.2.1)]; exact ⟨rfl, rfl, rfl⟩)
    · refine lv_iload_n hx hb dX2_row_19 rfl (lv_at hl 3 rfl) ?_
      refine bw_rs (rest := []) ⟨hx, hb, hml, hown, hts⟩ (met_X2_isValue l _ d) (cw_X2_37 hts ⟨Nat.le_of_ble_eq_true rfl, Nat.le_of_ble_eq_true rfl⟩) hP hS hA rfl rfl hl.1 (Nat.le_of_ble_eq_true rfl) dX2_row_20 ⟨Nat.zero_le _, Nat.zero_le _⟩ (fun r7 H locs hv8 hP hS => ?_)
      subst hv8
      refine bw_ifne hx hb (tgt := 28) dX2_row_23 (by decide) (fun c9 => ?_) (fun c9 => ?_)
      · obtain ⟨t, ht, rfl⟩ := c3
        obtain ⟨h, hh, rfl⟩ := c6
        obtain ⟨v, hv, rfl⟩ := c9
        refine lv_aload_n hx hb dX2_row_28 rfl (lv_at hl 0 rfl) ?_
        refine md_has hx hb hts hown hK hP dX2_row_29 ?_
        refine lv_iload_n hx hb dX2_row_32 rfl (lv_at hl 1 rfl) ?_
        refine lv_iload_n hx hb dX2_row_33 rfl (lv_at hl 2 rfl) ?_
        refine lv_iload_n hx hb dX2_row_34 rfl (lv_at hl 3 rfl) ?_
        refine bw_rs (rest := [.ref (ad 1)]) ⟨hx, hb, hml, hown, hts⟩ (met_X2_at l _ t h v) (cw_X2_40 hts ⟨Nat.le_of_ble_eq_true rfl, Nat.le_of_ble_eq_true rfl⟩) hP hS hA rfl rfl hl.1 (Nat.le_of_ble_eq_true rfl) dX2_row_35 ⟨Nat.zero_le _, Nat.zero_le _⟩ (fun r10 H locs hv11 hP hS => ?_)
        subst hv11
        refine bw_zald hx hb hK hP 1 rfl (((t * 8 + h) * 32 + v)) (by omega) (by decide) dX2_row_38 ?_
        refine bw_top (y := nI (bN (hsP has t h v))) (hs_val hM.1 ht hh hv) ?_
        refine bw_ifeq hx hb (tgt := 44) dX2_row_39 (by decide) (fun c12 => ?_) (fun c12 => ?_)
        · refine lv_aload_n hx hb dX2_row_44 rfl (lv_at hl 0 rfl) ?_
          refine md_rows hx hb hts hown hK hP dX2_row_45 ?_
          refine lv_sipush (v := nI 300) hx hb dX2_row_48 (by decide) ?_
          refine lv_icmp_ne hx hb (tgt := 57) dX2_row_51 (by decide) (fun c13 => ?_) (fun c13 => ?_)
          · refine lv_aload_n hx hb dX2_row_57 rfl (lv_at hl 0 rfl) ?_
            refine md_has hx hb hts hown hK hP dX2_row_58 ?_
            refine lv_iload_n hx hb dX2_row_61 rfl (lv_at hl 1 rfl) ?_
            refine lv_iload_n hx hb dX2_row_62 rfl (lv_at hl 2 rfl) ?_
            refine lv_iload_n hx hb dX2_row_63 rfl (lv_at hl 3 rfl) ?_
            refine bw_rs (rest := [.ref (ad 1)]) ⟨hx, hb, hml, hown, hts⟩ (met_X2_at l _ t h v) (cw_X2_40 hts ⟨Nat.le_of_ble_eq_true rfl, Nat.le_of_ble_eq_true rfl⟩) hP hS hA rfl rfl hl.1 (Nat.le_of_ble_eq_true rfl) dX2_row_64 ⟨Nat.zero_le _, Nat.zero_le _⟩ (fun r14 H locs hv15 hP hS => ?_)
            subst hv15
            refine lv_iconst (v := nI 1) hx hb dX2_row_67 (by decide) ?_
            refine bw_zast hx hb hK hP hD hS 1 rfl (((t * 8 + h) * 32 + v)) (by omega) (by decide) (rfl) dX2_row_68 (fun H locs hP hD hS => ?_)
            have hP : va_P D vwCl (mdW dA dZ ad (nI 0) (upd has (((t * 8 + h) * 32 + v)) (nI 1)) up ch tol cou rows) H := hP
            have hD : va_D A (mdW dA dZ ad (nI 0) (upd has (((t * 8 + h) * 32 + v)) (nI 1)) up ch tol cou rows) := hD
            refine lv_aload_n hx hb dX2_row_69 rfl (lv_at hl 0 rfl) ?_
            refine lv_dup hx hb dX2_row_70 rfl ?_
            refine md_rows hx hb hts hown hK hP dX2_row_71 ?_
            refine lv_iconst (v := nI 1) hx hb dX2_row_74 (by decide) ?_
            refine lv_iadd hx hb dX2_row_75 ?_
            refine md_put_rows hx hb hts hown hK hP hD hS dX2_row_76 (fun H locs hP hD hS => ?_)
            refine lv_iconst (v := nI 1) hx hb dX2_row_79 (by decide) ?_
            exact rw_iret ((nI 0, (upd has (((t * 8 + h) * 32 + v)) (nI 1), up, ch, tol, rows + (nI 1)), cou)) hx hb hr hlocks hP hD hS dX2_row_80 (by rw [rowS_g ht hh hv, rowG, cif_f c12, cif_f c13]; exact ⟨rfl, rfl, rfl⟩)
          · refine lv_bipush (v := (-2)) hx hb dX2_row_54 (by decide) ?_
            exact rw_iret ((nI 0, (has, up, ch, tol, rows), cou)) hx hb hr hlocks hP hD hS dX2_row_56 (by rw [rowS_g ht hh hv, rowG, cif_f c12, cif_t c13]; exact ⟨rfl, rfl, rfl⟩)
        · refine lv_iconst (v := nI 0) hx hb dX2_row_42 (by decide) ?_
          exact rw_iret ((nI 0, (has, up, ch, tol, rows), cou)) hx hb hr hlocks hP hD hS dX2_row_43 (by rw [rowS_g ht hh hv, rowG, cif_t c12]; exact ⟨rfl, rfl, rfl⟩)
      · refine lv_iconst (v := (-1)) hx hb dX2_row_26 (by decide) ?_
        exact rw_iret ((nI 0, (has, up, ch, tol, rows), cou)) hx hb hr hlocks hP hD hS dX2_row_27 (by unfold rowS; rw [cif_f (fun q => c9 q.2.2)]; exact ⟨rfl, rfl, rfl⟩)

set_option maxHeartbeats 4000000 in
set_option maxRecDepth 100000 in
theorem met_X2_drop (l : Launch) (D : va_G) (dA dZ : ClassId) (ad : Nat → Nat) (sz : Nat) {cod : Int32} {has up ch tol cou : Nat → Int32} {rows : Int32} (hM : mOK (has, up, ch, tol, rows)) (a b d : Int32) : RW l yX2_drop cX2_drop 4 (some .int) rm_X2_drop [.ref (ad 0), .int a, .int b, .int d] D dA dZ (mdW dA dZ ad cod has up ch tol cou rows) sz (S := NS) (fun r u => r = (dropS has up ch tol rows a b d).1 ∧ u.1 = nI 0 ∧ u.2.1 = (dropS has up ch tol rows a b d).2) (fun u => mdU dA dZ ad u) := by
  refine Met.ofW (cc := cX2_drop) (maxL := 4) (ret := (some .int)) (by decide) rfl ?_
  intro p e s m args below meth c s₁ B hml hv
  obtain ⟨rfl, hsz, hP, hK, hDT⟩ := hv
  have hx := B.exec
  have hb := B.bytes
  have hr := B.returns
  have hts : ∀ w ∈ lw_all, w.before _ s = true := fun w h => atoms_spec (ws := ws_ yX2_drop cX2_drop 4 (some .int)) B.pre w (List.mem_cons_of_mem _ h)
  have hown : s.vm.findClass RX2 = some m.cls := findClass_of_methodNamed B.named
  have hlocks := B.notSynchronized
  subst hsz
  have hD := hDT.self (sz := s.heap.size)
  generalize hAe : va_A (mdW dA dZ ad cod has up ch tol cou rows) s.heap.size = A at hD ⊢
  have hA : ∀ q : Nat, s.heap.size ≤ q → A q := fun q h => by rw [← hAe]; exact Or.inr h
  have hS : va_S A s.heap s.heap [] := va_S.rf
  have hl := lv_entry ([.ref (ad 0), .int a, .int b, .int d]) (n := 4) (Nat.le_of_ble_eq_true rfl)
  rw [lg_entry_eq]
  generalize (lg_sl ([.ref (ad 0), .int a, .int b, .int d]) ++ List.replicate (4 - (lg_sl ([.ref (ad 0), .int a, .int b, .int d])).length) Slot.unset).toArray = ls at hl ⊢
  have hl : lv_has ls 4 [(0, .ref (ad 0)), (1, .int a), (2, .int b), (3, .int d)] := hl
  refine lv_aload_n hx hb dX2_drop_0 rfl (lv_at hl 0 rfl) ?_
  refine lv_iconst (v := nI 0) hx hb dX2_drop_1 (by decide) ?_
  refine md_put_code hx hb hts hown hK hP hD hS dX2_drop_2 (fun H locs hP hD hS => ?_)
  refine lv_iload_n hx hb dX2_drop_5 rfl (lv_at hl 1 rfl) ?_
  refine bw_rs (rest := []) ⟨hx, hb, hml, hown, hts⟩ (met_X2_isThing l _ a) (cw_X2_30 hts ⟨Nat.le_of_ble_eq_true rfl, Nat.le_of_ble_eq_true rfl⟩) hP hS hA rfl rfl hl.1 (Nat.le_of_ble_eq_true rfl) dX2_drop_6 ⟨Nat.zero_le _, Nat.zero_le _⟩ (fun r1 H locs hv2 hP hS => ?_)
  subst hv2
  refine bw_ifeq hx hb (tgt := 26) dX2_drop_9 (by decide) (fun c3 => ?_) (fun c3 => ?_)
  · refine lv_iconst (v := (-1)) hx hb dX2_drop_26 (by decide) ?_
    exact rw_iret ((nI 0, (has, up, ch, tol, rows), cou)) hx hb hr hlocks hP hD hS dX2_drop_27 (by unfold dropS; rw [cif_f (fun q => c3 q.1)]; exact ⟨rfl, rfl, rfl⟩)
  · refine lv_iload_n hx hb dX2_drop_12 rfl (lv_at hl 2 rfl) ?_
    refine bw_rs (rest := []) ⟨hx, hb, hml, hown, hts⟩ (met_X2_isHead l _ b) (cw_X2_34 hts ⟨Nat.le_of_ble_eq_true rfl, Nat.le_of_ble_eq_true rfl⟩) hP hS hA rfl rfl hl.1 (Nat.le_of_ble_eq_true rfl) dX2_drop_13 ⟨Nat.zero_le _, Nat.zero_le _⟩ (fun r4 H locs hv5 hP hS => ?_)
    subst hv5
    refine bw_ifeq hx hb (tgt := 26) dX2_drop_16 (by decide) (fun c6 => ?_) (fun c6 => ?_)
    · refine lv_iconst (v := (-1)) hx hb dX2_drop_26 (by decide) ?_
      exact rw_iret ((nI 0, (has, up, ch, tol, rows), cou)) hx hb hr hlocks hP hD hS dX2_drop_27 (by unfold dropS; rw [cif_f (fun q => c6 q.2.1)]; exact ⟨rfl, rfl, rfl⟩)
    · refine lv_iload_n hx hb dX2_drop_19 rfl (lv_at hl 3 rfl) ?_
      refine bw_rs (rest := []) ⟨hx, hb, hml, hown, hts⟩ (met_X2_isValue l _ d) (cw_X2_37 hts ⟨Nat.le_of_ble_eq_true rfl, Nat.le_of_ble_eq_true rfl⟩) hP hS hA rfl rfl hl.1 (Nat.le_of_ble_eq_true rfl) dX2_drop_20 ⟨Nat.zero_le _, Nat.zero_le _⟩ (fun r7 H locs hv8 hP hS => ?_)
      subst hv8
      refine bw_ifne hx hb (tgt := 28) dX2_drop_23 (by decide) (fun c9 => ?_) (fun c9 => ?_)
      · obtain ⟨t, ht, rfl⟩ := c3
        obtain ⟨h, hh, rfl⟩ := c6
        obtain ⟨v, hv, rfl⟩ := c9
        refine lv_aload_n hx hb dX2_drop_28 rfl (lv_at hl 0 rfl) ?_
        refine md_has hx hb hts hown hK hP dX2_drop_29 ?_
        refine lv_iload_n hx hb dX2_drop_32 rfl (lv_at hl 1 rfl) ?_
        refine lv_iload_n hx hb dX2_drop_33 rfl (lv_at hl 2 rfl) ?_
        refine lv_iload_n hx hb dX2_drop_34 rfl (lv_at hl 3 rfl) ?_
        refine bw_rs (rest := [.ref (ad 1)]) ⟨hx, hb, hml, hown, hts⟩ (met_X2_at l _ t h v) (cw_X2_40 hts ⟨Nat.le_of_ble_eq_true rfl, Nat.le_of_ble_eq_true rfl⟩) hP hS hA rfl rfl hl.1 (Nat.le_of_ble_eq_true rfl) dX2_drop_35 ⟨Nat.zero_le _, Nat.zero_le _⟩ (fun r10 H locs hv11 hP hS => ?_)
        subst hv11
        refine bw_zald hx hb hK hP 1 rfl (((t * 8 + h) * 32 + v)) (by omega) (by decide) dX2_drop_38 ?_
        refine bw_top (y := nI (bN (hsP has t h v))) (hs_val hM.1 ht hh hv) ?_
        refine bw_ifne hx hb (tgt := 44) dX2_drop_39 (by decide) (fun c12 => ?_) (fun c12 => ?_)
        · refine lv_aload_n hx hb dX2_drop_44 rfl (lv_at hl 0 rfl) ?_
          refine md_has hx hb hts hown hK hP dX2_drop_45 ?_
          refine lv_iload_n hx hb dX2_drop_48 rfl (lv_at hl 1 rfl) ?_
          refine lv_iload_n hx hb dX2_drop_49 rfl (lv_at hl 2 rfl) ?_
          refine lv_iload_n hx hb dX2_drop_50 rfl (lv_at hl 3 rfl) ?_
          refine bw_rs (rest := [.ref (ad 1)]) ⟨hx, hb, hml, hown, hts⟩ (met_X2_at l _ t h v) (cw_X2_40 hts ⟨Nat.le_of_ble_eq_true rfl, Nat.le_of_ble_eq_true rfl⟩) hP hS hA rfl rfl hl.1 (Nat.le_of_ble_eq_true rfl) dX2_drop_51 ⟨Nat.zero_le _, Nat.zero_le _⟩ (fun r13 H locs hv14 hP hS => ?_)
          subst hv14
          refine lv_iconst (v := nI 0) hx hb dX2_drop_54 (by decide) ?_
          refine bw_zast hx hb hK hP hD hS 1 rfl (((t * 8 + h) * 32 + v)) (by omega) (by decide) (rfl) dX2_drop_55 (fun H locs hP hD hS => ?_)
          have hP : va_P D vwCl (mdW dA dZ ad (nI 0) (upd has (((t * 8 + h) * 32 + v)) (nI 0)) up ch tol cou rows) H := hP
          have hD : va_D A (mdW dA dZ ad (nI 0) (upd has (((t * 8 + h) * 32 + v)) (nI 0)) up ch tol cou rows) := hD
          refine lv_aload_n hx hb dX2_drop_56 rfl (lv_at hl 0 rfl) ?_
          refine lv_dup hx hb dX2_drop_57 rfl ?_
          refine md_rows hx hb hts hown hK hP dX2_drop_58 ?_
          refine lv_iconst (v := nI 1) hx hb dX2_drop_61 (by decide) ?_
          refine lv_isub hx hb dX2_drop_62 ?_
          refine md_put_rows hx hb hts hown hK hP hD hS dX2_drop_63 (fun H locs hP hD hS => ?_)
          refine lv_iconst (v := nI 1) hx hb dX2_drop_66 (by decide) ?_
          exact rw_iret ((nI 0, (upd has (((t * 8 + h) * 32 + v)) (nI 0), up, ch, tol, rows - (nI 1)), cou)) hx hb hr hlocks hP hD hS dX2_drop_67 (by rw [dropS_g ht hh hv, dropG, cif_t c12]; exact ⟨rfl, rfl, rfl⟩)
        · refine lv_iconst (v := nI 0) hx hb dX2_drop_42 (by decide) ?_
          exact rw_iret ((nI 0, (has, up, ch, tol, rows), cou)) hx hb hr hlocks hP hD hS dX2_drop_43 (by rw [dropS_g ht hh hv, dropG, cif_f c12]; exact ⟨rfl, rfl, rfl⟩)
      · refine lv_iconst (v := (-1)) hx hb dX2_drop_26 (by decide) ?_
        exact rw_iret ((nI 0, (has, up, ch, tol, rows), cou)) hx hb hr hlocks hP hD hS dX2_drop_27 (by unfold dropS; rw [cif_f (fun q => c9 q.2.2)]; exact ⟨rfl, rfl, rfl⟩)

set_option maxHeartbeats 4000000 in
set_option maxRecDepth 100000 in
theorem met_X2_above (l : Launch) (D : va_G) (dA dZ : ClassId) (ad : Nat → Nat) (sz : Nat) {cod : Int32} {has up ch tol cou : Nat → Int32} {rows : Int32} (hM : mOK (has, up, ch, tol, rows)) (a b : Int32) : RW l yX2_above cX2_above 3 (some .int) rm_X2_above [.ref (ad 0), .int a, .int b] D dA dZ (mdW dA dZ ad cod has up ch tol cou rows) sz (S := NS) (fun r u => r = (abvS has up ch tol rows a b).1 ∧ u.1 = nI 0 ∧ u.2.1 = (abvS has up ch tol rows a b).2) (fun u => mdU dA dZ ad u) := by
  refine Met.ofW (cc := cX2_above) (maxL := 3) (ret := (some .int)) (by decide) rfl ?_
  intro p e s m args below meth c s₁ B hml hv
  obtain ⟨rfl, hsz, hP, hK, hDT⟩ := hv
  have hx := B.exec
  have hb := B.bytes
  have hr := B.returns
  have hts : ∀ w ∈ lw_all, w.before _ s = true := fun w h => atoms_spec (ws := ws_ yX2_above cX2_above 3 (some .int)) B.pre w (List.mem_cons_of_mem _ h)
  have hown : s.vm.findClass RX2 = some m.cls := findClass_of_methodNamed B.named
  have hlocks := B.notSynchronized
  subst hsz
  have hD := hDT.self (sz := s.heap.size)
  generalize hAe : va_A (mdW dA dZ ad cod has up ch tol cou rows) s.heap.size = A at hD ⊢
  have hA : ∀ q : Nat, s.heap.size ≤ q → A q := fun q h => by rw [← hAe]; exact Or.inr h
  have hS : va_S A s.heap s.heap [] := va_S.rf
  have hl := lv_entry ([.ref (ad 0), .int a, .int b]) (n := 3) (Nat.le_of_ble_eq_true rfl)
  rw [lg_entry_eq]
  generalize (lg_sl ([.ref (ad 0), .int a, .int b]) ++ List.replicate (3 - (lg_sl ([.ref (ad 0), .int a, .int b])).length) Slot.unset).toArray = ls at hl ⊢
  have hl : lv_has ls 3 [(0, .ref (ad 0)), (1, .int a), (2, .int b)] := hl
  refine lv_aload_n hx hb dX2_above_0 rfl (lv_at hl 0 rfl) ?_
  refine lv_iconst (v := nI 0) hx hb dX2_above_1 (by decide) ?_
  refine md_put_code hx hb hts hown hK hP hD hS dX2_above_2 (fun H locs hP hD hS => ?_)
  refine lv_iload_n hx hb dX2_above_5 rfl (lv_at hl 1 rfl) ?_
  refine bw_rs (rest := []) ⟨hx, hb, hml, hown, hts⟩ (met_X2_isValue l _ a) (cw_X2_37 hts ⟨Nat.le_of_ble_eq_true rfl, Nat.le_of_ble_eq_true rfl⟩) hP hS hA rfl rfl hl.1 (Nat.le_of_ble_eq_true rfl) dX2_above_6 ⟨Nat.zero_le _, Nat.zero_le _⟩ (fun r1 H locs hv2 hP hS => ?_)
  subst hv2
  refine bw_ifeq hx hb (tgt := 24) dX2_above_9 (by decide) (fun c3 => ?_) (fun c3 => ?_)
  · refine lv_iconst (v := (-1)) hx hb dX2_above_24 (by decide) ?_
    exact rw_iret ((nI 0, (has, up, ch, tol, rows), cou)) hx hb hr hlocks hP hD hS dX2_above_25 (by unfold abvS; rw [cif_f (fun q => c3 q.1)]; exact ⟨rfl, rfl, rfl⟩)
  · obtain ⟨k, hk, rfl⟩ := c3
    refine lv_iload_n hx hb dX2_above_12 rfl (lv_at hl 2 rfl) ?_
    refine lv_iconst (v := (-1)) hx hb dX2_above_13 (by decide) ?_
    refine lv_icmp_eq hx hb (tgt := 26) dX2_above_14 (by decide) (fun c4 => ?_) (fun c4 => ?_)
    · subst c4
      refine lv_aload_n hx hb dX2_above_26 rfl (lv_at hl 0 rfl) ?_
      refine md_above hx hb hts hown hK hP dX2_above_27 ?_
      refine lv_iload_n hx hb dX2_above_30 rfl (lv_at hl 1 rfl) ?_
      refine bw_iald hx hb hK hP 2 rfl k (by omega) (by decide) dX2_above_31 ?_
      refine lv_iload_n hx hb dX2_above_32 rfl (lv_at hl 2 rfl) ?_
      refine lv_icmp_ne hx hb (tgt := 38) dX2_above_33 (by decide) (fun c5 => ?_) (fun c5 => ?_)
      · refine lv_iload_n hx hb dX2_above_38 rfl (lv_at hl 2 rfl) ?_
        refine lv_iconst (v := (-1)) hx hb dX2_above_39 (by decide) ?_
        refine lv_icmp_eq hx hb (tgt := 55) dX2_above_40 (by decide) (fun c6 => ?_) (fun c6 => ?_)
        · refine lv_aload_n hx hb dX2_above_55 rfl (lv_at hl 0 rfl) ?_
          refine md_above hx hb hts hown hK hP dX2_above_56 ?_
          refine lv_iload_n hx hb dX2_above_59 rfl (lv_at hl 1 rfl) ?_
          refine lv_iload_n hx hb dX2_above_60 rfl (lv_at hl 2 rfl) ?_
          refine bw_iast hx hb hK hP hD hS 2 rfl k (by omega) (by decide) dX2_above_61 (fun H locs hP hD hS => ?_)
          have hP : va_P D vwCl (mdW dA dZ ad (nI 0) has (upd up k ((-1))) ch tol cou rows) H := hP
          have hD : va_D A (mdW dA dZ ad (nI 0) has (upd up k ((-1))) ch tol cou rows) := hD
          refine lv_iconst (v := nI 1) hx hb dX2_above_62 (by decide) ?_
          exact rw_iret ((nI 0, (has, upd up k ((-1)), ch, tol, rows), cou)) hx hb hr hlocks hP hD hS dX2_above_63 (by rw [abvS_g hk (Or.inl rfl), abvG, cif_f c5, cif_f (fun ⟨u, hu, q, _⟩ => m1_nI (by omega) q)]; exact ⟨rfl, rfl, rfl⟩)
        · exact absurd rfl c6
      · refine lv_iconst (v := nI 0) hx hb dX2_above_36 (by decide) ?_
        exact rw_iret ((nI 0, (has, up, ch, tol, rows), cou)) hx hb hr hlocks hP hD hS dX2_above_37 (by rw [abvS_g hk (Or.inl rfl), abvG, cif_t c5]; exact ⟨rfl, rfl, rfl⟩)
    · refine lv_iload_n hx hb dX2_above_17 rfl (lv_at hl 2 rfl) ?_
      refine bw_rs (rest := []) ⟨hx, hb, hml, hown, hts⟩ (met_X2_isValue l _ b) (cw_X2_37 hts ⟨Nat.le_of_ble_eq_true rfl, Nat.le_of_ble_eq_true rfl⟩) hP hS hA rfl rfl hl.1 (Nat.le_of_ble_eq_true rfl) dX2_above_18 ⟨Nat.zero_le _, Nat.zero_le _⟩ (fun r7 H locs hv8 hP hS => ?_)
      subst hv8
      refine bw_ifne hx hb (tgt := 26) dX2_above_21 (by decide) (fun c9 => ?_) (fun c9 => ?_)
      · obtain ⟨u, hu, rfl⟩ := c9
        refine lv_aload_n hx hb dX2_above_26 rfl (lv_at hl 0 rfl) ?_
        refine md_above hx hb hts hown hK hP dX2_above_27 ?_
        refine lv_iload_n hx hb dX2_above_30 rfl (lv_at hl 1 rfl) ?_
        refine bw_iald hx hb hK hP 2 rfl k (by omega) (by decide) dX2_above_31 ?_
        refine lv_iload_n hx hb dX2_above_32 rfl (lv_at hl 2 rfl) ?_
        refine lv_icmp_ne hx hb (tgt := 38) dX2_above_33 (by decide) (fun c10 => ?_) (fun c10 => ?_)
        · refine lv_iload_n hx hb dX2_above_38 rfl (lv_at hl 2 rfl) ?_
          refine lv_iconst (v := (-1)) hx hb dX2_above_39 (by decide) ?_
          refine lv_icmp_eq hx hb (tgt := 55) dX2_above_40 (by decide) (fun c11 => ?_) (fun c11 => ?_)
          · exact absurd c11.symm (m1_nI (by omega))
          · refine lv_aload_n hx hb dX2_above_43 rfl (lv_at hl 0 rfl) ?_
            refine lv_iload_n hx hb dX2_above_44 rfl (lv_at hl 2 rfl) ?_
            refine lv_iload_n hx hb dX2_above_45 rfl (lv_at hl 1 rfl) ?_
            refine bw_ro (rest := []) ⟨hx, hb, hml, hown, hts⟩ (met_X2_isUnder l D dA dZ ad _ hM u k hu hk) (cw_X2_47 hts ⟨Nat.le_of_ble_eq_true rfl, Nat.le_of_ble_eq_true rfl⟩) (va_recv hK hP (ci := 1) (q0 := 0) rfl rfl) hK hP (hD.weaken (fun _ _ _ _ => trivial)) hP hS hA rfl rfl hl.1 (Nat.le_of_ble_eq_true rfl) dX2_above_46 ⟨Nat.zero_le _, Nat.zero_le _⟩ (fun r12 H locs hv13 hP hS => ?_)
            subst hv13
            refine bw_ifeq hx hb (tgt := 55) dX2_above_49 (by decide) (fun c14 => ?_) (fun c14 => ?_)
            · refine lv_aload_n hx hb dX2_above_55 rfl (lv_at hl 0 rfl) ?_
              refine md_above hx hb hts hown hK hP dX2_above_56 ?_
              refine lv_iload_n hx hb dX2_above_59 rfl (lv_at hl 1 rfl) ?_
              refine lv_iload_n hx hb dX2_above_60 rfl (lv_at hl 2 rfl) ?_
              refine bw_iast hx hb hK hP hD hS 2 rfl k (by omega) (by decide) dX2_above_61 (fun H locs hP hD hS => ?_)
              have hP : va_P D vwCl (mdW dA dZ ad (nI 0) has (upd up k (nI u)) ch tol cou rows) H := hP
              have hD : va_D A (mdW dA dZ ad (nI 0) has (upd up k (nI u)) ch tol cou rows) := hD
              refine lv_iconst (v := nI 1) hx hb dX2_above_62 (by decide) ?_
              exact rw_iret ((nI 0, (has, upd up k (nI u), ch, tol, rows), cou)) hx hb hr hlocks hP hD hS dX2_above_63 (by rw [abvS_g hk (Or.inr (inR_nI hu)), abvG, cif_f c10, cif_f (fun ⟨u2, hu2, q, r⟩ => by rw [← (nI_eq (by omega) (by omega)).mp q] at r; exact c14 r)]; exact ⟨rfl, rfl, rfl⟩)
            · refine lv_bipush (v := (-3)) hx hb dX2_above_52 (by decide) ?_
              exact rw_iret ((nI 0, (has, up, ch, tol, rows), cou)) hx hb hr hlocks hP hD hS dX2_above_54 (by rw [abvS_g hk (Or.inr (inR_nI hu)), abvG, cif_f c10, cif_t ⟨u, hu, rfl, c14⟩]; exact ⟨rfl, rfl, rfl⟩)
        · refine lv_iconst (v := nI 0) hx hb dX2_above_36 (by decide) ?_
          exact rw_iret ((nI 0, (has, up, ch, tol, rows), cou)) hx hb hr hlocks hP hD hS dX2_above_37 (by rw [abvS_g hk (Or.inr (inR_nI hu)), abvG, cif_t c10]; exact ⟨rfl, rfl, rfl⟩)
      · refine lv_iconst (v := (-1)) hx hb dX2_above_24 (by decide) ?_
        exact rw_iret ((nI 0, (has, up, ch, tol, rows), cou)) hx hb hr hlocks hP hD hS dX2_above_25 (by unfold abvS; rw [cif_f (fun q => by rcases q.2 with z | z; exact c4 z; exact c9 z)]; exact ⟨rfl, rfl, rfl⟩)

set_option maxHeartbeats 4000000 in
set_option maxRecDepth 100000 in
theorem met_X2_choose (l : Launch) (D : va_G) (dA dZ : ClassId) (ad : Nat → Nat) (sz : Nat) {cod : Int32} {has up ch tol cou : Nat → Int32} {rows : Int32} (hM : mOK (has, up, ch, tol, rows)) (a b : Int32) (on : Prop) : RW l yX2_choose cX2_choose 4 (some .int) rm_X2_choose [.ref (ad 0), .int a, .int b, .int (nI (bN on))] D dA dZ (mdW dA dZ ad cod has up ch tol cou rows) sz (S := NS) (fun r u => r = (choS has up ch tol rows a b on).1 ∧ u.1 = nI 0 ∧ u.2.1 = (choS has up ch tol rows a b on).2) (fun u => mdU dA dZ ad u) := by
  refine Met.ofW (cc := cX2_choose) (maxL := 4) (ret := (some .int)) (by decide) rfl ?_
  intro p e s m args below meth c s₁ B hml hv
  obtain ⟨rfl, hsz, hP, hK, hDT⟩ := hv
  have hx := B.exec
  have hb := B.bytes
  have hr := B.returns
  have hts : ∀ w ∈ lw_all, w.before _ s = true := fun w h => atoms_spec (ws := ws_ yX2_choose cX2_choose 4 (some .int)) B.pre w (List.mem_cons_of_mem _ h)
  have hown : s.vm.findClass RX2 = some m.cls := findClass_of_methodNamed B.named
  have hlocks := B.notSynchronized
  subst hsz
  have hD := hDT.self (sz := s.heap.size)
  generalize hAe : va_A (mdW dA dZ ad cod has up ch tol cou rows) s.heap.size = A at hD ⊢
  have hA : ∀ q : Nat, s.heap.size ≤ q → A q := fun q h => by rw [← hAe]; exact Or.inr h
  have hS : va_S A s.heap s.heap [] := va_S.rf
  have hl := lv_entry ([.ref (ad 0), .int a, .int b, .int (nI (bN on))]) (n := 4) (Nat.le_of_ble_eq_true rfl)
  rw [lg_entry_eq]
  generalize (lg_sl ([.ref (ad 0), .int a, .int b, .int (nI (bN on))]) ++ List.replicate (4 - (lg_sl ([.ref (ad 0), .int a, .int b, .int (nI (bN on))])).length) Slot.unset).toArray = ls at hl ⊢
  have hl : lv_has ls 4 [(0, .ref (ad 0)), (1, .int a), (2, .int b), (3, .int (nI (bN on)))] := hl
  refine lv_aload_n hx hb dX2_choose_0 rfl (lv_at hl 0 rfl) ?_
  refine lv_iconst (v := nI 0) hx hb dX2_choose_1 (by decide) ?_
  refine md_put_code hx hb hts hown hK hP hD hS dX2_choose_2 (fun H locs hP hD hS => ?_)
  refine lv_iload_n hx hb dX2_choose_5 rfl (lv_at hl 1 rfl) ?_
  refine bw_rs (rest := []) ⟨hx, hb, hml, hown, hts⟩ (met_X2_isHead l _ a) (cw_X2_34 hts ⟨Nat.le_of_ble_eq_true rfl, Nat.le_of_ble_eq_true rfl⟩) hP hS hA rfl rfl hl.1 (Nat.le_of_ble_eq_true rfl) dX2_choose_6 ⟨Nat.zero_le _, Nat.zero_le _⟩ (fun r1 H locs hv2 hP hS => ?_)
  subst hv2
  refine bw_ifeq hx hb (tgt := 19) dX2_choose_9 (by decide) (fun c3 => ?_) (fun c3 => ?_)
  · refine lv_iconst (v := (-1)) hx hb dX2_choose_19 (by decide) ?_
    exact rw_iret ((nI 0, (has, up, ch, tol, rows), cou)) hx hb hr hlocks hP hD hS dX2_choose_20 (by unfold choS; rw [cif_f (fun q => c3 q.1)]; exact ⟨rfl, rfl, rfl⟩)
  · refine lv_iload_n hx hb dX2_choose_12 rfl (lv_at hl 2 rfl) ?_
    refine bw_rs (rest := []) ⟨hx, hb, hml, hown, hts⟩ (met_X2_isValue l _ b) (cw_X2_37 hts ⟨Nat.le_of_ble_eq_true rfl, Nat.le_of_ble_eq_true rfl⟩) hP hS hA rfl rfl hl.1 (Nat.le_of_ble_eq_true rfl) dX2_choose_13 ⟨Nat.zero_le _, Nat.zero_le _⟩ (fun r4 H locs hv5 hP hS => ?_)
    subst hv5
    refine bw_ifne hx hb (tgt := 21) dX2_choose_16 (by decide) (fun c6 => ?_) (fun c6 => ?_)
    · obtain ⟨h, hh, rfl⟩ := c3
      obtain ⟨v, hv, rfl⟩ := c6
      refine lv_aload_n hx hb dX2_choose_21 rfl (lv_at hl 0 rfl) ?_
      refine md_chosen hx hb hts hown hK hP dX2_choose_22 ?_
      refine lv_bipush (v := nI 32) hx hb dX2_choose_25 (by decide) ?_
      refine lv_iload_n hx hb dX2_choose_27 rfl (lv_at hl 1 rfl) ?_
      refine bw_mul hx hb dX2_choose_28 ?_
      refine lv_iload_n hx hb dX2_choose_29 rfl (lv_at hl 2 rfl) ?_
      refine bw_add hx hb dX2_choose_30 ?_
      refine lv_iload_n hx hb dX2_choose_31 rfl (lv_at hl 3 rfl) ?_
      refine bw_zast hx hb hK hP hD hS 3 rfl (((32 * h) + v)) (by omega) (by decide) (nb_vn _) dX2_choose_32 (fun H locs hP hD hS => ?_)
      have hP : va_P D vwCl (mdW dA dZ ad (nI 0) has up (upd ch (((32 * h) + v)) (nI (bN on))) tol cou rows) H := hP
      have hD : va_D A (mdW dA dZ ad (nI 0) has up (upd ch (((32 * h) + v)) (nI (bN on))) tol cou rows) := hD
      refine lv_aload_n hx hb dX2_choose_33 rfl (lv_at hl 0 rfl) ?_
      refine lv_iconst (v := (-1)) hx hb dX2_choose_34 (by decide) ?_
      have hM2 : mOK (has, up, upd ch (((32 * h) + v)) (nI (bN on)), tol, rows) := ⟨hM.1, upd01 hM.2.1 _ (bN01 on), hM.2.2⟩
      refine bw_ro (rest := []) ⟨hx, hb, hml, hown, hts⟩ (met_X2_all l D dA dZ ad _ hM2 8 (-1) hpM) (cw_X2_61 hts ⟨Nat.le_of_ble_eq_true rfl, Nat.le_of_ble_eq_true rfl⟩) (va_recv hK hP (ci := 1) (q0 := 0) rfl rfl) hK hP (hD.weaken (fun _ _ _ _ => trivial)) hP hS hA rfl rfl hl.1 (Nat.le_of_ble_eq_true rfl) dX2_choose_35 ⟨Nat.zero_le _, Nat.zero_le _⟩ (fun r7 H locs hv8 hP hS => ?_)
      exact rw_iret ((nI 0, (has, up, upd ch (((32 * h) + v)) (nI (bN on)), tol, rows), cou)) hx hb hr hlocks hP hD hS dX2_choose_38 (by rw [choS_g hh hv]; exact ⟨hv8, rfl, rfl⟩)
    · refine lv_iconst (v := (-1)) hx hb dX2_choose_19 (by decide) ?_
      exact rw_iret ((nI 0, (has, up, ch, tol, rows), cou)) hx hb hr hlocks hP hD hS dX2_choose_20 (by unfold choS; rw [cif_f (fun q => c6 q.2)]; exact ⟨rfl, rfl, rfl⟩)

set_option maxHeartbeats 4000000 in
set_option maxRecDepth 100000 in
theorem met_X2_kept (l : Launch) (D : va_G) (dA dZ : ClassId) (ad : Nat → Nat) (sz : Nat) {cod : Int32} {has up ch tol cou : Nat → Int32} {rows : Int32} (hM : mOK (has, up, ch, tol, rows))  : RW l yX2_kept cX2_kept 1 (some .int) rm_X2_kept [.ref (ad 0)] D dA dZ (mdW dA dZ ad cod has up ch tol cou rows) sz (S := NS) (fun r u => r = nI (aN has up ch 8) ∧ u.1 = nI 0 ∧ u.2.1 = (has, up, ch, tol, rows)) (fun u => mdU dA dZ ad u) := by
  refine Met.ofW (cc := cX2_kept) (maxL := 1) (ret := (some .int)) (by decide) rfl ?_
  intro p e s m args below meth c s₁ B hml hv
  obtain ⟨rfl, hsz, hP, hK, hDT⟩ := hv
  have hx := B.exec
  have hb := B.bytes
  have hr := B.returns
  have hts : ∀ w ∈ lw_all, w.before _ s = true := fun w h => atoms_spec (ws := ws_ yX2_kept cX2_kept 1 (some .int)) B.pre w (List.mem_cons_of_mem _ h)
  have hown : s.vm.findClass RX2 = some m.cls := findClass_of_methodNamed B.named
  have hlocks := B.notSynchronized
  subst hsz
  have hD := hDT.self (sz := s.heap.size)
  generalize hAe : va_A (mdW dA dZ ad cod has up ch tol cou rows) s.heap.size = A at hD ⊢
  have hA : ∀ q : Nat, s.heap.size ≤ q → A q := fun q h => by rw [← hAe]; exact Or.inr h
  have hS : va_S A s.heap s.heap [] := va_S.rf
  have hl := lv_entry ([.ref (ad 0)]) (n := 1) (Nat.le_of_ble_eq_true rfl)
  rw [lg_entry_eq]
  generalize (lg_sl ([.ref (ad 0)]) ++ List.replicate (1 - (lg_sl ([.ref (ad 0)])).length) Slot.unset).toArray = ls at hl ⊢
  have hl : lv_has ls 1 [(0, .ref (ad 0))] := hl
  refine lv_aload_n hx hb dX2_kept_0 rfl (lv_at hl 0 rfl) ?_
  refine lv_iconst (v := nI 0) hx hb dX2_kept_1 (by decide) ?_
  refine md_put_code hx hb hts hown hK hP hD hS dX2_kept_2 (fun H locs hP hD hS => ?_)
  refine lv_aload_n hx hb dX2_kept_5 rfl (lv_at hl 0 rfl) ?_
  refine lv_iconst (v := (-1)) hx hb dX2_kept_6 (by decide) ?_
  refine bw_ro (rest := []) ⟨hx, hb, hml, hown, hts⟩ (met_X2_all l D dA dZ ad _ hM 8 (-1) hpM) (cw_X2_61 hts ⟨Nat.le_of_ble_eq_true rfl, Nat.le_of_ble_eq_true rfl⟩) (va_recv hK hP (ci := 1) (q0 := 0) rfl rfl) hK hP (hD.weaken (fun _ _ _ _ => trivial)) hP hS hA rfl rfl hl.1 (Nat.le_of_ble_eq_true rfl) dX2_kept_7 ⟨Nat.zero_le _, Nat.zero_le _⟩ (fun r1 H locs hv2 hP hS => ?_)
  exact rw_iret ((nI 0, (has, up, ch, tol, rows), cou)) hx hb hr hlocks hP hD hS dX2_kept_10 (⟨hv2, rfl, rfl⟩)

set_option maxHeartbeats 4000000 in
set_option maxRecDepth 100000 in
theorem met_X2_isKept (l : Launch) (D : va_G) (dA dZ : ClassId) (ad : Nat → Nat) (sz : Nat) {cod : Int32} {has up ch tol cou : Nat → Int32} {rows : Int32} (hM : mOK (has, up, ch, tol, rows)) (a : Int32) : RW l yX2_isKept cX2_isKept 2 (some .int) rm_X2_isKept [.ref (ad 0), .int a] D dA dZ (mdW dA dZ ad cod has up ch tol cou rows) sz (S := NS) (fun r u => r = isKS has up ch a ∧ u.1 = nI 0 ∧ u.2.1 = (has, up, ch, tol, rows)) (fun u => mdU dA dZ ad u) := by
  refine Met.ofW (cc := cX2_isKept) (maxL := 2) (ret := (some .int)) (by decide) rfl ?_
  intro p e s m args below meth c s₁ B hml hv
  obtain ⟨rfl, hsz, hP, hK, hDT⟩ := hv
  have hx := B.exec
  have hb := B.bytes
  have hr := B.returns
  have hts : ∀ w ∈ lw_all, w.before _ s = true := fun w h => atoms_spec (ws := ws_ yX2_isKept cX2_isKept 2 (some .int)) B.pre w (List.mem_cons_of_mem _ h)
  have hown : s.vm.findClass RX2 = some m.cls := findClass_of_methodNamed B.named
  have hlocks := B.notSynchronized
  subst hsz
  have hD := hDT.self (sz := s.heap.size)
  generalize hAe : va_A (mdW dA dZ ad cod has up ch tol cou rows) s.heap.size = A at hD ⊢
  have hA : ∀ q : Nat, s.heap.size ≤ q → A q := fun q h => by rw [← hAe]; exact Or.inr h
  have hS : va_S A s.heap s.heap [] := va_S.rf
  have hl := lv_entry ([.ref (ad 0), .int a]) (n := 2) (Nat.le_of_ble_eq_true rfl)
  rw [lg_entry_eq]
  generalize (lg_sl ([.ref (ad 0), .int a]) ++ List.replicate (2 - (lg_sl ([.ref (ad 0), .int a])).length) Slot.unset).toArray = ls at hl ⊢
  have hl : lv_has ls 2 [(0, .ref (ad 0)), (1, .int a)] := hl
  refine lv_aload_n hx hb dX2_isKept_0 rfl (lv_at hl 0 rfl) ?_
  refine lv_iconst (v := nI 0) hx hb dX2_isKept_1 (by decide) ?_
  refine md_put_code hx hb hts hown hK hP hD hS dX2_isKept_2 (fun H locs hP hD hS => ?_)
  refine lv_iload_n hx hb dX2_isKept_5 rfl (lv_at hl 1 rfl) ?_
  refine bw_rs (rest := []) ⟨hx, hb, hml, hown, hts⟩ (met_X2_isThing l _ a) (cw_X2_30 hts ⟨Nat.le_of_ble_eq_true rfl, Nat.le_of_ble_eq_true rfl⟩) hP hS hA rfl rfl hl.1 (Nat.le_of_ble_eq_true rfl) dX2_isKept_6 ⟨Nat.zero_le _, Nat.zero_le _⟩ (fun r1 H locs hv2 hP hS => ?_)
  subst hv2
  refine bw_ifne hx hb (tgt := 16) dX2_isKept_9 (by decide) (fun c3 => ?_) (fun c3 => ?_)
  · obtain ⟨t, ht, rfl⟩ := c3
    refine lv_aload_n hx hb dX2_isKept_16 rfl (lv_at hl 0 rfl) ?_
    refine lv_iload_n hx hb dX2_isKept_17 rfl (lv_at hl 1 rfl) ?_
    refine lv_iconst (v := (-1)) hx hb dX2_isKept_18 (by decide) ?_
    refine bw_ro (rest := []) ⟨hx, hb, hml, hown, hts⟩ (met_X2_isKeptBut l D dA dZ ad _ hM t 8 ht (-1) hpM) (cw_X2_58 hts ⟨Nat.le_of_ble_eq_true rfl, Nat.le_of_ble_eq_true rfl⟩) (va_recv hK hP (ci := 1) (q0 := 0) rfl rfl) hK hP (hD.weaken (fun _ _ _ _ => trivial)) hP hS hA rfl rfl hl.1 (Nat.le_of_ble_eq_true rfl) dX2_isKept_19 ⟨Nat.zero_le _, Nat.zero_le _⟩ (fun r4 H locs hv5 hP hS => ?_)
    subst hv5
    refine bw_ifeq hx hb (tgt := 29) dX2_isKept_22 (by decide) (fun c6 => ?_) (fun c6 => ?_)
    · refine lv_iconst (v := nI 0) hx hb dX2_isKept_29 (by decide) ?_
      exact rw_iret ((nI 0, (has, up, ch, tol, rows), cou)) hx hb hr hlocks hP hD hS dX2_isKept_30 (⟨by rw [isKS_g ht, bN_f c6], rfl, rfl⟩)
    · refine lv_iconst (v := nI 1) hx hb dX2_isKept_25 (by decide) ?_
      refine lv_goto (tgt := 30) hx hb dX2_isKept_26 (by decide) ?_
      exact rw_iret ((nI 0, (has, up, ch, tol, rows), cou)) hx hb hr hlocks hP hD hS dX2_isKept_30 (⟨by rw [isKS_g ht, bN_t c6], rfl, rfl⟩)
  · refine lv_iconst (v := (-1)) hx hb dX2_isKept_12 (by decide) ?_
    refine lv_goto (tgt := 30) hx hb dX2_isKept_13 (by decide) ?_
    exact rw_iret ((nI 0, (has, up, ch, tol, rows), cou)) hx hb hr hlocks hP hD hS dX2_isKept_30 (⟨by unfold isKS; rw [cif_f c3], rfl, rfl⟩)

set_option maxHeartbeats 4000000 in
set_option maxRecDepth 100000 in
theorem met_X2_facet (l : Launch) (D : va_G) (dA dZ : ClassId) (ad : Nat → Nat) (sz : Nat) {cod : Int32} {has up ch tol cou : Nat → Int32} {rows : Int32} (hM : mOK (has, up, ch, tol, rows)) (a b : Int32) : RW l yX2_facet cX2_facet 3 (some .int) rm_X2_facet [.ref (ad 0), .int a, .int b] D dA dZ (mdW dA dZ ad cod has up ch tol cou rows) sz (S := NS) (fun r u => r = facS has up ch a b ∧ u.1 = nI 0 ∧ u.2.1 = (has, up, ch, tol, rows)) (fun u => mdU dA dZ ad u) := by
  refine Met.ofW (cc := cX2_facet) (maxL := 3) (ret := (some .int)) (by decide) rfl ?_
  intro p e s m args below meth c s₁ B hml hv
  obtain ⟨rfl, hsz, hP, hK, hDT⟩ := hv
  have hx := B.exec
  have hb := B.bytes
  have hr := B.returns
  have hts : ∀ w ∈ lw_all, w.before _ s = true := fun w h => atoms_spec (ws := ws_ yX2_facet cX2_facet 3 (some .int)) B.pre w (List.mem_cons_of_mem _ h)
  have hown : s.vm.findClass RX2 = some m.cls := findClass_of_methodNamed B.named
  have hlocks := B.notSynchronized
  subst hsz
  have hD := hDT.self (sz := s.heap.size)
  generalize hAe : va_A (mdW dA dZ ad cod has up ch tol cou rows) s.heap.size = A at hD ⊢
  have hA : ∀ q : Nat, s.heap.size ≤ q → A q := fun q h => by rw [← hAe]; exact Or.inr h
  have hS : va_S A s.heap s.heap [] := va_S.rf
  have hl := lv_entry ([.ref (ad 0), .int a, .int b]) (n := 3) (Nat.le_of_ble_eq_true rfl)
  rw [lg_entry_eq]
  generalize (lg_sl ([.ref (ad 0), .int a, .int b]) ++ List.replicate (3 - (lg_sl ([.ref (ad 0), .int a, .int b])).length) Slot.unset).toArray = ls at hl ⊢
  have hl : lv_has ls 3 [(0, .ref (ad 0)), (1, .int a), (2, .int b)] := hl
  refine lv_aload_n hx hb dX2_facet_0 rfl (lv_at hl 0 rfl) ?_
  refine lv_iconst (v := nI 0) hx hb dX2_facet_1 (by decide) ?_
  refine md_put_code hx hb hts hown hK hP hD hS dX2_facet_2 (fun H locs hP hD hS => ?_)
  refine lv_iload_n hx hb dX2_facet_5 rfl (lv_at hl 1 rfl) ?_
  refine bw_rs (rest := []) ⟨hx, hb, hml, hown, hts⟩ (met_X2_isHead l _ a) (cw_X2_34 hts ⟨Nat.le_of_ble_eq_true rfl, Nat.le_of_ble_eq_true rfl⟩) hP hS hA rfl rfl hl.1 (Nat.le_of_ble_eq_true rfl) dX2_facet_6 ⟨Nat.zero_le _, Nat.zero_le _⟩ (fun r1 H locs hv2 hP hS => ?_)
  subst hv2
  refine bw_ifeq hx hb (tgt := 28) dX2_facet_9 (by decide) (fun c3 => ?_) (fun c3 => ?_)
  · refine lv_iconst (v := (-1)) hx hb dX2_facet_28 (by decide) ?_
    exact rw_iret ((nI 0, (has, up, ch, tol, rows), cou)) hx hb hr hlocks hP hD hS dX2_facet_29 (⟨by unfold facS; rw [cif_f (fun q => c3 q.1)], rfl, rfl⟩)
  · refine lv_iload_n hx hb dX2_facet_12 rfl (lv_at hl 2 rfl) ?_
    refine bw_rs (rest := []) ⟨hx, hb, hml, hown, hts⟩ (met_X2_isValue l _ b) (cw_X2_37 hts ⟨Nat.le_of_ble_eq_true rfl, Nat.le_of_ble_eq_true rfl⟩) hP hS hA rfl rfl hl.1 (Nat.le_of_ble_eq_true rfl) dX2_facet_13 ⟨Nat.zero_le _, Nat.zero_le _⟩ (fun r4 H locs hv5 hP hS => ?_)
    subst hv5
    refine bw_ifeq hx hb (tgt := 28) dX2_facet_16 (by decide) (fun c6 => ?_) (fun c6 => ?_)
    · refine lv_iconst (v := (-1)) hx hb dX2_facet_28 (by decide) ?_
      exact rw_iret ((nI 0, (has, up, ch, tol, rows), cou)) hx hb hr hlocks hP hD hS dX2_facet_29 (⟨by unfold facS; rw [cif_f (fun q => c6 q.2)], rfl, rfl⟩)
    · obtain ⟨h, hh, rfl⟩ := c3
      obtain ⟨v, hv, rfl⟩ := c6
      refine lv_aload_n hx hb dX2_facet_19 rfl (lv_at hl 0 rfl) ?_
      refine lv_iload_n hx hb dX2_facet_20 rfl (lv_at hl 1 rfl) ?_
      refine lv_iload_n hx hb dX2_facet_21 rfl (lv_at hl 2 rfl) ?_
      refine bw_ro (rest := []) ⟨hx, hb, hml, hown, hts⟩ (met_X2_count l D dA dZ ad _ hM h v hh hv) (cw_X2_65 hts ⟨Nat.le_of_ble_eq_true rfl, Nat.le_of_ble_eq_true rfl⟩) (va_recv hK hP (ci := 1) (q0 := 0) rfl rfl) hK hP (hD.weaken (fun _ _ _ _ => trivial)) hP hS hA rfl rfl hl.1 (Nat.le_of_ble_eq_true rfl) dX2_facet_22 ⟨Nat.zero_le _, Nat.zero_le _⟩ (fun r7 H locs hv8 hP hS => ?_)
      subst hv8
      refine lv_goto (tgt := 29) hx hb dX2_facet_25 (by decide) ?_
      exact rw_iret ((nI 0, (has, up, ch, tol, rows), cou)) hx hb hr hlocks hP hD hS dX2_facet_29 (⟨(facS_g hh hv).symm, rfl, rfl⟩)

set_option maxHeartbeats 4000000 in
set_option maxRecDepth 100000 in
theorem met_X2_top (l : Launch) (D : va_G) (dA dZ : ClassId) (ad : Nat → Nat) (sz : Nat) {cod : Int32} {has up ch tol cou : Nat → Int32} {rows : Int32} (hM : mOK (has, up, ch, tol, rows)) (a b : Int32) : RW l yX2_top cX2_top 7 (some .int) rm_X2_top [.ref (ad 0), .int a, .int b] D dA dZ (mdW dA dZ ad cod has up ch tol cou rows) sz (S := NS) (fun r u => r = topS has up ch a b ∧ u.1 = nI 0 ∧ u.2.1 = (has, up, ch, tol, rows)) (fun u => mdU dA dZ ad u) := by
  refine Met.ofW (cc := cX2_top) (maxL := 7) (ret := (some .int)) (by decide) rfl ?_
  intro p e s m args below meth c s₁ B hml hv
  obtain ⟨rfl, hsz, hP, hK, hDT⟩ := hv
  have hx := B.exec
  have hb := B.bytes
  have hr := B.returns
  have hts : ∀ w ∈ lw_all, w.before _ s = true := fun w h => atoms_spec (ws := ws_ yX2_top cX2_top 7 (some .int)) B.pre w (List.mem_cons_of_mem _ h)
  have hown : s.vm.findClass RX2 = some m.cls := findClass_of_methodNamed B.named
  have hlocks := B.notSynchronized
  subst hsz
  have hD := hDT.self (sz := s.heap.size)
  generalize hAe : va_A (mdW dA dZ ad cod has up ch tol cou rows) s.heap.size = A at hD ⊢
  have hA : ∀ q : Nat, s.heap.size ≤ q → A q := fun q h => by rw [← hAe]; exact Or.inr h
  have hS : va_S A s.heap s.heap [] := va_S.rf
  have hl := lv_entry ([.ref (ad 0), .int a, .int b]) (n := 7) (Nat.le_of_ble_eq_true rfl)
  rw [lg_entry_eq]
  generalize (lg_sl ([.ref (ad 0), .int a, .int b]) ++ List.replicate (7 - (lg_sl ([.ref (ad 0), .int a, .int b])).length) Slot.unset).toArray = ls at hl ⊢
  have hl : lv_has ls 7 [(0, .ref (ad 0)), (1, .int a), (2, .int b)] := hl
  refine lv_aload_n hx hb dX2_top_0 rfl (lv_at hl 0 rfl) ?_
  refine lv_iconst (v := nI 0) hx hb dX2_top_1 (by decide) ?_
  refine md_put_code hx hb hts hown hK hP hD hS dX2_top_2 (fun H locs hP hD hS => ?_)
  refine lv_iload_n hx hb dX2_top_5 rfl (lv_at hl 1 rfl) ?_
  refine bw_rs (rest := []) ⟨hx, hb, hml, hown, hts⟩ (met_X2_isHead l _ a) (cw_X2_34 hts ⟨Nat.le_of_ble_eq_true rfl, Nat.le_of_ble_eq_true rfl⟩) hP hS hA rfl rfl hl.1 (Nat.le_of_ble_eq_true rfl) dX2_top_6 ⟨Nat.zero_le _, Nat.zero_le _⟩ (fun r1 H locs hv2 hP hS => ?_)
  subst hv2
  refine bw_ifne hx hb (tgt := 14) dX2_top_9 (by decide) (fun c3 => ?_) (fun c3 => ?_)
  · obtain ⟨h, hh, rfl⟩ := c3
    refine lv_iconst (v := nI 0) hx hb dX2_top_14 (by decide) ?_
    refine lv_istore_n (lv' := [(3, .int (nI 0)), (0, .ref (ad 0)), (1, .int (nI h)), (2, .int b)]) hx hb dX2_top_15 rfl hl (by decide) rfl (fun ls hl => ?_)
    refine w_loop (σ := Nat → Int32) 32 (fun j y H locs ls => lv_has ls 7 [(0, .ref (ad 0)), (1, .int (nI h)), (2, .int b), (3, .int (nI j))] ∧ va_P D vwCl (mdW dA dZ ad (nI 0) has up ch tol y rows) H ∧ va_D A (mdW dA dZ ad (nI 0) has up ch tol y rows) ∧ va_S A s.heap H locs ∧ (∀ v, v < j → y v = nI (cN has up ch h v))) ?_ ?_ 0 cou _ _ _ (by omega) ⟨lv_sub hl [1, 2, 3, 0] rfl, hP, hD, hS, fun v hv => absurd hv (Nat.not_lt_zero v)⟩
    · intro j y H locs ls hj hI hk4
      obtain ⟨hl, hP, hD, hS, hI⟩ := hI
      refine lv_iload_n hx hb dX2_top_16 rfl (lv_at hl 3 rfl) ?_
      refine lv_bipush (v := nI 32) hx hb dX2_top_17 (by decide) ?_
      refine bw_ge (by omega) (by omega) hx hb (tgt := 40) dX2_top_19 (by decide) (fun c5 => ?_) (fun c5 => ?_)
      · exact absurd c5 (by omega)
      · refine lv_aload_n hx hb dX2_top_22 rfl (lv_at hl 0 rfl) ?_
        refine md_counts hx hb hts hown hK hP dX2_top_23 ?_
        refine lv_iload_n hx hb dX2_top_26 rfl (lv_at hl 3 rfl) ?_
        refine lv_aload_n hx hb dX2_top_27 rfl (lv_at hl 0 rfl) ?_
        refine lv_iload_n hx hb dX2_top_28 rfl (lv_at hl 1 rfl) ?_
        refine lv_iload_n hx hb dX2_top_29 rfl (lv_at hl 3 rfl) ?_
        refine bw_ro (rest := [.int (nI j), .ref (ad 5)]) ⟨hx, hb, hml, hown, hts⟩ (met_X2_count l D dA dZ ad _ hM h j hh hj) (cw_X2_65 hts ⟨Nat.le_of_ble_eq_true rfl, Nat.le_of_ble_eq_true rfl⟩) (va_recv hK hP (ci := 1) (q0 := 0) rfl rfl) hK hP (hD.weaken (fun _ _ _ _ => trivial)) hP hS hA rfl rfl hl.1 (Nat.le_of_ble_eq_true rfl) dX2_top_30 ⟨Nat.zero_le _, Nat.zero_le _⟩ (fun r6 H locs hv7 hP hS => ?_)
        subst hv7
        refine bw_iast hx hb hK hP hD hS 5 rfl j (by omega) (by decide) dX2_top_33 (fun H locs hP hD hS => ?_)
        have hP : va_P D vwCl (mdW dA dZ ad (nI 0) has up ch tol (upd y j (nI (cN has up ch h j))) rows) H := hP
        have hD : va_D A (mdW dA dZ ad (nI 0) has up ch tol (upd y j (nI (cN has up ch h j))) rows) := hD
        refine lv_iinc (v := nI (j + 1)) (lv' := [(3, .int (nI (j + 1))), (0, .ref (ad 0)), (1, .int (nI h)), (2, .int b)]) hx hb dX2_top_34 hl (k := 3) rfl (inc1 _) (by decide) rfl (fun ls hl => ?_)
        refine lv_goto (tgt := 16) hx hb dX2_top_37 (by decide) ?_
        exact hk4 (upd y j (nI (cN has up ch h j))) _ _ _ ⟨lv_sub hl [1, 2, 3, 0] rfl, hP, hD, hS, fun v hv => by by_cases e : v = j; rw [e, pk_us]; rw [pk_un e]; exact hI v (by omega)⟩
    · intro y H locs ls hI
      obtain ⟨hl, hP, hD, hS, hI⟩ := hI
      refine lv_iload_n hx hb dX2_top_16 rfl (lv_at hl 3 rfl) ?_
      refine lv_bipush (v := nI 32) hx hb dX2_top_17 (by decide) ?_
      refine bw_ge (by omega) (by omega) hx hb (tgt := 40) dX2_top_19 (by decide) (fun c8 => ?_) (fun c8 => ?_)
      · refine lv_iconst (v := nI 0) hx hb dX2_top_40 (by decide) ?_
        refine lv_istore_n (lv' := [(3, .int (nI 0)), (0, .ref (ad 0)), (1, .int (nI h)), (2, .int b)]) hx hb dX2_top_41 rfl hl (by decide) rfl (fun ls hl => ?_)
        have hY := hI
        refine w_loop (σ := Unit) 32 (fun j x2 H locs ls => lv_has ls 7 [(0, .ref (ad 0)), (1, .int (nI h)), (2, .int b), (3, .int (nI j))] ∧ va_P D vwCl (mdW dA dZ ad (nI 0) has up ch tol y rows) H ∧ va_D A (mdW dA dZ ad (nI 0) has up ch tol y rows) ∧ va_S A s.heap H locs ∧ (∀ v, v < j → ¬ topP (cN has up ch h) b v)) ?_ ?_ 0 () _ _ _ (by omega) ⟨lv_sub hl [1, 2, 3, 0] rfl, hP, hD, hS, fun v hv => absurd hv (Nat.not_lt_zero v)⟩
        · intro j x2 H locs ls hj hI hk9
          obtain ⟨hl, hP, hD, hS, hI⟩ := hI
          refine lv_iload_n hx hb dX2_top_42 rfl (lv_at hl 3 rfl) ?_
          refine lv_bipush (v := nI 32) hx hb dX2_top_43 (by decide) ?_
          refine bw_ge (by omega) (by omega) hx hb (tgt := 134) dX2_top_45 (by decide) (fun c10 => ?_) (fun c10 => ?_)
          · exact absurd c10 (by omega)
          · refine lv_aload_n hx hb dX2_top_48 rfl (lv_at hl 0 rfl) ?_
            refine md_counts hx hb hts hown hK hP dX2_top_49 ?_
            refine lv_iload_n hx hb dX2_top_52 rfl (lv_at hl 3 rfl) ?_
            refine bw_iald hx hb hK hP 5 rfl j (by omega) (by decide) dX2_top_53 ?_
            refine bw_top (y := nI (cN has up ch h j)) (hY j hj) ?_
            have hcj := cN_le has up ch h j
            refine lv_istore (lv' := [(4, .int (nI (cN has up ch h j))), (0, .ref (ad 0)), (1, .int (nI h)), (2, .int b), (3, .int (nI j))]) hx hb dX2_top_54 hl (by decide) rfl (fun ls hl => ?_)
            refine lv_iconst (v := nI 0) hx hb dX2_top_56 (by decide) ?_
            refine lv_istore (lv' := [(5, .int (nI 0)), (4, .int (nI (cN has up ch h j))), (0, .ref (ad 0)), (1, .int (nI h)), (2, .int b), (3, .int (nI j))]) hx hb dX2_top_57 hl (by decide) rfl (fun ls hl => ?_)
            refine lv_iconst (v := nI 0) hx hb dX2_top_59 (by decide) ?_
            refine lv_istore (lv' := [(6, .int (nI 0)), (5, .int (nI 0)), (4, .int (nI (cN has up ch h j))), (0, .ref (ad 0)), (1, .int (nI h)), (2, .int b), (3, .int (nI j))]) hx hb dX2_top_60 hl (by decide) rfl (fun ls hl => ?_)
            have hI2 := hI
            refine w_loop (σ := Unit) 32 (fun k x3 H locs ls => lv_has ls 7 [(0, .ref (ad 0)), (1, .int (nI h)), (2, .int b), (3, .int (nI j)), (4, .int (nI (cN has up ch h j))), (5, .int (nI (cnt (fun o => bet (cN has up ch h) o j) k))), (6, .int (nI k))] ∧ va_P D vwCl (mdW dA dZ ad (nI 0) has up ch tol y rows) H ∧ va_D A (mdW dA dZ ad (nI 0) has up ch tol y rows) ∧ va_S A s.heap H locs ∧ (True)) ?_ ?_ 0 () _ _ _ (by omega) ⟨lv_sub hl [3, 4, 5, 6, 2, 1, 0] rfl, hP, hD, hS, trivial⟩
            · intro k x3 H locs ls hk hI hk11
              obtain ⟨hl, hP, hD, hS, hI⟩ := hI
              refine lv_iload hx hb dX2_top_62 (lv_at hl 6 rfl) ?_
              refine lv_bipush (v := nI 32) hx hb dX2_top_64 (by decide) ?_
              refine bw_ge (by omega) (by omega) hx hb (tgt := 115) dX2_top_66 (by decide) (fun c12 => ?_) (fun c12 => ?_)
              · exact absurd c12 (by omega)
              · have hck := cN_le has up ch h k
                refine lv_iload hx hb dX2_top_69 (lv_at hl 5 rfl) ?_
                refine lv_aload_n hx hb dX2_top_71 rfl (lv_at hl 0 rfl) ?_
                refine md_counts hx hb hts hown hK hP dX2_top_72 ?_
                refine lv_iload hx hb dX2_top_75 (lv_at hl 6 rfl) ?_
                refine bw_iald hx hb hK hP 5 rfl k (by omega) (by decide) dX2_top_77 ?_
                refine bw_top (y := nI (cN has up ch h k)) (hY k hk) ?_
                refine lv_iload hx hb dX2_top_78 (lv_at hl 4 rfl) ?_
                refine w_cut 106 ls [.int (nI (cnt (fun o => bet (cN has up ch h) o j) k))] (fun q9 => q9 = nI (bN (bet (cN has up ch h) k j))) (fun K13 => ?_) (fun v14 hv15 => ?_)
                · refine bw_gt (by omega) (by omega) hx hb (tgt := 101) dX2_top_80 (by decide) (fun c16 => ?_) (fun c16 => ?_)
                  · refine lv_iconst (v := nI 1) hx hb dX2_top_101 (by decide) ?_
                    refine lv_goto (tgt := 106) hx hb dX2_top_102 (by decide) ?_
                    exact K13 _ (by rw [bN_t (p := bet (cN has up ch h) k j) (Or.inl c16)])
                  · refine lv_aload_n hx hb dX2_top_83 rfl (lv_at hl 0 rfl) ?_
                    refine md_counts hx hb hts hown hK hP dX2_top_84 ?_
                    refine lv_iload hx hb dX2_top_87 (lv_at hl 6 rfl) ?_
                    refine bw_iald hx hb hK hP 5 rfl k (by omega) (by decide) dX2_top_89 ?_
                    refine bw_top (y := nI (cN has up ch h k)) (hY k hk) ?_
                    refine lv_iload hx hb dX2_top_90 (lv_at hl 4 rfl) ?_
                    refine bw_ne (by omega) (by omega) hx hb (tgt := 105) dX2_top_92 (by decide) (fun c17 => ?_) (fun c17 => ?_)
                    · refine lv_iconst (v := nI 0) hx hb dX2_top_105 (by decide) ?_
                      exact K13 _ (by rw [bN_f (fun q => by unfold bet at q; omega)])
                    · refine lv_iload hx hb dX2_top_95 (lv_at hl 6 rfl) ?_
                      refine lv_iload_n hx hb dX2_top_97 rfl (lv_at hl 3 rfl) ?_
                      refine bw_ge (by omega) (by omega) hx hb (tgt := 105) dX2_top_98 (by decide) (fun c18 => ?_) (fun c18 => ?_)
                      · refine lv_iconst (v := nI 0) hx hb dX2_top_105 (by decide) ?_
                        exact K13 _ (by rw [bN_f (fun q => by unfold bet at q; omega)])
                      · refine lv_iconst (v := nI 1) hx hb dX2_top_101 (by decide) ?_
                        refine lv_goto (tgt := 106) hx hb dX2_top_102 (by decide) ?_
                        exact K13 _ (by rw [bN_t (p := bet (cN has up ch h) k j) (Or.inr ⟨c17, c18⟩)])
                · subst hv15
                  refine bw_add hx hb dX2_top_106 ?_
                  refine lv_istore (lv' := [(5, .int (nI ((cnt (fun o => bet (cN has up ch h) o j) k) + (bN (bet (cN has up ch h) k j))))), (0, .ref (ad 0)), (1, .int (nI h)), (2, .int b), (3, .int (nI j)), (4, .int (nI (cN has up ch h j))), (6, .int (nI k))]) hx hb dX2_top_107 hl (by decide) rfl (fun ls hl => ?_)
                  refine lv_iinc (v := nI (k + 1)) (lv' := [(6, .int (nI (k + 1))), (5, .int (nI ((cnt (fun o => bet (cN has up ch h) o j) k) + (bN (bet (cN has up ch h) k j))))), (0, .ref (ad 0)), (1, .int (nI h)), (2, .int b), (3, .int (nI j)), (4, .int (nI (cN has up ch h j)))]) hx hb dX2_top_109 hl (k := 6) rfl (inc1 _) (by decide) rfl (fun ls hl => ?_)
                  refine lv_goto (tgt := 62) hx hb dX2_top_112 (by decide) ?_
                  exact hk11 () _ _ _ ⟨lv_sub hl [2, 3, 4, 5, 6, 1, 0] rfl, hP, hD, hS, trivial⟩
            · intro x3 H locs ls hI
              obtain ⟨hl, hP, hD, hS, hI⟩ := hI
              refine lv_iload hx hb dX2_top_62 (lv_at hl 6 rfl) ?_
              refine lv_bipush (v := nI 32) hx hb dX2_top_64 (by decide) ?_
              refine bw_ge (by omega) (by omega) hx hb (tgt := 115) dX2_top_66 (by decide) (fun c19 => ?_) (fun c19 => ?_)
              · refine lv_iload hx hb dX2_top_115 (lv_at hl 4 rfl) ?_
                refine bw_ifle (by omega) hx hb (tgt := 128) dX2_top_117 (by decide) (fun c20 => ?_) (fun c20 => ?_)
                · refine lv_iinc (v := nI (j + 1)) (lv' := [(3, .int (nI (j + 1))), (0, .ref (ad 0)), (1, .int (nI h)), (2, .int b), (4, .int (nI (cN has up ch h j))), (5, .int (nI (cnt (fun o => bet (cN has up ch h) o j) 32))), (6, .int (nI 32))]) hx hb dX2_top_128 hl (k := 3) rfl (inc1 _) (by decide) rfl (fun ls hl => ?_)
                  refine lv_goto (tgt := 42) hx hb dX2_top_131 (by decide) ?_
                  exact hk9 () _ _ _ ⟨lv_sub hl [1, 2, 3, 0] rfl, hP, hD, hS, (all_s (P := fun v => ¬ topP (cN has up ch h) b v)).mpr ⟨hI2, fun q => by have := q.2.1; omega⟩⟩
                · refine lv_iload hx hb dX2_top_120 (lv_at hl 5 rfl) ?_
                  refine lv_iload_n hx hb dX2_top_122 rfl (lv_at hl 2 rfl) ?_
                  refine lv_icmp_ne hx hb (tgt := 128) dX2_top_123 (by decide) (fun c21 => ?_) (fun c21 => ?_)
                  · refine lv_iinc (v := nI (j + 1)) (lv' := [(3, .int (nI (j + 1))), (0, .ref (ad 0)), (1, .int (nI h)), (2, .int b), (4, .int (nI (cN has up ch h j))), (5, .int (nI (cnt (fun o => bet (cN has up ch h) o j) 32))), (6, .int (nI 32))]) hx hb dX2_top_128 hl (k := 3) rfl (inc1 _) (by decide) rfl (fun ls hl => ?_)
                    refine lv_goto (tgt := 42) hx hb dX2_top_131 (by decide) ?_
                    exact hk9 () _ _ _ ⟨lv_sub hl [1, 2, 3, 0] rfl, hP, hD, hS, (all_s (P := fun v => ¬ topP (cN has up ch h) b v)).mpr ⟨hI2, fun q => c21 q.2.2⟩⟩
                  · refine lv_iload_n hx hb dX2_top_126 rfl (lv_at hl 3 rfl) ?_
                    exact rw_iret ((nI 0, (has, up, ch, tol, rows), y)) hx hb hr hlocks hP hD hS dX2_top_127 (⟨by rw [topS_g hh, topG_y ⟨hj, c20, c21⟩], rfl, rfl⟩)
              · exact absurd c19 (by omega)
        · intro x2 H locs ls hI
          obtain ⟨hl, hP, hD, hS, hI⟩ := hI
          refine lv_iload_n hx hb dX2_top_42 rfl (lv_at hl 3 rfl) ?_
          refine lv_bipush (v := nI 32) hx hb dX2_top_43 (by decide) ?_
          refine bw_ge (by omega) (by omega) hx hb (tgt := 134) dX2_top_45 (by decide) (fun c22 => ?_) (fun c22 => ?_)
          · refine lv_iconst (v := (-1)) hx hb dX2_top_134 (by decide) ?_
            exact rw_iret ((nI 0, (has, up, ch, tol, rows), y)) hx hb hr hlocks hP hD hS dX2_top_135 (⟨by rw [topS_g hh, topG_n (fun v q => hI v q.1 q)], rfl, rfl⟩)
          · exact absurd c22 (by omega)
      · exact absurd c8 (by omega)
  · refine lv_iconst (v := (-1)) hx hb dX2_top_12 (by decide) ?_
    exact rw_iret ((nI 0, (has, up, ch, tol, rows), cou)) hx hb hr hlocks hP hD hS dX2_top_13 (⟨by unfold topS; rw [cif_f c3], rfl, rfl⟩)

set_option maxHeartbeats 4000000 in
set_option maxRecDepth 100000 in
theorem met_X2_range (l : Launch) (D : va_G) (dA dZ : ClassId) (ad : Nat → Nat) (sz : Nat) {cod : Int32} {has up ch tol cou : Nat → Int32} {rows : Int32} (hM : mOK (has, up, ch, tol, rows)) (a fr to : Int32) : RW l yX2_range cX2_range 8 (some .int) rm_X2_range [.ref (ad 0), .int a, .int fr, .int to] D dA dZ (mdW dA dZ ad cod has up ch tol cou rows) sz (S := NS) (fun r u => r = rngS has up ch a fr to ∧ u.1 = nI 0 ∧ u.2.1 = (has, up, ch, tol, rows)) (fun u => mdU dA dZ ad u) := by
  refine Met.ofW (cc := cX2_range) (maxL := 8) (ret := (some .int)) (by decide) rfl ?_
  intro p e s m args below meth c s₁ B hml hv
  obtain ⟨rfl, hsz, hP, hK, hDT⟩ := hv
  have hx := B.exec
  have hb := B.bytes
  have hr := B.returns
  have hts : ∀ w ∈ lw_all, w.before _ s = true := fun w h => atoms_spec (ws := ws_ yX2_range cX2_range 8 (some .int)) B.pre w (List.mem_cons_of_mem _ h)
  have hown : s.vm.findClass RX2 = some m.cls := findClass_of_methodNamed B.named
  have hlocks := B.notSynchronized
  subst hsz
  have hD := hDT.self (sz := s.heap.size)
  generalize hAe : va_A (mdW dA dZ ad cod has up ch tol cou rows) s.heap.size = A at hD ⊢
  have hA : ∀ q : Nat, s.heap.size ≤ q → A q := fun q h => by rw [← hAe]; exact Or.inr h
  have hS : va_S A s.heap s.heap [] := va_S.rf
  have hl := lv_entry ([.ref (ad 0), .int a, .int fr, .int to]) (n := 8) (Nat.le_of_ble_eq_true rfl)
  rw [lg_entry_eq]
  generalize (lg_sl ([.ref (ad 0), .int a, .int fr, .int to]) ++ List.replicate (8 - (lg_sl ([.ref (ad 0), .int a, .int fr, .int to])).length) Slot.unset).toArray = ls at hl ⊢
  have hl : lv_has ls 8 [(0, .ref (ad 0)), (1, .int a), (2, .int fr), (3, .int to)] := hl
  refine lv_aload_n hx hb dX2_range_0 rfl (lv_at hl 0 rfl) ?_
  refine lv_iconst (v := nI 0) hx hb dX2_range_1 (by decide) ?_
  refine md_put_code hx hb hts hown hK hP hD hS dX2_range_2 (fun H locs hP hD hS => ?_)
  refine lv_iload_n hx hb dX2_range_5 rfl (lv_at hl 1 rfl) ?_
  refine bw_rs (rest := []) ⟨hx, hb, hml, hown, hts⟩ (met_X2_isHead l _ a) (cw_X2_34 hts ⟨Nat.le_of_ble_eq_true rfl, Nat.le_of_ble_eq_true rfl⟩) hP hS hA rfl rfl hl.1 (Nat.le_of_ble_eq_true rfl) dX2_range_6 ⟨Nat.zero_le _, Nat.zero_le _⟩ (fun r1 H locs hv2 hP hS => ?_)
  subst hv2
  refine bw_ifne hx hb (tgt := 14) dX2_range_9 (by decide) (fun c3 => ?_) (fun c3 => ?_)
  · obtain ⟨h, hh, rfl⟩ := c3
    refine lv_iconst (v := nI 0) hx hb dX2_range_14 (by decide) ?_
    refine lv_istore (lv' := [(4, .int (nI 0)), (0, .ref (ad 0)), (1, .int (nI h)), (2, .int fr), (3, .int to)]) hx hb dX2_range_15 hl (by decide) rfl (fun ls hl => ?_)
    refine lv_iconst (v := nI 0) hx hb dX2_range_17 (by decide) ?_
    refine lv_istore (lv' := [(5, .int (nI 0)), (4, .int (nI 0)), (0, .ref (ad 0)), (1, .int (nI h)), (2, .int fr), (3, .int to)]) hx hb dX2_range_18 hl (by decide) rfl (fun ls hl => ?_)
    refine w_loop (σ := Unit) 40 (fun j x0 H locs ls => lv_has ls 8 [(0, .ref (ad 0)), (1, .int (nI h)), (2, .int fr), (3, .int to), (4, .int (nI (rngN has up ch h fr to j))), (5, .int (nI j))] ∧ va_P D vwCl (mdW dA dZ ad (nI 0) has up ch tol cou rows) H ∧ va_D A (mdW dA dZ ad (nI 0) has up ch tol cou rows) ∧ va_S A s.heap H locs ∧ (True)) ?_ ?_ 0 () _ _ _ (by omega) ⟨lv_sub hl [2, 3, 4, 5, 1, 0] rfl, hP, hD, hS, trivial⟩
    · intro j x0 H locs ls hj hI hk4
      obtain ⟨hl, hP, hD, hS, hI⟩ := hI
      refine lv_iload hx hb dX2_range_20 (lv_at hl 5 rfl) ?_
      refine lv_bipush (v := nI 40) hx hb dX2_range_22 (by decide) ?_
      refine bw_ge (by omega) (by omega) hx hb (tgt := 113) dX2_range_24 (by decide) (fun c5 => ?_) (fun c5 => ?_)
      · exact absurd c5 (by omega)
      · refine lv_iconst (v := nI 0) hx hb dX2_range_27 (by decide) ?_
        refine bw_top (y := nI (bN False)) (by rw [bN_f id]) ?_
        refine lv_istore (lv' := [(6, .int (nI (bN False))), (0, .ref (ad 0)), (1, .int (nI h)), (2, .int fr), (3, .int to), (4, .int (nI (rngN has up ch h fr to j))), (5, .int (nI j))]) hx hb dX2_range_28 hl (by decide) rfl (fun ls hl => ?_)
        refine lv_iconst (v := nI 0) hx hb dX2_range_30 (by decide) ?_
        refine lv_istore (lv' := [(7, .int (nI 0)), (6, .int (nI (bN False))), (0, .ref (ad 0)), (1, .int (nI h)), (2, .int fr), (3, .int to), (4, .int (nI (rngN has up ch h fr to j))), (5, .int (nI j))]) hx hb dX2_range_31 hl (by decide) rfl (fun ls hl => ?_)
        refine w_loop (σ := Prop) 32 (fun k x H locs ls => lv_has ls 8 [(0, .ref (ad 0)), (1, .int (nI h)), (2, .int fr), (3, .int to), (4, .int (nI (rngN has up ch h fr to j))), (5, .int (nI j)), (6, .int (nI (bN x))), (7, .int (nI k))] ∧ va_P D vwCl (mdW dA dZ ad (nI 0) has up ch tol cou rows) H ∧ va_D A (mdW dA dZ ad (nI 0) has up ch tol cou rows) ∧ va_S A s.heap H locs ∧ (x ↔ ∃ v, v < k ∧ (fr ≤ nI v ∧ nI v ≤ to ∧ ow has up j h v))) ?_ ?_ 0 False _ _ _ (by omega) ⟨lv_sub hl [2, 3, 4, 5, 6, 7, 1, 0] rfl, hP, hD, hS, ⟨False.elim, fun q => ex_0 q⟩⟩
        · intro k x H locs ls hk hI hk6
          obtain ⟨hl, hP, hD, hS, hI⟩ := hI
          refine lv_iload hx hb dX2_range_33 (lv_at hl 7 rfl) ?_
          refine lv_bipush (v := nI 32) hx hb dX2_range_35 (by decide) ?_
          refine bw_ge (by omega) (by omega) hx hb (tgt := 82) dX2_range_37 (by decide) (fun c7 => ?_) (fun c7 => ?_)
          · exact absurd c7 (by omega)
          · refine w_cutH 74 ls [] (fun q9 H locs => (q9 = nI (bN (x ∨ (fr ≤ nI k ∧ nI k ≤ to ∧ ow has up j h k)))) ∧ va_P D vwCl (mdW dA dZ ad (nI 0) has up ch tol cou rows) H ∧ va_D A (mdW dA dZ ad (nI 0) has up ch tol cou rows) ∧ va_S A s.heap H locs) (fun K8 => ?_) (fun v9 H locs hv10 => ?_)
            · refine lv_iload hx hb dX2_range_40 (lv_at hl 6 rfl) ?_
              refine bw_ifne hx hb (tgt := 69) dX2_range_42 (by decide) (fun c11 => ?_) (fun c11 => ?_)
              · refine lv_iconst (v := nI 1) hx hb dX2_range_69 (by decide) ?_
                refine lv_goto (tgt := 74) hx hb dX2_range_70 (by decide) ?_
                exact K8 _ _ _ ⟨by rw [bN_t (Or.inl c11)], hP, hD, hS⟩
              · refine lv_iload hx hb dX2_range_45 (lv_at hl 7 rfl) ?_
                refine lv_iload_n hx hb dX2_range_47 rfl (lv_at hl 2 rfl) ?_
                refine lv_icmp_lt hx hb (tgt := 73) dX2_range_48 (by decide) (fun c12 => ?_) (fun c12 => ?_)
                · refine lv_iconst (v := nI 0) hx hb dX2_range_73 (by decide) ?_
                  exact K8 _ _ _ ⟨by rw [bN_f (fun q => by rcases q with q | q; exact c11 q; exact i_lt_nle c12 q.1)], hP, hD, hS⟩
                · refine lv_iload hx hb dX2_range_51 (lv_at hl 7 rfl) ?_
                  refine lv_iload_n hx hb dX2_range_53 rfl (lv_at hl 3 rfl) ?_
                  refine lv_icmp_gt hx hb (tgt := 73) dX2_range_54 (by decide) (fun c13 => ?_) (fun c13 => ?_)
                  · refine lv_iconst (v := nI 0) hx hb dX2_range_73 (by decide) ?_
                    exact K8 _ _ _ ⟨by rw [bN_f (fun q => by rcases q with q | q; exact c11 q; exact i_lt_nle c13 q.2.1)], hP, hD, hS⟩
                  · refine lv_aload_n hx hb dX2_range_57 rfl (lv_at hl 0 rfl) ?_
                    refine lv_iload hx hb dX2_range_58 (lv_at hl 5 rfl) ?_
                    refine lv_iload_n hx hb dX2_range_60 rfl (lv_at hl 1 rfl) ?_
                    refine lv_iload hx hb dX2_range_61 (lv_at hl 7 rfl) ?_
                    refine bw_ro (rest := []) ⟨hx, hb, hml, hown, hts⟩ (met_X2_owns l D dA dZ ad _ hM j h k hj hh hk) (cw_X2_51 hts ⟨Nat.le_of_ble_eq_true rfl, Nat.le_of_ble_eq_true rfl⟩) (va_recv hK hP (ci := 1) (q0 := 0) rfl rfl) hK hP (hD.weaken (fun _ _ _ _ => trivial)) hP hS hA rfl rfl hl.1 (Nat.le_of_ble_eq_true rfl) dX2_range_63 ⟨Nat.zero_le _, Nat.zero_le _⟩ (fun r14 H locs hv15 hP hS => ?_)
                    subst hv15
                    refine bw_ifeq hx hb (tgt := 73) dX2_range_66 (by decide) (fun c16 => ?_) (fun c16 => ?_)
                    · refine lv_iconst (v := nI 0) hx hb dX2_range_73 (by decide) ?_
                      exact K8 _ _ _ ⟨by rw [bN_f (fun q => by rcases q with q | q; exact c11 q; exact c16 q.2.2)], hP, hD, hS⟩
                    · refine lv_iconst (v := nI 1) hx hb dX2_range_69 (by decide) ?_
                      refine lv_goto (tgt := 74) hx hb dX2_range_70 (by decide) ?_
                      exact K8 _ _ _ ⟨by rw [bN_t (Or.inr ⟨i_nlt c12, i_nlt c13, c16⟩)], hP, hD, hS⟩
            · obtain ⟨hv10, hP, hD, hS⟩ := hv10
              subst hv10
              refine lv_istore (lv' := [(6, .int (nI (bN (x ∨ (fr ≤ nI k ∧ nI k ≤ to ∧ ow has up j h k))))), (0, .ref (ad 0)), (1, .int (nI h)), (2, .int fr), (3, .int to), (4, .int (nI (rngN has up ch h fr to j))), (5, .int (nI j)), (7, .int (nI k))]) hx hb dX2_range_74 hl (by decide) rfl (fun ls hl => ?_)
              refine lv_iinc (v := nI (k + 1)) (lv' := [(7, .int (nI (k + 1))), (6, .int (nI (bN (x ∨ (fr ≤ nI k ∧ nI k ≤ to ∧ ow has up j h k))))), (0, .ref (ad 0)), (1, .int (nI h)), (2, .int fr), (3, .int to), (4, .int (nI (rngN has up ch h fr to j))), (5, .int (nI j))]) hx hb dX2_range_76 hl (k := 7) rfl (inc1 _) (by decide) rfl (fun ls hl => ?_)
              refine lv_goto (tgt := 33) hx hb dX2_range_79 (by decide) ?_
              exact hk6 (x ∨ (fr ≤ nI k ∧ nI k ≤ to ∧ ow has up j h k)) _ _ _ ⟨lv_sub hl [2, 3, 4, 5, 6, 7, 1, 0] rfl, hP, hD, hS, by rw [ex_s, ← hI]⟩
        · intro x H locs ls hI
          obtain ⟨hl, hP, hD, hS, hI⟩ := hI
          refine lv_iload hx hb dX2_range_33 (lv_at hl 7 rfl) ?_
          refine lv_bipush (v := nI 32) hx hb dX2_range_35 (by decide) ?_
          refine bw_ge (by omega) (by omega) hx hb (tgt := 82) dX2_range_37 (by decide) (fun c17 => ?_) (fun c17 => ?_)
          · refine lv_iload hx hb dX2_range_82 (lv_at hl 4 rfl) ?_
            refine w_cutH 104 ls [.int (nI (rngN has up ch h fr to j))] (fun q9 H locs => (q9 = nI (bN ((∃ v, v < 32 ∧ fr ≤ nI v ∧ nI v ≤ to ∧ ow has up j h v) ∧ kb has up ch j h))) ∧ va_P D vwCl (mdW dA dZ ad (nI 0) has up ch tol cou rows) H ∧ va_D A (mdW dA dZ ad (nI 0) has up ch tol cou rows) ∧ va_S A s.heap H locs) (fun K18 => ?_) (fun v19 H locs hv20 => ?_)
            · refine lv_iload hx hb dX2_range_84 (lv_at hl 6 rfl) ?_
              refine bw_ifeq hx hb (tgt := 103) dX2_range_86 (by decide) (fun c21 => ?_) (fun c21 => ?_)
              · refine lv_iconst (v := nI 0) hx hb dX2_range_103 (by decide) ?_
                exact K18 _ _ _ ⟨by rw [bN_f (fun q => c21 (hI.mpr q.1))], hP, hD, hS⟩
              · refine lv_aload_n hx hb dX2_range_89 rfl (lv_at hl 0 rfl) ?_
                refine lv_iload hx hb dX2_range_90 (lv_at hl 5 rfl) ?_
                refine lv_iload_n hx hb dX2_range_92 rfl (lv_at hl 1 rfl) ?_
                refine bw_ro (rest := [.int (nI (rngN has up ch h fr to j))]) ⟨hx, hb, hml, hown, hts⟩ (met_X2_isKeptBut l D dA dZ ad _ hM j h hj (nI h) (hpN hh)) (cw_X2_58 hts ⟨Nat.le_of_ble_eq_true rfl, Nat.le_of_ble_eq_true rfl⟩) (va_recv hK hP (ci := 1) (q0 := 0) rfl rfl) hK hP (hD.weaken (fun _ _ _ _ => trivial)) hP hS hA rfl rfl hl.1 (Nat.le_of_ble_eq_true rfl) dX2_range_93 ⟨Nat.zero_le _, Nat.zero_le _⟩ (fun r22 H locs hv23 hP hS => ?_)
                subst hv23
                refine bw_ifeq hx hb (tgt := 103) dX2_range_96 (by decide) (fun c24 => ?_) (fun c24 => ?_)
                · refine lv_iconst (v := nI 0) hx hb dX2_range_103 (by decide) ?_
                  exact K18 _ _ _ ⟨by rw [bN_f (fun q => c24 q.2)], hP, hD, hS⟩
                · refine lv_iconst (v := nI 1) hx hb dX2_range_99 (by decide) ?_
                  refine lv_goto (tgt := 104) hx hb dX2_range_100 (by decide) ?_
                  exact K18 _ _ _ ⟨by rw [bN_t ⟨hI.mp c21, c24⟩], hP, hD, hS⟩
            · obtain ⟨hv20, hP, hD, hS⟩ := hv20
              subst hv20
              refine bw_add hx hb dX2_range_104 ?_
              refine lv_istore (lv' := [(4, .int (nI ((rngN has up ch h fr to j) + (bN ((∃ v, v < 32 ∧ fr ≤ nI v ∧ nI v ≤ to ∧ ow has up j h v) ∧ kb has up ch j h))))), (0, .ref (ad 0)), (1, .int (nI h)), (2, .int fr), (3, .int to), (5, .int (nI j)), (6, .int (nI (bN x))), (7, .int (nI 32))]) hx hb dX2_range_105 hl (by decide) rfl (fun ls hl => ?_)
              refine lv_iinc (v := nI (j + 1)) (lv' := [(5, .int (nI (j + 1))), (4, .int (nI ((rngN has up ch h fr to j) + (bN ((∃ v, v < 32 ∧ fr ≤ nI v ∧ nI v ≤ to ∧ ow has up j h v) ∧ kb has up ch j h))))), (0, .ref (ad 0)), (1, .int (nI h)), (2, .int fr), (3, .int to), (6, .int (nI (bN x))), (7, .int (nI 32))]) hx hb dX2_range_107 hl (k := 5) rfl (inc1 _) (by decide) rfl (fun ls hl => ?_)
              refine lv_goto (tgt := 20) hx hb dX2_range_110 (by decide) ?_
              exact hk4 () _ _ _ ⟨lv_sub hl [2, 3, 4, 5, 1, 0] rfl, hP, hD, hS, trivial⟩
          · exact absurd c17 (by omega)
    · intro x0 H locs ls hI
      obtain ⟨hl, hP, hD, hS, hI⟩ := hI
      refine lv_iload hx hb dX2_range_20 (lv_at hl 5 rfl) ?_
      refine lv_bipush (v := nI 40) hx hb dX2_range_22 (by decide) ?_
      refine bw_ge (by omega) (by omega) hx hb (tgt := 113) dX2_range_24 (by decide) (fun c25 => ?_) (fun c25 => ?_)
      · refine lv_iload hx hb dX2_range_113 (lv_at hl 4 rfl) ?_
        exact rw_iret ((nI 0, (has, up, ch, tol, rows), cou)) hx hb hr hlocks hP hD hS dX2_range_115 (⟨(rngS_g hh).symm, rfl, rfl⟩)
      · exact absurd c25 (by omega)
  · refine lv_iconst (v := (-1)) hx hb dX2_range_12 (by decide) ?_
    exact rw_iret ((nI 0, (has, up, ch, tol, rows), cou)) hx hb hr hlocks hP hD hS dX2_range_13 (⟨by unfold rngS; rw [cif_f c3], rfl, rfl⟩)

set_option maxHeartbeats 4000000 in
set_option maxRecDepth 100000 in
theorem met_X2_sum (l : Launch) (D : va_G) (dA dZ : ClassId) (ad : Nat → Nat) (sz : Nat) {cod : Int32} {has up ch tol cou : Nat → Int32} {rows : Int32} (hM : mOK (has, up, ch, tol, rows)) (a b d : Int32) : RW l yX2_sum cX2_sum 8 (some .int) rm_X2_sum [.ref (ad 0), .int a, .int b, .int d] D dA dZ (mdW dA dZ ad cod has up ch tol cou rows) sz (S := NS) (fun r u => r = sumS has up ch a b d ∧ u.1 = nI 0 ∧ u.2.1 = (has, up, ch, tol, rows)) (fun u => mdU dA dZ ad u) := by
  refine Met.ofW (cc := cX2_sum) (maxL := 8) (ret := (some .int)) (by decide) rfl ?_
  intro p e s m args below meth c s₁ B hml hv
  obtain ⟨rfl, hsz, hP, hK, hDT⟩ := hv
  have hx := B.exec
  have hb := B.bytes
  have hr := B.returns
  have hts : ∀ w ∈ lw_all, w.before _ s = true := fun w h => atoms_spec (ws := ws_ yX2_sum cX2_sum 8 (some .int)) B.pre w (List.mem_cons_of_mem _ h)
  have hown : s.vm.findClass RX2 = some m.cls := findClass_of_methodNamed B.named
  have hlocks := B.notSynchronized
  subst hsz
  have hD := hDT.self (sz := s.heap.size)
  generalize hAe : va_A (mdW dA dZ ad cod has up ch tol cou rows) s.heap.size = A at hD ⊢
  have hA : ∀ q : Nat, s.heap.size ≤ q → A q := fun q h => by rw [← hAe]; exact Or.inr h
  have hS : va_S A s.heap s.heap [] := va_S.rf
  have hl := lv_entry ([.ref (ad 0), .int a, .int b, .int d]) (n := 8) (Nat.le_of_ble_eq_true rfl)
  rw [lg_entry_eq]
  generalize (lg_sl ([.ref (ad 0), .int a, .int b, .int d]) ++ List.replicate (8 - (lg_sl ([.ref (ad 0), .int a, .int b, .int d])).length) Slot.unset).toArray = ls at hl ⊢
  have hl : lv_has ls 8 [(0, .ref (ad 0)), (1, .int a), (2, .int b), (3, .int d)] := hl
  refine lv_aload_n hx hb dX2_sum_0 rfl (lv_at hl 0 rfl) ?_
  refine lv_iconst (v := nI 0) hx hb dX2_sum_1 (by decide) ?_
  refine md_put_code hx hb hts hown hK hP hD hS dX2_sum_2 (fun H locs hP hD hS => ?_)
  refine lv_iload_n hx hb dX2_sum_5 rfl (lv_at hl 1 rfl) ?_
  refine bw_rs (rest := []) ⟨hx, hb, hml, hown, hts⟩ (met_X2_isHead l _ a) (cw_X2_34 hts ⟨Nat.le_of_ble_eq_true rfl, Nat.le_of_ble_eq_true rfl⟩) hP hS hA rfl rfl hl.1 (Nat.le_of_ble_eq_true rfl) dX2_sum_6 ⟨Nat.zero_le _, Nat.zero_le _⟩ (fun r1 H locs hv2 hP hS => ?_)
  subst hv2
  refine bw_ifeq hx hb (tgt := 26) dX2_sum_9 (by decide) (fun c3 => ?_) (fun c3 => ?_)
  · refine lv_iconst (v := (-1)) hx hb dX2_sum_26 (by decide) ?_
    exact rw_iret ((nI 0, (has, up, ch, tol, rows), cou)) hx hb hr hlocks hP hD hS dX2_sum_27 (⟨by unfold sumS; rw [cif_f (fun q => c3 q.1)], rfl, rfl⟩)
  · refine lv_iload_n hx hb dX2_sum_12 rfl (lv_at hl 2 rfl) ?_
    refine bw_rs (rest := []) ⟨hx, hb, hml, hown, hts⟩ (met_X2_isValue l _ b) (cw_X2_37 hts ⟨Nat.le_of_ble_eq_true rfl, Nat.le_of_ble_eq_true rfl⟩) hP hS hA rfl rfl hl.1 (Nat.le_of_ble_eq_true rfl) dX2_sum_13 ⟨Nat.zero_le _, Nat.zero_le _⟩ (fun r4 H locs hv5 hP hS => ?_)
    subst hv5
    refine bw_ifeq hx hb (tgt := 26) dX2_sum_16 (by decide) (fun c6 => ?_) (fun c6 => ?_)
    · refine lv_iconst (v := (-1)) hx hb dX2_sum_26 (by decide) ?_
      exact rw_iret ((nI 0, (has, up, ch, tol, rows), cou)) hx hb hr hlocks hP hD hS dX2_sum_27 (⟨by unfold sumS; rw [cif_f (fun q => c6 q.2.1)], rfl, rfl⟩)
    · refine lv_iload_n hx hb dX2_sum_19 rfl (lv_at hl 3 rfl) ?_
      refine bw_rs (rest := []) ⟨hx, hb, hml, hown, hts⟩ (met_X2_isHead l _ d) (cw_X2_34 hts ⟨Nat.le_of_ble_eq_true rfl, Nat.le_of_ble_eq_true rfl⟩) hP hS hA rfl rfl hl.1 (Nat.le_of_ble_eq_true rfl) dX2_sum_20 ⟨Nat.zero_le _, Nat.zero_le _⟩ (fun r7 H locs hv8 hP hS => ?_)
      subst hv8
      refine bw_ifne hx hb (tgt := 28) dX2_sum_23 (by decide) (fun c9 => ?_) (fun c9 => ?_)
      · obtain ⟨h, hh, rfl⟩ := c3
        obtain ⟨v, hv, rfl⟩ := c6
        obtain ⟨o, ho, rfl⟩ := c9
        refine lv_iconst (v := nI 0) hx hb dX2_sum_28 (by decide) ?_
        refine lv_istore (lv' := [(4, .int (nI 0)), (0, .ref (ad 0)), (1, .int (nI h)), (2, .int (nI v)), (3, .int (nI o))]) hx hb dX2_sum_29 hl (by decide) rfl (fun ls hl => ?_)
        refine lv_iconst (v := nI 0) hx hb dX2_sum_31 (by decide) ?_
        refine lv_istore (lv' := [(5, .int (nI 0)), (4, .int (nI 0)), (0, .ref (ad 0)), (1, .int (nI h)), (2, .int (nI v)), (3, .int (nI o))]) hx hb dX2_sum_32 hl (by decide) rfl (fun ls hl => ?_)
        refine w_loop (σ := Nat) 40 (fun j x H locs ls => lv_has ls 8 [(0, .ref (ad 0)), (1, .int (nI h)), (2, .int (nI v)), (3, .int (nI o)), (4, .int (nI x)), (5, .int (nI j))] ∧ va_P D vwCl (mdW dA dZ ad (nI 0) has up ch tol cou rows) H ∧ va_D A (mdW dA dZ ad (nI 0) has up ch tol cou rows) ∧ va_S A s.heap H locs ∧ (x = sumN has up ch h v o j)) ?_ ?_ 0 0 _ _ _ (by omega) ⟨lv_sub hl [2, 3, 4, 5, 1, 0] rfl, hP, hD, hS, rfl⟩
        · intro j x H locs ls hj hI hk10
          obtain ⟨hl, hP, hD, hS, hI⟩ := hI
          refine lv_iload hx hb dX2_sum_34 (lv_at hl 5 rfl) ?_
          refine lv_bipush (v := nI 40) hx hb dX2_sum_36 (by decide) ?_
          refine bw_ge (by omega) (by omega) hx hb (tgt := 119) dX2_sum_38 (by decide) (fun c11 => ?_) (fun c11 => ?_)
          · exact absurd c11 (by omega)
          · refine lv_aload_n hx hb dX2_sum_41 rfl (lv_at hl 0 rfl) ?_
            refine lv_iload hx hb dX2_sum_42 (lv_at hl 5 rfl) ?_
            refine lv_iload_n hx hb dX2_sum_44 rfl (lv_at hl 1 rfl) ?_
            refine lv_iload_n hx hb dX2_sum_45 rfl (lv_at hl 2 rfl) ?_
            refine bw_ro (rest := []) ⟨hx, hb, hml, hown, hts⟩ (met_X2_owns l D dA dZ ad _ hM j h v hj hh hv) (cw_X2_51 hts ⟨Nat.le_of_ble_eq_true rfl, Nat.le_of_ble_eq_true rfl⟩) (va_recv hK hP (ci := 1) (q0 := 0) rfl rfl) hK hP (hD.weaken (fun _ _ _ _ => trivial)) hP hS hA rfl rfl hl.1 (Nat.le_of_ble_eq_true rfl) dX2_sum_46 ⟨Nat.zero_le _, Nat.zero_le _⟩ (fun r12 H locs hv13 hP hS => ?_)
            subst hv13
            refine w_cutH 67 ls [] (fun q9 H locs => (q9 = nI (bN (ow has up j h v ∧ kb has up ch j 8))) ∧ va_P D vwCl (mdW dA dZ ad (nI 0) has up ch tol cou rows) H ∧ va_D A (mdW dA dZ ad (nI 0) has up ch tol cou rows) ∧ va_S A s.heap H locs) (fun K14 => ?_) (fun v15 H locs hv16 => ?_)
            · refine bw_ifeq hx hb (tgt := 66) dX2_sum_49 (by decide) (fun c17 => ?_) (fun c17 => ?_)
              · refine lv_iconst (v := nI 0) hx hb dX2_sum_66 (by decide) ?_
                exact K14 _ _ _ ⟨by rw [bN_f (fun q => c17 q.1)], hP, hD, hS⟩
              · refine lv_aload_n hx hb dX2_sum_52 rfl (lv_at hl 0 rfl) ?_
                refine lv_iload hx hb dX2_sum_53 (lv_at hl 5 rfl) ?_
                refine lv_iconst (v := (-1)) hx hb dX2_sum_55 (by decide) ?_
                refine bw_ro (rest := []) ⟨hx, hb, hml, hown, hts⟩ (met_X2_isKeptBut l D dA dZ ad _ hM j 8 hj (-1) hpM) (cw_X2_58 hts ⟨Nat.le_of_ble_eq_true rfl, Nat.le_of_ble_eq_true rfl⟩) (va_recv hK hP (ci := 1) (q0 := 0) rfl rfl) hK hP (hD.weaken (fun _ _ _ _ => trivial)) hP hS hA rfl rfl hl.1 (Nat.le_of_ble_eq_true rfl) dX2_sum_56 ⟨Nat.zero_le _, Nat.zero_le _⟩ (fun r18 H locs hv19 hP hS => ?_)
                subst hv19
                refine bw_ifeq hx hb (tgt := 66) dX2_sum_59 (by decide) (fun c20 => ?_) (fun c20 => ?_)
                · refine lv_iconst (v := nI 0) hx hb dX2_sum_66 (by decide) ?_
                  exact K14 _ _ _ ⟨by rw [bN_f (fun q => c20 q.2)], hP, hD, hS⟩
                · refine lv_iconst (v := nI 1) hx hb dX2_sum_62 (by decide) ?_
                  refine lv_goto (tgt := 67) hx hb dX2_sum_63 (by decide) ?_
                  exact K14 _ _ _ ⟨by rw [bN_t ⟨c17, c20⟩], hP, hD, hS⟩
            · obtain ⟨hv16, hP, hD, hS⟩ := hv16
              subst hv16
              refine lv_istore (lv' := [(6, .int (nI (bN (ow has up j h v ∧ kb has up ch j 8)))), (0, .ref (ad 0)), (1, .int (nI h)), (2, .int (nI v)), (3, .int (nI o)), (4, .int (nI x)), (5, .int (nI j))]) hx hb dX2_sum_67 hl (by decide) rfl (fun ls hl => ?_)
              refine lv_iconst (v := nI 0) hx hb dX2_sum_69 (by decide) ?_
              refine lv_istore (lv' := [(7, .int (nI 0)), (6, .int (nI (bN (ow has up j h v ∧ kb has up ch j 8)))), (0, .ref (ad 0)), (1, .int (nI h)), (2, .int (nI v)), (3, .int (nI o)), (4, .int (nI x)), (5, .int (nI j))]) hx hb dX2_sum_70 hl (by decide) rfl (fun ls hl => ?_)
              by_cases hq : (ow has up j h v ∧ kb has up ch j 8)
              · have hJ := hI
                refine w_loop (σ := Nat) 32 (fun k y H locs ls => lv_has ls 8 [(0, .ref (ad 0)), (1, .int (nI h)), (2, .int (nI v)), (3, .int (nI o)), (4, .int (nI y)), (5, .int (nI j)), (6, .int (nI (bN (ow has up j h v ∧ kb has up ch j 8)))), (7, .int (nI k))] ∧ va_P D vwCl (mdW dA dZ ad (nI 0) has up ch tol cou rows) H ∧ va_D A (mdW dA dZ ad (nI 0) has up ch tol cou rows) ∧ va_S A s.heap H locs ∧ (y = x + wsm has up j o k)) ?_ ?_ 0 x _ _ _ (by omega) ⟨lv_sub hl [2, 3, 4, 5, 6, 7, 1, 0] rfl, hP, hD, hS, rfl⟩
                · intro k y H locs ls hk hI hk21
                  obtain ⟨hl, hP, hD, hS, hI⟩ := hI
                  refine lv_iload hx hb dX2_sum_72 (lv_at hl 7 rfl) ?_
                  refine lv_bipush (v := nI 32) hx hb dX2_sum_74 (by decide) ?_
                  refine bw_ge (by omega) (by omega) hx hb (tgt := 113) dX2_sum_76 (by decide) (fun c22 => ?_) (fun c22 => ?_)
                  · exact absurd c22 (by omega)
                  · refine lv_iload hx hb dX2_sum_79 (lv_at hl 6 rfl) ?_
                    refine bw_ifeq hx hb (tgt := 113) dX2_sum_81 (by decide) (fun c23 => ?_) (fun c23 => ?_)
                    · exact absurd hq c23
                    · refine lv_iload hx hb dX2_sum_84 (lv_at hl 4 rfl) ?_
                      refine lv_aload_n hx hb dX2_sum_86 rfl (lv_at hl 0 rfl) ?_
                      refine lv_iload hx hb dX2_sum_87 (lv_at hl 5 rfl) ?_
                      refine lv_iload_n hx hb dX2_sum_89 rfl (lv_at hl 3 rfl) ?_
                      refine lv_iload hx hb dX2_sum_90 (lv_at hl 7 rfl) ?_
                      refine bw_ro (rest := [.int (nI y)]) ⟨hx, hb, hml, hown, hts⟩ (met_X2_owns l D dA dZ ad _ hM j o k hj ho hk) (cw_X2_51 hts ⟨Nat.le_of_ble_eq_true rfl, Nat.le_of_ble_eq_true rfl⟩) (va_recv hK hP (ci := 1) (q0 := 0) rfl rfl) hK hP (hD.weaken (fun _ _ _ _ => trivial)) hP hS hA rfl rfl hl.1 (Nat.le_of_ble_eq_true rfl) dX2_sum_92 ⟨Nat.zero_le _, Nat.zero_le _⟩ (fun r24 H locs hv25 hP hS => ?_)
                      subst hv25
                      refine w_cutH 104 ls [.int (nI y)] (fun q9 H locs => (q9 = nI (bN (ow has up j o k) * k)) ∧ va_P D vwCl (mdW dA dZ ad (nI 0) has up ch tol cou rows) H ∧ va_D A (mdW dA dZ ad (nI 0) has up ch tol cou rows) ∧ va_S A s.heap H locs) (fun K26 => ?_) (fun v27 H locs hv28 => ?_)
                      · refine bw_ifeq hx hb (tgt := 103) dX2_sum_95 (by decide) (fun c29 => ?_) (fun c29 => ?_)
                        · refine lv_iconst (v := nI 0) hx hb dX2_sum_103 (by decide) ?_
                          exact K26 _ _ _ ⟨by rw [bN_f c29, Nat.zero_mul], hP, hD, hS⟩
                        · refine lv_iload hx hb dX2_sum_98 (lv_at hl 7 rfl) ?_
                          refine lv_goto (tgt := 104) hx hb dX2_sum_100 (by decide) ?_
                          exact K26 _ _ _ ⟨by rw [bN_t c29, Nat.one_mul], hP, hD, hS⟩
                      · obtain ⟨hv28, hP, hD, hS⟩ := hv28
                        subst hv28
                        refine bw_add hx hb dX2_sum_104 ?_
                        refine lv_istore (lv' := [(4, .int (nI (y + (bN (ow has up j o k) * k)))), (0, .ref (ad 0)), (1, .int (nI h)), (2, .int (nI v)), (3, .int (nI o)), (5, .int (nI j)), (6, .int (nI (bN (ow has up j h v ∧ kb has up ch j 8)))), (7, .int (nI k))]) hx hb dX2_sum_105 hl (by decide) rfl (fun ls hl => ?_)
                        refine lv_iinc (v := nI (k + 1)) (lv' := [(7, .int (nI (k + 1))), (4, .int (nI (y + (bN (ow has up j o k) * k)))), (0, .ref (ad 0)), (1, .int (nI h)), (2, .int (nI v)), (3, .int (nI o)), (5, .int (nI j)), (6, .int (nI (bN (ow has up j h v ∧ kb has up ch j 8))))]) hx hb dX2_sum_107 hl (k := 7) rfl (inc1 _) (by decide) rfl (fun ls hl => ?_)
                        refine lv_goto (tgt := 72) hx hb dX2_sum_110 (by decide) ?_
                        exact hk21 (y + bN (ow has up j o k) * k) _ _ _ ⟨lv_sub hl [2, 3, 4, 5, 1, 6, 7, 0] rfl, hP, hD, hS, wsm_s hI Iff.rfl⟩
                · intro y H locs ls hI
                  obtain ⟨hl, hP, hD, hS, hI⟩ := hI
                  refine lv_iload hx hb dX2_sum_72 (lv_at hl 7 rfl) ?_
                  refine lv_bipush (v := nI 32) hx hb dX2_sum_74 (by decide) ?_
                  refine bw_ge (by omega) (by omega) hx hb (tgt := 113) dX2_sum_76 (by decide) (fun c30 => ?_) (fun c30 => ?_)
                  · refine lv_iinc (v := nI (j + 1)) (lv' := [(5, .int (nI (j + 1))), (0, .ref (ad 0)), (1, .int (nI h)), (2, .int (nI v)), (3, .int (nI o)), (4, .int (nI y)), (6, .int (nI (bN (ow has up j h v ∧ kb has up ch j 8)))), (7, .int (nI 32))]) hx hb dX2_sum_113 hl (k := 5) rfl (inc1 _) (by decide) rfl (fun ls hl => ?_)
                    refine lv_goto (tgt := 34) hx hb dX2_sum_116 (by decide) ?_
                    exact hk10 y _ _ _ ⟨lv_sub hl [1, 2, 3, 4, 5, 0] rfl, hP, hD, hS, sum_y hJ hq hI⟩
                  · exact absurd c30 (by omega)
              · refine lv_iload hx hb dX2_sum_72 (lv_at hl 0 rfl) ?_
                refine lv_bipush (v := nI 32) hx hb dX2_sum_74 (by decide) ?_
                refine bw_ge (by omega) (by omega) hx hb (tgt := 113) dX2_sum_76 (by decide) (fun c31 => ?_) (fun c31 => ?_)
                · exact absurd c31 (by omega)
                · refine lv_iload hx hb dX2_sum_79 (lv_at hl 1 rfl) ?_
                  refine bw_ifeq hx hb (tgt := 113) dX2_sum_81 (by decide) (fun c32 => ?_) (fun c32 => ?_)
                  · refine lv_iinc (v := nI (j + 1)) (lv' := [(5, .int (nI (j + 1))), (7, .int (nI 0)), (6, .int (nI (bN (ow has up j h v ∧ kb has up ch j 8)))), (0, .ref (ad 0)), (1, .int (nI h)), (2, .int (nI v)), (3, .int (nI o)), (4, .int (nI x))]) hx hb dX2_sum_113 hl (k := 7) rfl (inc1 _) (by decide) rfl (fun ls hl => ?_)
                    refine lv_goto (tgt := 34) hx hb dX2_sum_116 (by decide) ?_
                    exact hk10 x _ _ _ ⟨lv_sub hl [3, 4, 5, 6, 7, 0] rfl, hP, hD, hS, sum_n hI hq⟩
                  · exact absurd c32 hq
        · intro x H locs ls hI
          obtain ⟨hl, hP, hD, hS, hI⟩ := hI
          refine lv_iload hx hb dX2_sum_34 (lv_at hl 5 rfl) ?_
          refine lv_bipush (v := nI 40) hx hb dX2_sum_36 (by decide) ?_
          refine bw_ge (by omega) (by omega) hx hb (tgt := 119) dX2_sum_38 (by decide) (fun c33 => ?_) (fun c33 => ?_)
          · refine lv_iload hx hb dX2_sum_119 (lv_at hl 4 rfl) ?_
            exact rw_iret ((nI 0, (has, up, ch, tol, rows), cou)) hx hb hr hlocks hP hD hS dX2_sum_121 (⟨by rw [sumS_g hh hv ho, hI], rfl, rfl⟩)
          · exact absurd c33 (by omega)
      · refine lv_iconst (v := (-1)) hx hb dX2_sum_26 (by decide) ?_
        exact rw_iret ((nI 0, (has, up, ch, tol, rows), cou)) hx hb hr hlocks hP hD hS dX2_sum_27 (⟨by unfold sumS; rw [cif_f (fun q => c9 q.2.2)], rfl, rfl⟩)

set_option maxHeartbeats 4000000 in
set_option maxRecDepth 100000 in
theorem met_X2_changed (l : Launch) (D : va_G) (dA dZ : ClassId) (ad : Nat → Nat) (sz : Nat) {cod : Int32} {has up ch tol cou : Nat → Int32} {rows : Int32} (hM : mOK (has, up, ch, tol, rows))  : RW l yX2_changed cX2_changed 5 (some .int) rm_X2_changed [.ref (ad 0)] D dA dZ (mdW dA dZ ad cod has up ch tol cou rows) sz (S := NS) (fun r u => r = (chgS has up ch tol rows).1 ∧ u.1 = nI 0 ∧ u.2.1 = (chgS has up ch tol rows).2) (fun u => mdU dA dZ ad u) := by
  refine Met.ofW (cc := cX2_changed) (maxL := 5) (ret := (some .int)) (by decide) rfl ?_
  intro p e s m args below meth c s₁ B hml hv
  obtain ⟨rfl, hsz, hP, hK, hDT⟩ := hv
  have hx := B.exec
  have hb := B.bytes
  have hr := B.returns
  have hts : ∀ w ∈ lw_all, w.before _ s = true := fun w h => atoms_spec (ws := ws_ yX2_changed cX2_changed 5 (some .int)) B.pre w (List.mem_cons_of_mem _ h)
  have hown : s.vm.findClass RX2 = some m.cls := findClass_of_methodNamed B.named
  have hlocks := B.notSynchronized
  subst hsz
  have hD := hDT.self (sz := s.heap.size)
  generalize hAe : va_A (mdW dA dZ ad cod has up ch tol cou rows) s.heap.size = A at hD ⊢
  have hA : ∀ q : Nat, s.heap.size ≤ q → A q := fun q h => by rw [← hAe]; exact Or.inr h
  have hS : va_S A s.heap s.heap [] := va_S.rf
  have hl := lv_entry ([.ref (ad 0)]) (n := 5) (Nat.le_of_ble_eq_true rfl)
  rw [lg_entry_eq]
  generalize (lg_sl ([.ref (ad 0)]) ++ List.replicate (5 - (lg_sl ([.ref (ad 0)])).length) Slot.unset).toArray = ls at hl ⊢
  have hl : lv_has ls 5 [(0, .ref (ad 0))] := hl
  refine lv_aload_n hx hb dX2_changed_0 rfl (lv_at hl 0 rfl) ?_
  refine lv_iconst (v := nI 0) hx hb dX2_changed_1 (by decide) ?_
  refine md_put_code hx hb hts hown hK hP hD hS dX2_changed_2 (fun H locs hP hD hS => ?_)
  refine lv_iconst (v := nI 0) hx hb dX2_changed_5 (by decide) ?_
  refine lv_istore_n (lv' := [(1, .int (nI 0)), (0, .ref (ad 0))]) hx hb dX2_changed_6 rfl hl (by decide) rfl (fun ls hl => ?_)
  refine lv_iconst (v := nI 0) hx hb dX2_changed_7 (by decide) ?_
  refine lv_istore_n (lv' := [(2, .int (nI 0)), (1, .int (nI 0)), (0, .ref (ad 0))]) hx hb dX2_changed_8 rfl hl (by decide) rfl (fun ls hl => ?_)
  have e0 : chgT has up ch tol (32 * 0) = tol := funext (fun i => chgT_n (Nat.zero_le i))
  rw [← e0] at hP hD
  refine w_loop (σ := Unit) 8 (fun i x1 H locs ls => lv_has ls 5 [(0, .ref (ad 0)), (1, .int (nI (chgN has up ch tol (32 * i)))), (2, .int (nI i))] ∧ va_P D vwCl (mdW dA dZ ad (nI 0) has up ch (chgT has up ch tol (32 * i)) cou rows) H ∧ va_D A (mdW dA dZ ad (nI 0) has up ch (chgT has up ch tol (32 * i)) cou rows) ∧ va_S A s.heap H locs ∧ (True)) ?_ ?_ 0 () _ _ _ (by omega) ⟨lv_sub hl [2, 1, 0] rfl, hP, hD, hS, trivial⟩
  · intro i x1 H locs ls hi hI hk1
    obtain ⟨hl, hP, hD, hS, hI⟩ := hI
    refine lv_iload_n hx hb dX2_changed_9 rfl (lv_at hl 2 rfl) ?_
    refine lv_bipush (v := nI 8) hx hb dX2_changed_10 (by decide) ?_
    refine bw_ge (by omega) (by omega) hx hb (tgt := 80) dX2_changed_12 (by decide) (fun c2 => ?_) (fun c2 => ?_)
    · exact absurd c2 (by omega)
    · refine lv_iconst (v := nI 0) hx hb dX2_changed_15 (by decide) ?_
      refine lv_istore_n (lv' := [(3, .int (nI 0)), (0, .ref (ad 0)), (1, .int (nI (chgN has up ch tol (32 * i)))), (2, .int (nI i))]) hx hb dX2_changed_16 rfl hl (by decide) rfl (fun ls hl => ?_)
      refine w_loop (σ := Unit) 32 (fun j x2 H locs ls => lv_has ls 5 [(0, .ref (ad 0)), (1, .int (nI (chgN has up ch tol (32 * i + j)))), (2, .int (nI i)), (3, .int (nI j))] ∧ va_P D vwCl (mdW dA dZ ad (nI 0) has up ch (chgT has up ch tol (32 * i + j)) cou rows) H ∧ va_D A (mdW dA dZ ad (nI 0) has up ch (chgT has up ch tol (32 * i + j)) cou rows) ∧ va_S A s.heap H locs ∧ (True)) ?_ ?_ 0 () _ _ _ (by omega) ⟨lv_sub hl [1, 2, 3, 0] rfl, hP, hD, hS, trivial⟩
      · intro j x2 H locs ls hj hI hk3
        obtain ⟨hl, hP, hD, hS, hI⟩ := hI
        refine lv_iload_n hx hb dX2_changed_17 rfl (lv_at hl 3 rfl) ?_
        refine lv_bipush (v := nI 32) hx hb dX2_changed_18 (by decide) ?_
        refine bw_ge (by omega) (by omega) hx hb (tgt := 74) dX2_changed_20 (by decide) (fun c4 => ?_) (fun c4 => ?_)
        · exact absurd c4 (by omega)
        · refine lv_aload_n hx hb dX2_changed_23 rfl (lv_at hl 0 rfl) ?_
          refine lv_iload_n hx hb dX2_changed_24 rfl (lv_at hl 2 rfl) ?_
          refine lv_iload_n hx hb dX2_changed_25 rfl (lv_at hl 3 rfl) ?_
          have hM2 : mOK (has, up, ch, chgT has up ch tol (32 * i + j), rows) := ⟨hM.1, hM.2.1, hM.2.2⟩
          refine bw_ro (rest := []) ⟨hx, hb, hml, hown, hts⟩ (met_X2_count l D dA dZ ad _ hM2 i j hi hj) (cw_X2_65 hts ⟨Nat.le_of_ble_eq_true rfl, Nat.le_of_ble_eq_true rfl⟩) (va_recv hK hP (ci := 1) (q0 := 0) rfl rfl) hK hP (hD.weaken (fun _ _ _ _ => trivial)) hP hS hA rfl rfl hl.1 (Nat.le_of_ble_eq_true rfl) dX2_changed_26 ⟨Nat.zero_le _, Nat.zero_le _⟩ (fun r5 H locs hv6 hP hS => ?_)
          subst hv6
          have e1 : cN has up ch i j = cI has up ch (32 * i + j) := (cI_at hj).symm
          rw [e1]
          refine lv_istore (lv' := [(4, .int (nI (cI has up ch (32 * i + j)))), (0, .ref (ad 0)), (1, .int (nI (chgN has up ch tol (32 * i + j)))), (2, .int (nI i)), (3, .int (nI j))]) hx hb dX2_changed_29 hl (by decide) rfl (fun ls hl => ?_)
          refine lv_iload_n hx hb dX2_changed_31 rfl (lv_at hl 2 rfl) ?_
          refine lv_iload hx hb dX2_changed_32 (lv_at hl 0 rfl) ?_
          refine lv_aload_n hx hb dX2_changed_34 rfl (lv_at hl 1 rfl) ?_
          refine md_told hx hb hts hown hK hP dX2_changed_35 ?_
          refine lv_bipush (v := nI 32) hx hb dX2_changed_38 (by decide) ?_
          refine lv_iload_n hx hb dX2_changed_40 rfl (lv_at hl 3 rfl) ?_
          refine bw_mul hx hb dX2_changed_41 ?_
          refine lv_iload_n hx hb dX2_changed_42 rfl (lv_at hl 4 rfl) ?_
          refine bw_add hx hb dX2_changed_43 ?_
          refine bw_iald hx hb hK hP 4 rfl (((32 * i) + j)) (by omega) (by decide) dX2_changed_44 ?_
          refine bw_top (y := tol (32 * i + j)) (chgT_n (Nat.le_refl _)) ?_
          refine w_cut 53 ls [.int (nI (chgN has up ch tol (32 * i + j)))] (fun q9 => q9 = nI (bN (¬ nI (cI has up ch (32 * i + j)) = tol (32 * i + j)))) (fun K7 => ?_) (fun v8 hv9 => ?_)
          · refine lv_icmp_eq hx hb (tgt := 52) dX2_changed_45 (by decide) (fun c10 => ?_) (fun c10 => ?_)
            · refine lv_iconst (v := nI 0) hx hb dX2_changed_52 (by decide) ?_
              exact K7 _ (by rw [bN_f (fun q => q c10)])
            · refine lv_iconst (v := nI 1) hx hb dX2_changed_48 (by decide) ?_
              refine lv_goto (tgt := 53) hx hb dX2_changed_49 (by decide) ?_
              exact K7 _ (by rw [bN_t c10])
          · subst hv9
            refine bw_add hx hb dX2_changed_53 ?_
            refine lv_istore_n (lv' := [(1, .int (nI ((chgN has up ch tol (32 * i + j)) + (bN (¬ nI (cI has up ch (32 * i + j)) = tol (32 * i + j)))))), (4, .int (nI (cI has up ch (32 * i + j)))), (0, .ref (ad 0)), (2, .int (nI i)), (3, .int (nI j))]) hx hb dX2_changed_54 rfl hl (by decide) rfl (fun ls hl => ?_)
            refine lv_aload_n hx hb dX2_changed_55 rfl (lv_at hl 2 rfl) ?_
            refine md_told hx hb hts hown hK hP dX2_changed_56 ?_
            refine lv_bipush (v := nI 32) hx hb dX2_changed_59 (by decide) ?_
            refine lv_iload_n hx hb dX2_changed_61 rfl (lv_at hl 3 rfl) ?_
            refine bw_mul hx hb dX2_changed_62 ?_
            refine lv_iload_n hx hb dX2_changed_63 rfl (lv_at hl 4 rfl) ?_
            refine bw_add hx hb dX2_changed_64 ?_
            refine lv_iload hx hb dX2_changed_65 (lv_at hl 1 rfl) ?_
            refine bw_iast hx hb hK hP hD hS 4 rfl (((32 * i) + j)) (by omega) (by decide) dX2_changed_67 (fun H locs hP hD hS => ?_)
            have hP : va_P D vwCl (mdW dA dZ ad (nI 0) has up ch (upd (chgT has up ch tol (32 * i + j)) (((32 * i) + j)) (nI (cI has up ch (32 * i + j)))) cou rows) H := hP
            have hD : va_D A (mdW dA dZ ad (nI 0) has up ch (upd (chgT has up ch tol (32 * i + j)) (((32 * i) + j)) (nI (cI has up ch (32 * i + j)))) cou rows) := hD
            rw [chgT_s] at hP hD
            refine lv_iinc (v := nI (j + 1)) (lv' := [(3, .int (nI (j + 1))), (1, .int (nI ((chgN has up ch tol (32 * i + j)) + (bN (¬ nI (cI has up ch (32 * i + j)) = tol (32 * i + j)))))), (4, .int (nI (cI has up ch (32 * i + j)))), (0, .ref (ad 0)), (2, .int (nI i))]) hx hb dX2_changed_68 hl (k := 4) rfl (inc1 _) (by decide) rfl (fun ls hl => ?_)
            refine lv_goto (tgt := 17) hx hb dX2_changed_71 (by decide) ?_
            exact hk3 () _ _ _ ⟨lv_sub hl [3, 1, 4, 0] rfl, hP, hD, hS, trivial⟩
      · intro x2 H locs ls hI
        obtain ⟨hl, hP, hD, hS, hI⟩ := hI
        refine lv_iload_n hx hb dX2_changed_17 rfl (lv_at hl 3 rfl) ?_
        refine lv_bipush (v := nI 32) hx hb dX2_changed_18 (by decide) ?_
        refine bw_ge (by omega) (by omega) hx hb (tgt := 74) dX2_changed_20 (by decide) (fun c11 => ?_) (fun c11 => ?_)
        · refine lv_iinc (v := nI (i + 1)) (lv' := [(2, .int (nI (i + 1))), (0, .ref (ad 0)), (1, .int (nI (chgN has up ch tol (32 * i + 32)))), (3, .int (nI 32))]) hx hb dX2_changed_74 hl (k := 2) rfl (inc1 _) (by decide) rfl (fun ls hl => ?_)
          refine lv_goto (tgt := 9) hx hb dX2_changed_77 (by decide) ?_
          exact hk1 () _ _ _ ⟨lv_sub hl [1, 2, 0] rfl, hP, hD, hS, trivial⟩
        · exact absurd c11 (by omega)
  · intro x1 H locs ls hI
    obtain ⟨hl, hP, hD, hS, hI⟩ := hI
    refine lv_iload_n hx hb dX2_changed_9 rfl (lv_at hl 2 rfl) ?_
    refine lv_bipush (v := nI 8) hx hb dX2_changed_10 (by decide) ?_
    refine bw_ge (by omega) (by omega) hx hb (tgt := 80) dX2_changed_12 (by decide) (fun c12 => ?_) (fun c12 => ?_)
    · refine lv_iload_n hx hb dX2_changed_80 rfl (lv_at hl 1 rfl) ?_
      exact rw_iret ((nI 0, (has, up, ch, chgT has up ch tol (32 * 8), rows), cou)) hx hb hr hlocks hP hD hS dX2_changed_81 (⟨rfl, rfl, rfl⟩)
    · exact absurd c12 (by omega)

/-- what share leaves: the answer and the code, by what was to be told -/
def shrP (o : Option Int32) (r cod : Int32) : Prop := match o with
  | none => r = nI 0 ∧ cod = nI 1
  | some x => r = x ∧ cod = nI 0
set_option maxHeartbeats 4000000 in
set_option maxRecDepth 100000 in
theorem met_X2_share (l : Launch) (D : va_G) (dA dZ : ClassId) (ad : Nat → Nat) (sz : Nat) {cod : Int32} {has up ch tol cou : Nat → Int32} {rows : Int32} (hM : mOK (has, up, ch, tol, rows)) (a b : Int32) (lower : Prop) : RW l yX2_share cX2_share 8 (some .int) rm_X2_share [.ref (ad 0), .int a, .int b, .int (nI (bN lower))] D dA dZ (mdW dA dZ ad cod has up ch tol cou rows) sz (S := NS) (fun r u => shrP (shrS has up ch a b lower) r u.1 ∧ u.2.1 = (has, up, ch, tol, rows)) (fun u => mdU dA dZ ad u) := by
  refine Met.ofW (cc := cX2_share) (maxL := 8) (ret := (some .int)) (by decide) rfl ?_
  intro p e s m args below meth c s₁ B hml hv
  obtain ⟨rfl, hsz, hP, hK, hDT⟩ := hv
  have hx := B.exec
  have hb := B.bytes
  have hr := B.returns
  have hts : ∀ w ∈ lw_all, w.before _ s = true := fun w h => atoms_spec (ws := ws_ yX2_share cX2_share 8 (some .int)) B.pre w (List.mem_cons_of_mem _ h)
  have hown : s.vm.findClass RX2 = some m.cls := findClass_of_methodNamed B.named
  have hlocks := B.notSynchronized
  subst hsz
  have hD := hDT.self (sz := s.heap.size)
  generalize hAe : va_A (mdW dA dZ ad cod has up ch tol cou rows) s.heap.size = A at hD ⊢
  have hA : ∀ q : Nat, s.heap.size ≤ q → A q := fun q h => by rw [← hAe]; exact Or.inr h
  have hS : va_S A s.heap s.heap [] := va_S.rf
  have hl := lv_entry ([.ref (ad 0), .int a, .int b, .int (nI (bN lower))]) (n := 8) (Nat.le_of_ble_eq_true rfl)
  rw [lg_entry_eq]
  generalize (lg_sl ([.ref (ad 0), .int a, .int b, .int (nI (bN lower))]) ++ List.replicate (8 - (lg_sl ([.ref (ad 0), .int a, .int b, .int (nI (bN lower))])).length) Slot.unset).toArray = ls at hl ⊢
  have hl : lv_has ls 8 [(0, .ref (ad 0)), (1, .int a), (2, .int b), (3, .int (nI (bN lower)))] := hl
  refine lv_iload_n hx hb dX2_share_0 rfl (lv_at hl 1 rfl) ?_
  refine bw_rs (rest := []) ⟨hx, hb, hml, hown, hts⟩ (met_X2_isHead l _ a) (cw_X2_34 hts ⟨Nat.le_of_ble_eq_true rfl, Nat.le_of_ble_eq_true rfl⟩) hP hS hA rfl rfl hl.1 (Nat.le_of_ble_eq_true rfl) dX2_share_1 ⟨Nat.zero_le _, Nat.zero_le _⟩ (fun r1 H locs hv2 hP hS => ?_)
  subst hv2
  refine bw_ifeq hx hb (tgt := 22) dX2_share_4 (by decide) (fun c3 => ?_) (fun c3 => ?_)
  · refine lv_iconst (v := nI 0) hx hb dX2_share_22 (by decide) ?_
    refine lv_istore (lv' := [(4, .int (nI 0)), (0, .ref (ad 0)), (1, .int a), (2, .int b), (3, .int (nI (bN lower)))]) hx hb dX2_share_23 hl (by decide) rfl (fun ls hl => ?_)
    refine lv_aload_n hx hb dX2_share_25 rfl (lv_at hl 1 rfl) ?_
    refine lv_iload hx hb dX2_share_26 (lv_at hl 0 rfl) ?_
    refine bw_ifn (by omega) hx hb (tgt := 35) dX2_share_28 (by decide) (fun c4 => ?_) (fun c4 => ?_)
    · exact absurd c4 (by omega)
    · refine lv_iconst (v := nI 1) hx hb dX2_share_31 (by decide) ?_
      refine lv_goto (tgt := 36) hx hb dX2_share_32 (by decide) ?_
      refine md_put_code hx hb hts hown hK hP hD hS dX2_share_36 (fun H locs hP hD hS => ?_)
      refine lv_aload_n hx hb dX2_share_39 rfl (lv_at hl 1 rfl) ?_
      refine md_code hx hb hts hown hK hP dX2_share_40 ?_
      refine bw_ifle (by omega) hx hb (tgt := 48) dX2_share_43 (by decide) (fun c5 => ?_) (fun c5 => ?_)
      · exact absurd c5 (by omega)
      · refine lv_iconst (v := nI 0) hx hb dX2_share_46 (by decide) ?_
        exact rw_iret ((nI 1, (has, up, ch, tol, rows), cou)) hx hb hr hlocks hP hD hS dX2_share_47 (by rw [shrS_b (fun q => c3 q.1)]; exact ⟨⟨rfl, rfl⟩, rfl⟩)
  · refine lv_iload_n hx hb dX2_share_7 rfl (lv_at hl 2 rfl) ?_
    refine bw_rs (rest := []) ⟨hx, hb, hml, hown, hts⟩ (met_X2_isValue l _ b) (cw_X2_37 hts ⟨Nat.le_of_ble_eq_true rfl, Nat.le_of_ble_eq_true rfl⟩) hP hS hA rfl rfl hl.1 (Nat.le_of_ble_eq_true rfl) dX2_share_8 ⟨Nat.zero_le _, Nat.zero_le _⟩ (fun r6 H locs hv7 hP hS => ?_)
    subst hv7
    refine bw_ifeq hx hb (tgt := 22) dX2_share_11 (by decide) (fun c8 => ?_) (fun c8 => ?_)
    · refine lv_iconst (v := nI 0) hx hb dX2_share_22 (by decide) ?_
      refine lv_istore (lv' := [(4, .int (nI 0)), (0, .ref (ad 0)), (1, .int a), (2, .int b), (3, .int (nI (bN lower)))]) hx hb dX2_share_23 hl (by decide) rfl (fun ls hl => ?_)
      refine lv_aload_n hx hb dX2_share_25 rfl (lv_at hl 1 rfl) ?_
      refine lv_iload hx hb dX2_share_26 (lv_at hl 0 rfl) ?_
      refine bw_ifn (by omega) hx hb (tgt := 35) dX2_share_28 (by decide) (fun c9 => ?_) (fun c9 => ?_)
      · exact absurd c9 (by omega)
      · refine lv_iconst (v := nI 1) hx hb dX2_share_31 (by decide) ?_
        refine lv_goto (tgt := 36) hx hb dX2_share_32 (by decide) ?_
        refine md_put_code hx hb hts hown hK hP hD hS dX2_share_36 (fun H locs hP hD hS => ?_)
        refine lv_aload_n hx hb dX2_share_39 rfl (lv_at hl 1 rfl) ?_
        refine md_code hx hb hts hown hK hP dX2_share_40 ?_
        refine bw_ifle (by omega) hx hb (tgt := 48) dX2_share_43 (by decide) (fun c10 => ?_) (fun c10 => ?_)
        · exact absurd c10 (by omega)
        · refine lv_iconst (v := nI 0) hx hb dX2_share_46 (by decide) ?_
          exact rw_iret ((nI 1, (has, up, ch, tol, rows), cou)) hx hb hr hlocks hP hD hS dX2_share_47 (by rw [shrS_b (fun q => c8 q.2)]; exact ⟨⟨rfl, rfl⟩, rfl⟩)
    · obtain ⟨h, hh, rfl⟩ := c3
      obtain ⟨v, hv, rfl⟩ := c8
      refine lv_aload_n hx hb dX2_share_14 rfl (lv_at hl 0 rfl) ?_
      refine lv_iload_n hx hb dX2_share_15 rfl (lv_at hl 1 rfl) ?_
      refine bw_ro (rest := []) ⟨hx, hb, hml, hown, hts⟩ (met_X2_all l D dA dZ ad _ hM h (nI h) (hpN hh)) (cw_X2_61 hts ⟨Nat.le_of_ble_eq_true rfl, Nat.le_of_ble_eq_true rfl⟩) (va_recv hK hP (ci := 1) (q0 := 0) rfl rfl) hK hP (hD.weaken (fun _ _ _ _ => trivial)) hP hS hA rfl rfl hl.1 (Nat.le_of_ble_eq_true rfl) dX2_share_16 ⟨Nat.zero_le _, Nat.zero_le _⟩ (fun r11 H locs hv12 hP hS => ?_)
      subst hv12
      have hle := aN_le has up ch h
      refine lv_goto (tgt := 23) hx hb dX2_share_19 (by decide) ?_
      refine lv_istore (lv' := [(4, .int (nI (aN has up ch h))), (0, .ref (ad 0)), (1, .int (nI h)), (2, .int (nI v)), (3, .int (nI (bN lower)))]) hx hb dX2_share_23 hl (by decide) rfl (fun ls hl => ?_)
      refine lv_aload_n hx hb dX2_share_25 rfl (lv_at hl 1 rfl) ?_
      refine lv_iload hx hb dX2_share_26 (lv_at hl 0 rfl) ?_
      refine bw_ifn (by omega) hx hb (tgt := 35) dX2_share_28 (by decide) (fun c13 => ?_) (fun c13 => ?_)
      · refine lv_iconst (v := nI 0) hx hb dX2_share_35 (by decide) ?_
        refine md_put_code hx hb hts hown hK hP hD hS dX2_share_36 (fun H locs hP hD hS => ?_)
        refine lv_aload_n hx hb dX2_share_39 rfl (lv_at hl 1 rfl) ?_
        refine md_code hx hb hts hown hK hP dX2_share_40 ?_
        refine bw_ifle (by omega) hx hb (tgt := 48) dX2_share_43 (by decide) (fun c14 => ?_) (fun c14 => ?_)
        · refine lv_aload_n hx hb dX2_share_48 rfl (lv_at hl 1 rfl) ?_
          refine lv_iload_n hx hb dX2_share_49 rfl (lv_at hl 2 rfl) ?_
          refine lv_iload_n hx hb dX2_share_50 rfl (lv_at hl 3 rfl) ?_
          refine bw_ro (rest := []) ⟨hx, hb, hml, hown, hts⟩ (met_X2_count l D dA dZ ad _ hM h v hh hv) (cw_X2_65 hts ⟨Nat.le_of_ble_eq_true rfl, Nat.le_of_ble_eq_true rfl⟩) (va_recv hK hP (ci := 1) (q0 := 0) rfl rfl) hK hP (hD.weaken (fun _ _ _ _ => trivial)) hP hS hA rfl rfl hl.1 (Nat.le_of_ble_eq_true rfl) dX2_share_51 ⟨Nat.zero_le _, Nat.zero_le _⟩ (fun r15 H locs hv16 hP hS => ?_)
          subst hv16
          have hle2 := cN_le has up ch h v
          have hle3 := cN_aN has up ch h v
          refine lv_istore (lv' := [(5, .int (nI (cN has up ch h v))), (4, .int (nI (aN has up ch h))), (0, .ref (ad 0)), (1, .int (nI h)), (2, .int (nI v)), (3, .int (nI (bN lower)))]) hx hb dX2_share_54 hl (by decide) rfl (fun ls hl => ?_)
          refine lv_iconst (v := nI 1) hx hb dX2_share_56 (by decide) ?_
          refine lv_istore (lv' := [(6, .int (nI 1)), (5, .int (nI (cN has up ch h v))), (4, .int (nI (aN has up ch h))), (0, .ref (ad 0)), (1, .int (nI h)), (2, .int (nI v)), (3, .int (nI (bN lower)))]) hx hb dX2_share_57 hl (by decide) rfl (fun ls hl => ?_)
          refine lv_iconst (v := nI 1) hx hb dX2_share_59 (by decide) ?_
          refine lv_istore (lv' := [(7, .int (nI 1)), (6, .int (nI 1)), (5, .int (nI (cN has up ch h v))), (4, .int (nI (aN has up ch h))), (0, .ref (ad 0)), (1, .int (nI h)), (2, .int (nI v)), (3, .int (nI (bN lower)))]) hx hb dX2_share_60 hl (by decide) rfl (fun ls hl => ?_)
          refine w_loop (σ := Nat) (aN has up ch h + 1) (fun k x H locs ls => lv_has ls 8 [(0, .ref (ad 0)), (1, .int (nI h)), (2, .int (nI v)), (3, .int (nI (bN lower))), (4, .int (nI (aN has up ch h))), (5, .int (nI (cN has up ch h v))), (6, .int (nI x)), (7, .int (nI k))] ∧ va_P D vwCl (mdW dA dZ ad (nI 0) has up ch tol cou rows) H ∧ va_D A (mdW dA dZ ad (nI 0) has up ch tol cou rows) ∧ va_S A s.heap H locs ∧ (0 < k ∧ gcI (aN has up ch h) (cN has up ch h v) k x)) ?_ ?_ 1 1 _ _ _ (by omega) ⟨lv_sub hl [4, 5, 6, 7, 3, 2, 1, 0] rfl, hP, hD, hS, ⟨Nat.one_pos, gcI_1 (by omega)⟩⟩
          · intro k x H locs ls hk hI hk17
            obtain ⟨hl, hP, hD, hS, hI⟩ := hI
            refine lv_iload hx hb dX2_share_62 (lv_at hl 7 rfl) ?_
            refine lv_iload hx hb dX2_share_64 (lv_at hl 4 rfl) ?_
            refine bw_gt (by omega) (by omega) hx hb (tgt := 100) dX2_share_66 (by decide) (fun c18 => ?_) (fun c18 => ?_)
            · exact absurd c18 (by omega)
            · obtain ⟨hk0, hI⟩ := hI
              refine lv_iload hx hb dX2_share_69 (lv_at hl 4 rfl) ?_
              refine lv_iload hx hb dX2_share_71 (lv_at hl 7 rfl) ?_
              refine lv_irem hx hb dX2_share_73 (nI_ne0 (by omega) (by omega)) ?_
              refine bw_top (y := nI ((aN has up ch h) % k)) (pk_rem (by omega) (by omega) (by omega)) ?_
              have hm1 : aN has up ch h % k < k := Nat.mod_lt _ hk0
              refine bw_ifn (by omega) hx hb (tgt := 90) dX2_share_74 (by decide) (fun c19 => ?_) (fun c19 => ?_)
              · refine lv_iload hx hb dX2_share_90 (lv_at hl 6 rfl) ?_
                refine lv_istore (lv' := [(6, .int (nI x)), (0, .ref (ad 0)), (1, .int (nI h)), (2, .int (nI v)), (3, .int (nI (bN lower))), (4, .int (nI (aN has up ch h))), (5, .int (nI (cN has up ch h v))), (7, .int (nI k))]) hx hb dX2_share_92 hl (by decide) rfl (fun ls hl => ?_)
                refine lv_iinc (v := nI (k + 1)) (lv' := [(7, .int (nI (k + 1))), (6, .int (nI x)), (0, .ref (ad 0)), (1, .int (nI h)), (2, .int (nI v)), (3, .int (nI (bN lower))), (4, .int (nI (aN has up ch h))), (5, .int (nI (cN has up ch h v)))]) hx hb dX2_share_94 hl (k := 7) rfl (inc1 _) (by decide) rfl (fun ls hl => ?_)
                refine lv_goto (tgt := 62) hx hb dX2_share_97 (by decide) ?_
                exact hk17 x _ _ _ ⟨lv_sub hl [2, 3, 4, 5, 6, 7, 1, 0] rfl, hP, hD, hS, ⟨Nat.succ_pos k, gcI_n hI (fun q => by omega)⟩⟩
              · refine lv_iload hx hb dX2_share_77 (lv_at hl 5 rfl) ?_
                refine lv_iload hx hb dX2_share_79 (lv_at hl 7 rfl) ?_
                refine lv_irem hx hb dX2_share_81 (nI_ne0 (by omega) (by omega)) ?_
                refine bw_top (y := nI ((cN has up ch h v) % k)) (pk_rem (by omega) (by omega) (by omega)) ?_
                have hm2 : cN has up ch h v % k < k := Nat.mod_lt _ hk0
                refine bw_ifn (by omega) hx hb (tgt := 90) dX2_share_82 (by decide) (fun c20 => ?_) (fun c20 => ?_)
                · refine lv_iload hx hb dX2_share_90 (lv_at hl 6 rfl) ?_
                  refine lv_istore (lv' := [(6, .int (nI x)), (0, .ref (ad 0)), (1, .int (nI h)), (2, .int (nI v)), (3, .int (nI (bN lower))), (4, .int (nI (aN has up ch h))), (5, .int (nI (cN has up ch h v))), (7, .int (nI k))]) hx hb dX2_share_92 hl (by decide) rfl (fun ls hl => ?_)
                  refine lv_iinc (v := nI (k + 1)) (lv' := [(7, .int (nI (k + 1))), (6, .int (nI x)), (0, .ref (ad 0)), (1, .int (nI h)), (2, .int (nI v)), (3, .int (nI (bN lower))), (4, .int (nI (aN has up ch h))), (5, .int (nI (cN has up ch h v)))]) hx hb dX2_share_94 hl (k := 7) rfl (inc1 _) (by decide) rfl (fun ls hl => ?_)
                  refine lv_goto (tgt := 62) hx hb dX2_share_97 (by decide) ?_
                  exact hk17 x _ _ _ ⟨lv_sub hl [2, 3, 4, 5, 6, 7, 1, 0] rfl, hP, hD, hS, ⟨Nat.succ_pos k, gcI_n hI (fun q => by omega)⟩⟩
                · refine lv_iload hx hb dX2_share_85 (lv_at hl 7 rfl) ?_
                  refine lv_goto (tgt := 92) hx hb dX2_share_87 (by decide) ?_
                  refine lv_istore (lv' := [(6, .int (nI k)), (0, .ref (ad 0)), (1, .int (nI h)), (2, .int (nI v)), (3, .int (nI (bN lower))), (4, .int (nI (aN has up ch h))), (5, .int (nI (cN has up ch h v))), (7, .int (nI k))]) hx hb dX2_share_92 hl (by decide) rfl (fun ls hl => ?_)
                  refine lv_iinc (v := nI (k + 1)) (lv' := [(7, .int (nI (k + 1))), (6, .int (nI k)), (0, .ref (ad 0)), (1, .int (nI h)), (2, .int (nI v)), (3, .int (nI (bN lower))), (4, .int (nI (aN has up ch h))), (5, .int (nI (cN has up ch h v)))]) hx hb dX2_share_94 hl (k := 7) rfl (inc1 _) (by decide) rfl (fun ls hl => ?_)
                  refine lv_goto (tgt := 62) hx hb dX2_share_97 (by decide) ?_
                  exact hk17 k _ _ _ ⟨lv_sub hl [2, 3, 4, 5, 6, 7, 1, 0] rfl, hP, hD, hS, ⟨Nat.succ_pos k, gcI_y (b := x) (by omega) hk0 c19 c20⟩⟩
          · intro x H locs ls hI
            obtain ⟨hl, hP, hD, hS, hI⟩ := hI
            refine lv_iload hx hb dX2_share_62 (lv_at hl 7 rfl) ?_
            refine lv_iload hx hb dX2_share_64 (lv_at hl 4 rfl) ?_
            refine bw_gt (by omega) (by omega) hx hb (tgt := 100) dX2_share_66 (by decide) (fun c21 => ?_) (fun c21 => ?_)
            · obtain ⟨-, hI⟩ := hI
              have hx1 := hI.1
              have hx2 := hI.2.2.2.1
              have hg := gcI_e (by omega) hI
              refine lv_iload_n hx hb dX2_share_100 rfl (lv_at hl 3 rfl) ?_
              refine bw_ifeq hx hb (tgt := 112) dX2_share_101 (by decide) (fun c22 => ?_) (fun c22 => ?_)
              · refine lv_iload hx hb dX2_share_112 (lv_at hl 5 rfl) ?_
                refine lv_iload hx hb dX2_share_114 (lv_at hl 6 rfl) ?_
                refine lv_idiv hx hb dX2_share_116 (nI_ne0 (by omega) (by omega)) ?_
                refine bw_top (y := nI ((cN has up ch h v) / x)) (pk_div (by omega) (by omega) (by omega)) ?_
                exact rw_iret ((nI 0, (has, up, ch, tol, rows), cou)) hx hb hr hlocks hP hD hS dX2_share_117 (by rw [shrS_g hh hv (by omega), cif_f c22, ← hg]; exact ⟨⟨rfl, rfl⟩, rfl⟩)
              · refine lv_iload hx hb dX2_share_104 (lv_at hl 4 rfl) ?_
                refine lv_iload hx hb dX2_share_106 (lv_at hl 6 rfl) ?_
                refine lv_idiv hx hb dX2_share_108 (nI_ne0 (by omega) (by omega)) ?_
                refine bw_top (y := nI ((aN has up ch h) / x)) (pk_div (by omega) (by omega) (by omega)) ?_
                refine lv_goto (tgt := 117) hx hb dX2_share_109 (by decide) ?_
                exact rw_iret ((nI 0, (has, up, ch, tol, rows), cou)) hx hb hr hlocks hP hD hS dX2_share_117 (by rw [shrS_g hh hv (by omega), cif_t c22, ← hg]; exact ⟨⟨rfl, rfl⟩, rfl⟩)
            · exact absurd c21 (by omega)
        · exact absurd c14 (by omega)
      · refine lv_iconst (v := nI 1) hx hb dX2_share_31 (by decide) ?_
        refine lv_goto (tgt := 36) hx hb dX2_share_32 (by decide) ?_
        refine md_put_code hx hb hts hown hK hP hD hS dX2_share_36 (fun H locs hP hD hS => ?_)
        refine lv_aload_n hx hb dX2_share_39 rfl (lv_at hl 1 rfl) ?_
        refine md_code hx hb hts hown hK hP dX2_share_40 ?_
        refine bw_ifle (by omega) hx hb (tgt := 48) dX2_share_43 (by decide) (fun c23 => ?_) (fun c23 => ?_)
        · exact absurd c23 (by omega)
        · refine lv_iconst (v := nI 0) hx hb dX2_share_46 (by decide) ?_
          exact rw_iret ((nI 1, (has, up, ch, tol, rows), cou)) hx hb hr hlocks hP hD hS dX2_share_47 (by rw [shrS_0 hh c13]; exact ⟨⟨rfl, rfl⟩, rfl⟩)
end
section
set_option maxRecDepth 100000
/-! ===== EXCEPTIONS: the words that a throw needs beside lw_all, carried along by hand ===== -/
def aeN : String := "java/lang/ArithmeticException"
def aeUp : List String := ["java/lang/RuntimeException", "java/lang/Exception"]
/-- all words that the two throws of FacetCounts.share ask -/
def thAll : List Cond := Bundle.messageArmAtoms aeN aeUp ++ Bundle.ownAtoms0 "FacetCounts" 67 aeN aeUp
/-- those that don't ride in lw_all -/
def thTab : List Cond := [.declares (Bundle.init0 "java/lang/RuntimeException"), .declares (Bundle.init0 "java/lang/Exception"), .declares (Bundle.init0 "java/lang/Throwable"), .declares (Bundle.initS "java/lang/RuntimeException"), .declares (Bundle.initS "java/lang/Exception"), .declares (Bundle.initS "java/lang/Throwable")]
def thU : Cond := .laysStatic "java/lang/Throwable" "UNASSIGNED_STACK" "[Ljava/lang/StackTraceElement;"
def thL : Cond := .laysStatic "java/lang/Throwable" "SUPPRESSED_SENTINEL" "Ljava/util/List;"
def thUr : Cond := .isRef (.static "java/lang/Throwable" "UNASSIGNED_STACK" "[Ljava/lang/StackTraceElement;")
def thLr : Cond := .isRef (.static "java/lang/Throwable" "SUPPRESSED_SENTINEL" "Ljava/util/List;")
def thC : Cond := .castable aeN aeN
theorem th_in : ∀ w ∈ thAll, w ∈ lw_all ∨ w ∈ thTab ∨ w = thC ∨ w = thU ∨ w = thL ∨ w = thUr ∨ w = thLr := by
  have h : thAll.all (fun w => decide (w ∈ lw_all) || (decide (w ∈ thTab) || (decide (w = thC) || (decide (w = thU) || (decide (w = thL) || (decide (w = thUr) || decide (w = thLr))))))) = true := by decide +kernel
  intro w hw
  have := List.all_eq_true.mp h w hw
  simpa only [Bool.or_eq_true, decide_eq_true_eq] using this
theorem th_tbl : ∀ w ∈ thC :: thU :: thL :: thTab, w ∈ lw_tbl := by
  have h : (thC :: thU :: thL :: thTab).all (fun w => decide (w ∈ lw_tbl)) = true := by decide +kernel
  intro w hw
  have := List.all_eq_true.mp h w hw
  simpa only [decide_eq_true_eq] using this
/-- what a state must hold for a throw -/
def thOK (U : State) : Prop := (∀ w ∈ thTab, w.before #[] U = true) ∧ thC.before #[] U = true ∧ thU.before #[] U = true ∧ thL.before #[] U = true ∧ thUr.before #[] U = true ∧ thLr.before #[] U = true
theorem ls_move {O f d : String} {A A' : Array Value} {s U : State} (hW : s.WarmedH U.vm) (hk : ∀ q : Nat, q < s.heap.size → U.heap[q]? = s.heap[q]?) (h : (Cond.laysStatic O f d).before A s = true) : (Cond.laysStatic O f d).before A' U = true := by
  have h1 : (Cond.laysStatic O f d).before A (s.setVm U.vm) = true := Cond.before_shiftedFace (State.Shifted.of_warmed hW) _ rfl h
  obtain ⟨c, k, i, fd, a, cell, hc, hf, hst, hsta, hcell, hiss, hcls, hlt, hty⟩ := Cond.laysStatic_spec h1
  have hcell0 : s.heap[a]? = some cell := hcell
  have hcell' : U.heap[a]? = some cell := (hk a (Array.getElem?_eq_some_iff.mp hcell0).1).trans hcell0
  have hf' : U.fieldFound? O f d = some (c, k, i, fd) := hf
  have hc' : U.vm.findClass O = some c := hc
  simp [Cond.before, Cond.holds, Cond.value, hc', hf', hst, hsta, hcell', hiss, hcls, hlt, hty]
theorem rs_move {O f d : String} {A A' : Array Value} {s U : State} (hW : s.WarmedH U.vm) (hk : ∀ q : Nat, q < s.heap.size → U.heap[q]? = s.heap[q]?) (hl : (Cond.laysStatic O f d).before A s = true) (h : (Cond.isRef (.static O f d)).before A s = true) : (Cond.isRef (.static O f d)).before A' U = true := by
  have h1 : (Cond.laysStatic O f d).before A (s.setVm U.vm) = true := Cond.before_shiftedFace (State.Shifted.of_warmed hW) _ rfl hl
  obtain ⟨c, k, i, fd, a, cell, hc, hf, hst, hsta, hcell, hiss, hcls, hlt, hty⟩ := Cond.laysStatic_spec h1
  have hcell0 : s.heap[a]? = some cell := hcell
  have hcell' : U.heap[a]? = some cell := (hk a (Array.getElem?_eq_some_iff.mp hcell0).1).trans hcell0
  have hf' : U.fieldFound? O f d = some (c, k, i, fd) := hf
  have e1 : (Term.static O f d).eval A (s.setVm U.vm) none [] (s.setVm U.vm) = cell.slots[fd.slot]? := by
    simp [Term.eval, State.fieldNamed?, hf, hst, hsta, hcell0, hiss]
  have e2 : (Term.static O f d).eval A' U none [] U = cell.slots[fd.slot]? := by
    simp [Term.eval, State.fieldNamed?, hf', hst, hsta, hcell', hiss]
  have e3 : (Term.static O f d).eval A' U none [] U = (Term.static O f d).eval A s none [] s := e2.trans (e1.symm.trans (Term.eval_setVm hW.alike _ [] rfl))
  simp only [Cond.before, Cond.holds, Cond.value] at h ⊢
  rw [e3]
  exact h
theorem thOK.move {s U : State} (hW : s.WarmedH U.vm) (hk : ∀ q : Nat, q < s.heap.size → U.heap[q]? = s.heap[q]?) (h : thOK s) : thOK U := by
  obtain ⟨h1, h2, h3, h4, h5, h6⟩ := h
  refine ⟨fun w hw => ?_, va_Nw.warmC hW h2, ls_move hW hk h3, ls_move hW hk h4, rs_move hW hk h3 h5, rs_move hW hk h4 h6⟩
  have h0 := h1 w hw
  simp only [thTab, List.mem_cons, List.not_mem_nil, or_false] at hw
  rcases hw with rfl | rfl | rfl | rfl | rfl | rfl <;> exact va_Nw.warmD hW h0
theorem thOK.all {s : State} {A : Array Value} (h : thOK s) (hts : ∀ w ∈ lw_all, w.before A s = true) : ∀ w ∈ thAll, w.before A s = true := by
  obtain ⟨h1, h2, h3, h4, h5, h6⟩ := h
  have hW : s.WarmedH s.vm := State.WarmedH.refl s
  intro w hw
  rcases th_in w hw with q | q | q | q | q | q | q
  · exact hts w q
  · have h0 := h1 w q
    simp only [thTab, List.mem_cons, List.not_mem_nil, or_false] at q
    rcases q with rfl | rfl | rfl | rfl | rfl | rfl <;> exact va_Nw.use rfl h0
  · rw [q]; exact va_Nw.use (w := thC) rfl h2
  · rw [q]; exact ls_move hW (fun _ _ => rfl) h3
  · rw [q]; exact ls_move hW (fun _ _ => rfl) h4
  · rw [q]; exact rs_move hW (fun _ _ => rfl) h3 h5
  · rw [q]; exact rs_move hW (fun _ _ => rfl) h4 h6
/-- how FacetCounts.share ends: with the answer, or by an exception -/
def shQ (res : Option Int32) (_ : Array Value) (st : State) (o : Outcome) (t : State) : Prop :=
  st.WarmedH t.vm ∧ st.sameButNew ({ t with vm := st.vm } : State) [] 3 19 ∧
    ((∃ r, res = some r ∧ o = .returned (some (.int r))) ∨ (res = none ∧ ∃ (x : Addr) (cell : Cell), o = .threw x ∧ t.heap[x]? = some cell ∧ cell.vm.isStatics = false ∧ st.vm.findClass aeN = some cell.cls ∧ st.vm.assignable cell.cls cell.cls = true))
def shZ (res : Option Int32) (below : List Frame) (a : Array Value) (s : State) : State → Prop := fun t => ∃ o, t.status = .running ∧ Ended t below o ∧ shQ res a s o t
section SH
variable {p : Program} {l : Launch} {e : Env} {R : Room} {s : State} {m : MethodId} {args : Array Value} {below : List Frame} {meth : Method} {c : Code} {H : Heap} {locs : List Loc} {cells slots : Nat} {Q : State → Prop}
variable {cc : ByteArray} {pc : Nat} {ls : Array Slot} {rest : List Value}
theorem sh_iret {res : Option Int32} {v : Int32} (hres : res = some v) (hx : p.tables.exec = Jvm.exec) (hb : c.code = cc) (hr : meth.sig.returnType = some .int) (hlocks : meth.locks = false) (hS : va_S (fun q => s.heap.size ≤ q) s.heap H locs) (hdg : decode cc pc = .ok (.ireturn, 1)) :
    W p l e R s m args below meth c H locs 0 0 (shZ res below args s) (F0 m pc ls [.int v]) := by
  intro T hT X
  obtain ⟨t, a, o, b1, b2, b3, L, ⟨-, b5, b6⟩, b7⟩ := W.iret (Qc := fun _ _ o _ => o = .returned (some (.int v))) (free := fun q => s.heap.size ≤ q) hx hb hr (fun t ht _ => rfl) hS.2.2 hdg hlocks T hT X
  exact ⟨t, a, o, b1, b2, b5, (State.sameButNew.drop_fresh (L := []) b6 b7).mono (by omega) (by omega), Or.inl ⟨v, hres, b3⟩⟩
theorem sh_locs {s : State} {H : Heap} {locs : List Loc} (hS : va_S (fun q => s.heap.size ≤ q) s.heap H locs) : ∀ x ∈ locs, ∀ cell, s.heap[x.base]? = some cell → cell.vm.isStatics = false := by
  intro x hx cell hc
  have h1 : s.heap.size ≤ x.base := hS.2.2 x hx
  have h2 := (Array.getElem?_eq_some_iff.mp hc).1
  omega
theorem sh_nil {c : Code} (h : c.exceptionTable.isEmpty = true) (pc : Nat) : ∀ x ∈ c.exceptionTable.toList, covers x pc = false := by
  intro x hx
  have : c.exceptionTable = #[] := by simpa using h
  rw [this] at hx
  cases hx
/-- a division by zero: the machine makes the exception, and the method ends by it -/
theorem sh_div0 (hfl : l.flags = flags0) (hx : p.tables.exec = Jvm.exec) (hb : c.code = cc) (hlocks : meth.locks = false) (hnoh : c.exceptionTable.isEmpty = true) (hth : ∀ w ∈ thAll, w.before args s = true) (hS : va_S (fun q => s.heap.size ≤ q) s.heap H locs) (hsize : ls.size = c.maxLocals) (hdg : decode cc pc = .ok (.idiv, 1)) (hR : 7 ≤ R.frames ∧ 10248 ≤ R.locals ∧ 3 ≤ R.cells ∧ 19 ≤ R.slots) {y x : Int32} (hy : y = 0) :
    W p l e R s m args below meth c H locs 0 0 (shZ none below args s) (F0 m pc ls [.int y, .int x]) := by
  subst hy
  intro T hT X
  have htr := Launch.traces_off hfl X.admits
  have hst := X.idivZero hx (g := F0 m pc ls [.int 0, .int x]) rfl (a := x) (rest := []) rfl (by rw [hb]; exact hdg)
  have hsz : (stringBytes (stringToUtf16 "/ by zero")).size = 9 := by decide +kernel
  obtain ⟨U, h1, h2, h3, h4, ⟨n, hn, h5⟩, cb, cs, ce, -, -, hce, -, -, KE⟩ := X.messageArmCells hx htr (cls := aeN) (names := aeUp) (text := "/ by zero") (by decide +kernel) (by decide +kernel) (by decide +kernel) (by decide +kernel)
    (fun a ha => hth a (List.mem_append_left _ ha)) (sh_locs hS) (by decide +kernel) (by rw [hsz, Launch.admits_arrayLengthLimit X.admits]; omega) (by rw [hsz, Launch.admits_maxHeapBytes X.admits]; simp only [componentBytes]; omega)
    (g := F0 m pc ls []) rfl hsize rfl rfl (sh_nil hnoh pc) (by show 2 + 4 < R.frames; omega) (by show 2 * 0 + 0 + 10240 ≤ R.locals; omega) (by decide) (by omega) (by rw [hsz]; omega) hlocks
  rw [hsz] at hn
  refine ⟨U, hst U h1, _, h2, h3, h4, (State.sameButNew.drop_fresh (L := []) h5 hS.2.2).mono (by omega) (by omega), Or.inr ⟨rfl, _, ce, rfl, hce, by rw [KE.vm]; rfl, KE.cls, KE.self⟩⟩
/-- new ArithmeticException(), and it is thrown -/
theorem sh_new (hfl : l.flags = flags0) (hx : p.tables.exec = Jvm.exec) (hb : c.code = cX1_share) (hlocks : meth.locks = false) (hnoh : c.exceptionTable.isEmpty = true) (hts : ∀ w ∈ lw_all, w.before args s = true) (hth : ∀ w ∈ thAll, w.before args s = true) (hown : s.vm.findClass RX1 = some m.cls) (hS : va_S (fun q => s.heap.size ≤ q) s.heap H locs) (hsize : ls.size = c.maxLocals) (hR : 7 ≤ R.frames ∧ 10248 ≤ R.locals ∧ 3 ≤ R.cells ∧ 19 ≤ R.slots) :
    W p l e R s m args below meth c H locs 0 0 (shZ none below args s) (F0 m 18 ls []) := by
  refine W.newc hx hb hown (hts _ q205) (hts _ q133) (hts _ q18) rfl dX1_share_18 (by omega) (by omega) (fun cC kC hfc hkC hord hn => ?_)
  refine W.eq (g2 := F0 m 21 ls [.ref H.size]) rfl ?_
  refine lv_dup hx hb dX1_share_21 rfl ?_
  intro T hT X
  have htr := Launch.traces_off hfl X.admits
  obtain ⟨U, h1, h2, h3, h4, h5, ce, hce, KE⟩ := X.ctorThrow0 hx htr (own := RX1) (cls := aeN) (names := aeUp) (ic := 67) hown (by decide +kernel) (by decide +kernel) (fun a ha => hth a (List.mem_append_right _ ha)) (sh_locs hS) hfc hkC (a := H.size) (by rw [hT]; simp [freshCell]) hS.1
    (g := F0 m 22 ls [.ref H.size, .ref H.size]) rfl hsize rfl rfl (rest := []) rfl (by rw [hb]; exact dX1_share_22) (by rw [hb]; exact dX1_share_25) (sh_nil hnoh _) (by show 2 + 3 < R.frames; omega) (by show 2 * 0 + 1 + (13 * 3 + 41) ≤ R.locals; omega) hlocks
  exact ⟨U, h1, _, h2, h3, h4, (State.sameButNew.drop_fresh (L := []) h5 hS.2.2).mono (by omega) (by omega), Or.inr ⟨rfl, _, ce, rfl, hce, by rw [KE.vm]; rfl, KE.cls, KE.self⟩⟩
end SH
end
section
set_option maxRecDepth 100000
/-! ===== a method that may end by an exception: its contract out of a walk; a call of it under a handler ===== -/
theorem ofZ {l : Launch} {y : MethodName} {ws ws' : List Cond} {rm : Room} {Pc : Array Value → State → Prop} {res : Option Int32} {cc : ByteArray} {maxL : Nat} {ret : Option FieldType}
    (hy : plainName y.cls = true) (hw : ws = Cond.code y cc maxL ret :: ws')
    (body : ∀ p e s m args below meth c s₁, BodyLoose p l y (headSpec ws rm) cc maxL ret e s m args below meth c s₁ → c.maxLocals = maxL → Pc args s →
      W p l e (headSpec ws rm).room s m args below meth c s.heap [] 0 0 (shZ res below args s) (entryFrame m args maxL)) : MetFree l y (headSpec ws rm) Pc (fun _ _ _ _ _ => True) (shQ res) := by
  refine MetFree.of_bodyS (code := cc) (maxLocals := maxL) (ret := ret) hy ?_ ?_
  · intro args s m h hn
    obtain ⟨meth, c, h1, h2, h3, h4, h5, h6, -, -⟩ := Cond.code_spec hn (atoms_spec (ws := ws) h _ (by rw [hw]; exact List.mem_cons_self))
    exact ⟨meth, c, h1, h2, h3, h4, h5, h6⟩
  · intro p e s m args below meth c s₁ B hml hP _
    have hh0 : s₁.heap = s.heap := by rw [B.state]; rfl
    obtain ⟨t, a1, o, b1, b2, b3⟩ := body p e s m args below meth c s₁ B hml hP s₁ hh0 (Stand.of_body B)
    exact ⟨t, o, a1, b1, b2, b3⟩
theorem th_blind (av : List Value) {B : State → Prop} (hB : FrameBlind (va_Pc av B)) : FrameBlind (va_Pc av (fun U => B U ∧ thOK U)) := by
  intro a U g mk q
  obtain ⟨q0, q1, q2⟩ := q
  have h := hB a U g mk ⟨q0, q1⟩
  exact ⟨h.1, h.2, thOK.move (s := U) (U := U.calling g mk a) (State.WarmedH.refl U) (fun _ _ => rfl) q2⟩
section SC
variable {p : Program} {l : Launch} {e : Env} {R : Room} {s : State} {m : MethodId} {args : Array Value} {below : List Frame} {meth : Method} {c : Code} {T : State} {locs : List Loc} {cells slots : Nat}
/-- the table of FacetCountsLaw.share: one row -/
theorem sh_tab {t : List ExceptionTableEntry} (h : t.map (fun h => (h.startPc, h.endPc, h.handlerPc, h.catchType)) = [(0, 12, 15, 13)]) : ∃ y, t = [y] ∧ y.startPc = 0 ∧ y.endPc = 12 ∧ y.handlerPc = 15 ∧ y.catchType = 13 := by
  match t, h with
  | [], h => cases h
  | _ :: _ :: _, h => simp at h
  | [y], h =>
    simp only [List.map_cons, List.map_nil, List.cons.injEq, Prod.mk.injEq, and_true] at h
    exact ⟨y, rfl, h.1, h.2.1, h.2.2.1, h.2.2.2⟩
/-- the exception that lies over the frame g (at pc 7) is caught at 15; the catch type's entry may be open yet -/
theorem sh_catch (X : Stand p l e R s m args below meth c T locs cells slots) {g : JFrame} (hg : g.method = m) (hpc : g.pc = 7) (hown : s.vm.findClass RX0 = some m.cls)
    (htab : c.exceptionTable.toList.map (fun h => (h.startPc, h.endPc, h.handlerPc, h.catchType)) = [(0, 12, 15, 13)]) (hlink : (Cond.classLink RX0 13 aeN).before args s = true)
    {x : Addr} {cell : Cell} (hcell : T.heap[x]? = some cell) (hobj : cell.vm.isStatics = false) (hcls : s.vm.findClass aeN = some cell.cls) (hfit : s.vm.assignable cell.cls cell.cls = true) :
    ∃ vm', Stand p l e R s m args below meth c (T.setVm vm') locs cells slots ∧ ∀ target, Steps p.tables e below ((T.setVm vm').setTop { g with pc := 15, stack := [.ref x] }) target → Steps p.tables e below ((T.setTop g).pushFrame (.throwing x)) target := by
  obtain ⟨y, hy, y1, y2, y3, y4⟩ := sh_tab htab
  have hpl : e.platform.magicAccessors = ({} : Platform).magicAccessors := by rw [X.admits.platform]
  obtain ⟨cT, hcT, hcl⟩ := Cond.classLink_spec hown hlink e.platform hpl
  cases hcls.symm.trans hcT
  obtain ⟨dk, _, _, kt, hd, _, _, _, _, hkt, _, hopen⟩ := hcl.here
  have hcl1 := X.warmed.classLinks hcl
  have hW2 : s.WarmedH (T.vm.noted m.cls 13 (.cls cell.cls)) := X.warmed.noted hd hopen (State.rightAt_cls hcl)
  obtain ⟨kt2, hkt2, -⟩ := hW2.alike.2.2 _ _ hkt
  have hfit2 : (T.vm.noted m.cls 13 (.cls cell.cls)).assignable cell.cls cell.cls = true := by rw [hW2.alike.assignable]; exact hfit
  have hne : ∀ k, cell.vm ≠ .statics k := VmData.ne_statics_of hobj
  refine ⟨T.vm.noted m.cls 13 (.cls cell.cls), X.noted hW2, fun target hrest => ?_⟩
  subst hg
  have hin : covers y g.pc = true := by simp [covers, y1, y2, hpc]
  simp only [covers] at hin
  have hfind : ∀ (Q : Handler → Pre) (E : CtlPost) (d : Bool) (acts : List Action), wp (findHandler g x) Q E e d acts ((T.setTop g).pushFrame (.throwing x)) ↔ Q (.found 15) d acts (((T.setTop g).pushFrame (.throwing x)).setVm (T.vm.noted g.method.cls 13 (.cls cell.cls))) := by
    intro Q E d acts
    have hvm : ((T.setTop g).pushFrame (.throwing x)).vm = T.vm := Stand.throwing_vm T g x
    have hhp : ((T.setTop g).pushFrame (.throwing x)).heap = T.heap := Stand.throwing_heap T g x
    rw [Jvm.W.findHandler_eq (s := (T.setTop g).pushFrame (.throwing x)) (meth := meth) (code := c) (by rw [hvm]; exact X.method') X.code, hy]
    have hcl2 : ((T.setTop g).pushFrame (.throwing x)).vm.ClassLinks e.platform g.method.cls 13 cell.cls := by rw [hvm]; exact hcl1
    obtain ⟨ha, ht⟩ := (resolveClass_links e.toSetting hcl2).op (op := VmOp.resolveClass g.method.cls 13) rfl
    have hcell2 : ((T.setTop g).pushFrame (.throwing x)).heap[x]? = some cell := by rw [hhp]; exact hcell
    rw [hvm] at ha ht
    simp [findHandler.go, hin, y3, y4, ha, ht, hcell2, hne, hkt2, hfit2, hvm, VmOp.dirties, VmOp.acts]
  obtain ⟨hgo, hw⟩ := X.here.throwing x
  refine Steps.head hgo hw ?_
  have hcatch : (stepThrowing e ((T.setTop g).pushFrame (.throwing x)) x (.java g :: below)).Is ((((T.setTop g).pushFrame (.throwing x)).setVm (T.vm.noted g.method.cls 13 (.cls cell.cls))).setFrames (.java { g with pc := 15, stack := [.ref x] } :: below)) [] := by
    simp only [stepThrowing, searchFrame, vmDo]
    generalize hr : Sem.go _ e false [] ((T.setTop g).pushFrame (.throwing x)) = res
    obtain ⟨as, rfl, ha⟩ := Sem.eq_ok_of hr (a := Handler.found 15) (s' := ((T.setTop g).pushFrame (.throwing x)).setVm (T.vm.noted g.method.cls 13 (.cls cell.cls))) (acts' := []) (by simp [hfind _ _ _ _])
    exact ⟨rfl, ha⟩
  obtain ⟨g0, hg0⟩ := X.frames_eq
  rw [stepThread_throwing (frames_entered X.here.top _), X.tail, hcatch.1]
  have hg1 : (T.setVm (T.vm.noted g.method.cls 13 (.cls cell.cls))).frames = .java g0 :: below := hg0
  rw [State.setTop_of_frames _ hg1] at hrest
  have e1 : ((T.setTop g).pushFrame (.throwing x)) = T.setFrames (.throwing x :: .java g :: below) := by
    rw [State.pushFrame, State.frames_setTop _ hg0, State.setTop_of_frames _ hg0, State.setFrames_setFrames]
  rw [e1, show ((T.setFrames (.throwing x :: .java g :: below)).setVm (T.vm.noted g.method.cls 13 (.cls cell.cls))) = (T.setVm (T.vm.noted g.method.cls 13 (.cls cell.cls))).setFrames (.throwing x :: .java g :: below) from rfl, State.setFrames_setFrames]
  exact hrest
end SC
section SK
variable {p : Program} {l : Launch} {e : Env} {R : Room} {s : State} {m : MethodId} {args : Array Value} {below : List Frame} {meth : Method} {c : Code} {H : Heap} {locs : List Loc} {cells slots : Nat} {Q : State → Prop} {cc : ByteArray} {ls : Array Slot} {rest : List Value} {A : Nat → Prop}
/-- x.share(..) called at pc 7 of FacetCountsLaw.share -/
theorem sh_call {res : Option Int32} {rm : Room} {Pc : Array Value → State → Prop} {b : Addr} {As : List Value} (hx : p.tables.exec = Jvm.exec) (hb : c.code = cc) (hown : s.vm.findClass RX0 = some m.cls) (hts : ∀ w ∈ lw_all, w.before args s = true)
    (hM : MetFree l yX1_share (headSpec (ws_ yX1_share cX1_share 7 (some .int)) rm) Pc (fun _ _ _ _ _ => True) (shQ res)) (hblind : FrameBlind Pc) (hPc : ∀ U : State, U.heap = H → s.WarmedH U.vm → Pc (Value.ref b :: As).toArray U) (hAs : As.length = 3)
    (hrc : ∃ cell : Cell, H[b]? = some cell ∧ cell.vm.isStatics = false ∧ s.vm.findClass RX1 = some cell.cls)
    (htab : c.exceptionTable.toList.map (fun h => (h.startPc, h.endPc, h.handlerPc, h.catchType)) = [(0, 12, 15, 13)]) (hlink : (Cond.classLink RX0 13 aeN).before args s = true)
    (hS : va_S A s.heap H locs) {st : List Value} (hst : st = As.reverse ++ .ref b :: rest) (hsize : ls.size = c.maxLocals) (hW : (rest.map fun v => v.category).sum ≤ 8) (hdg : decode cc 7 = .ok (.invokevirtual 7, 3))
    (hR : rm.frames + 1 ≤ R.frames ∧ 8 + (7 + 11) + rm.locals ≤ R.locals ∧ cells + rm.cells ≤ R.cells ∧ slots + rm.slots ≤ R.slots)
    (kret : ∀ (r : Int32) (H1 : Heap) (locs1 : List Loc), res = some r → (∀ q : Nat, q < H.size → H1[q]? = H[q]?) → va_S A s.heap H1 locs1 → W p l e R s m args below meth c H1 locs1 (cells + 3) (slots + 19) Q (F0 m 10 ls (.int r :: rest)))
    (kthr : ∀ (x : Addr) (H1 : Heap) (locs1 : List Loc), res = none → (∀ q : Nat, q < H.size → H1[q]? = H[q]?) → va_S A s.heap H1 locs1 → W p l e R s m args below meth c H1 locs1 (cells + 3) (slots + 19) Q (F0 m 15 ls [.ref x])) :
    W p l e R s m args below meth c H locs cells slots Q (F0 m 7 ls st) := by
  subst hst
  intro T hT X
  obtain ⟨cellB, hcB, hoB, hclB⟩ := hrc
  have hy : yX1_share.cls ≠ "java/lang/invoke/MethodHandle" ∧ yX1_share.cls ≠ "java/lang/invoke/VarHandle" := ⟨by decide +kernel, by decide +kernel⟩
  have hinst : (Cond.instanceMethod yX1_share).before args s = true := hts _ q202
  have hcode : (Cond.code yX1_share cX1_share 7 (some .int)).before args s = true := hts _ q204
  have hsel : (Cond.selects RX1 yX1_share yX1_share).before args s = true := hts _ q203
  obtain ⟨mk, methM, hnamed, hmethM, hstM, habM⟩ := Cond.instanceMethod_spec hinst
  obtain ⟨methM', cM, hmethM', hcM, -, hlM, -, -, -, hsigM⟩ := Cond.code_spec hnamed hcode
  cases hmethM.symm.trans hmethM'
  obtain ⟨c2, r2, m2, q1, q2, q3, q4, kP, hkP, hkPi⟩ := Cond.selects_spec hsel
  cases hclB.symm.trans q1
  cases (State.methodFound?_of_named hnamed hy).symm.trans q2
  cases hnamed.symm.trans q3
  have hselP : selectMethod e.platform s.vm cellB.cls mk = .method mk := by rw [Launch.admits_selectMethod X.admits]; exact q4
  have hsig3 : methM.sig.parameters.length = 3 := by
    have h0 : (parseMethodDescriptor yX1_share.desc).map (fun d => d.parameters.length) = some 3 := by decide +kernel
    rw [hsigM] at h0
    exact Option.some.inj h0
  obtain ⟨vm₁, X₁, hstep₁⟩ := X.invokevirtual hx hown (x := yX1_share) (hts _ q201) hnamed hmethM hstM hkP hkPi hy (a := b) (cell := cellB) (by rw [hT]; exact hcB)
    (fun z h => by rw [h] at hoB; cases hoB) hselP hmethM habM hkP hkPi (g := F0 m 7 ls (As.reverse ++ .ref b :: rest)) rfl (argsL := As) (rest := rest) (hAs.trans hsig3.symm) rfl (by rw [hb]; exact hdg)
  have hT1 : (T.setVm vm₁).heap = H := hT
  have hw1 : ∀ w ∈ ws_ yX1_share cX1_share 7 (some .int), w.before (Value.ref b :: As).toArray (T.setVm vm₁) = true := by
    intro w hw
    obtain ⟨g1, g2⟩ := lw_meth (y := yX1_share) (b := cX1_share) (L := 7) (r := some .int) q204 w hw
    exact word_at X₁.warmed g2 (hts w g1)
  have hn1 := X₁.named hnamed
  obtain ⟨methY, cY, hmY, hcY, -, hlY, -⟩ := Cond.code_spec hn1 (hw1 _ List.mem_cons_self)
  obtain ⟨kY, hkY, -⟩ := className_of_methodNamed hn1
  have hini : (Cond.initialized yX1_share.cls).before (Value.ref b :: As).toArray (T.setVm vm₁) = true := hw1 _ (List.mem_cons_of_mem _ q13)
  have hinitY : kY.init = .initialized := Cond.initialized_spec (findClass_of_methodNamed hn1) hkY hini
  have hdg1 : decode c.code (F0 m 7 ls rest).pc = .ok (.invokevirtual 7, 3) := by rw [hb]; exact hdg
  have happ : (headSpec (ws_ yX1_share cX1_share 7 (some .int)) rm).appliesLoose yX1_share e.platform ((T.setVm vm₁).calling (F0 m 7 ls rest) mk (Value.ref b :: As).toArray) = true :=
    Spec.appliesLoose_calling (g := F0 m 7 ls rest) X₁.here hdg1 hn1 hkY hinitY
      (X₁.room_calling (g := F0 m 7 ls rest) (R' := rm) hsize hmY hcY hR.1 (by rw [hlY]; show 2 * 0 + (rest.map fun v => v.category).sum + (7 + 11) + rm.locals ≤ R.locals; omega) hR.2.2.1 hR.2.2.2) (atoms_intro hw1)
  obtain ⟨mid, hmid⟩ := X₁.here.above
  have hfr : ((T.setVm vm₁).setTop (F0 m 7 ls rest)).frames = (.java (F0 m 7 ls rest) :: mid) ++ below := by rw [State.frames_setTop' _ X₁.here.top, hmid]; rfl
  obtain ⟨o, s₂, hsteps, -, hend, hq⟩ := Steps.callFree hM p X₁.admits X₁.cas X₁.clock (acts := []) hfr happ (hblind _ _ (F0 m 7 ls rest) mk (hPc (T.setVm vm₁) hT1 X₁.warmed)) trivial
  rw [State.frames_setTop' _ X₁.here.top, X₁.tail] at hend
  obtain ⟨hW2, hsame, hres⟩ := hq
  have kept : ∀ T' : State, (T.setVm vm₁).sameButNew (T'.setVm (T.setVm vm₁).vm) [] 3 19 → (∀ q : Nat, q < H.size → T'.heap[q]? = H[q]?) ∧ va_S A s.heap T'.heap (locs ++ []) := by
    intro T' hB
    have k1 : ∀ q : Nat, q < H.size → T'.heap[q]? = H[q]? := by
      intro q hq
      have h0 : (T.setVm vm₁).heap[q]? = some (H[q]'hq) := by rw [hT1]; exact Array.getElem?_eq_getElem hq
      have h1 := State.sameButNew.kept_nil hB h0
      rw [Array.getElem?_eq_getElem hq]
      exact h1
    have k2 : H.size ≤ T'.heap.size := by
      have h0 : (T.setVm vm₁).heap.size ≤ T'.heap.size := hB.2.1
      rw [hT1] at h0
      exact h0
    exact ⟨k1, Nat.le_trans hS.1 k2, fun q h1 h2 => (k1 q (Nat.lt_of_lt_of_le h1 hS.1)).trans (hS.2.1 q h1 h2), fun q hq => hS.2.2 q (by simpa using hq)⟩
  rcases hres with ⟨r, hr, rfl⟩ | ⟨hr, x, cell, rfl, hxc, hxo, hxn, hxf⟩
  · obtain ⟨T', X', -, hB, ht⟩ := X₁.outOf (g := F0 m 7 ls rest) rfl hdg1 hend hW2 hsame
    obtain ⟨k1, k2⟩ := kept T' hB
    obtain ⟨t2, a1, b1⟩ := kret r T'.heap (locs ++ []) hr k1 k2 T' rfl X'
    refine ⟨t2, hstep₁ _ (fun acts => ?_), b1⟩
    rw [doInvoke_state]
    refine hsteps.trans ?_
    rw [ht]
    exact a1
  · obtain ⟨T', X', -, hB, ht⟩ := X₁.outOfThrown (g := F0 m 7 ls rest) rfl hend hW2 hsame
    obtain ⟨k1, k2⟩ := kept T' hB
    have hxc' : T'.heap[x]? = some cell := by
      rw [ht] at hxc
      rw [Stand.throwing_heap] at hxc
      exact hxc
    have hal : s.vm.Alike ((T.setVm vm₁).calling (F0 m 7 ls rest) mk (Value.ref b :: As).toArray).vm := X₁.warmed.alike
    obtain ⟨vm2, X2, st2⟩ := sh_catch X' (g := F0 m 7 ls rest) rfl rfl hown htab hlink hxc' hxo (by rw [← hal.findClass]; exact hxn) (by rw [← hal.assignable]; exact hxf)
    obtain ⟨t2, a1, b1⟩ := kthr x T'.heap (locs ++ []) hr k1 k2 (T'.setVm vm2) rfl X2
    refine ⟨t2, hstep₁ _ (fun acts => ?_), b1⟩
    rw [doInvoke_state]
    refine hsteps.trans ?_
    rw [ht]
    exact st2 t2 a1
end SK
end
section
set_option maxRecDepth 100000
abbrev rm_X1_share : Room := { frames := 8, cells := 3, slots := 19, locals := 10260 }
set_option maxHeartbeats 4000000 in
set_option maxRecDepth 100000 in
theorem met_X1_share (l : Launch) (hfl : l.flags = flags0) (D : va_G) (dA dZ : ClassId) (ad : Nat → Nat) (sz : Nat) {own : Nat → Int32} {rows : Int32} {up clo cho fai cou see has ch tol : Nat → Int32} (hR : Rp (own, rows, up, clo, cho, fai, cou, see) (has, up, ch, tol, rows)) (a b : Int32) (lower : Prop) : MetFree l yX1_share (headSpec (ws_ yX1_share cX1_share 7 (some .int)) rm_X1_share) (va_Pc [.ref (ad 0), .int a, .int b, .int (nI (bN lower))] (fun U => wPre D dA dZ (fcW dA ad own rows up clo cho fai cou see) sz U ∧ thOK U)) (fun _ _ _ _ _ => True) (shQ (shrS has up ch a b lower)) := by
  refine ofZ (cc := cX1_share) (maxL := 7) (ret := (some .int)) (by decide) rfl ?_
  intro p e s m args below meth c s₁ B hml hv
  obtain ⟨rfl, ⟨hsz, hP, hK, hDT⟩, hth0⟩ := hv
  have hx := B.exec
  have hb := B.bytes
  have hr := B.returns
  have hts0 := atoms_spec (ws := ws_ yX1_share cX1_share 7 (some .int)) B.pre
  have hts : ∀ w ∈ lw_all, w.before _ s = true := fun w h => hts0 w (List.mem_cons_of_mem _ h)
  have hown : s.vm.findClass RX1 = some m.cls := findClass_of_methodNamed B.named
  have hlocks := B.notSynchronized
  have hnoh := BodyLoose.noHandlers B (hts0 _ List.mem_cons_self)
  have hth := hth0.all hts
  subst hsz
  have hS : va_S (fun q => s.heap.size ≤ q) s.heap s.heap [] := va_S.rf
  have hA : ∀ q : Nat, s.heap.size ≤ q → (fun q => s.heap.size ≤ q) q := fun q h => h
  have hl := lv_entry ([.ref (ad 0), .int a, .int b, .int (nI (bN lower))]) (n := 7) (Nat.le_of_ble_eq_true rfl)
  rw [lg_entry_eq]
  generalize (lg_sl ([.ref (ad 0), .int a, .int b, .int (nI (bN lower))]) ++ List.replicate (7 - (lg_sl ([.ref (ad 0), .int a, .int b, .int (nI (bN lower))])).length) Slot.unset).toArray = ls at hl ⊢
  have hl : lv_has ls 7 [(0, .ref (ad 0)), (1, .int a), (2, .int b), (3, .int (nI (bN lower)))] := hl
  have hO : rOwn own has := hR.1
  have hC : rClo clo up := hR.2.2.2.1
  have hH : rCho cho ch := hR.2.2.2.2.1
  have hF : rFai fai has up ch := hR.2.2.2.2.2.1
  have hN : rCou cou has up ch := hR.2.2.2.2.2.2.1
  refine lv_iload_n hx hb dX1_share_0 rfl (lv_at hl 1 rfl) ?_
  refine lv_bipush (v := nI 8) hx hb dX1_share_1 (by decide) ?_
  refine bw_rs (rest := []) ⟨hx, hb, hml, hown, hts⟩ (met_X1_isIn l _ a 8 (by decide)) (cw_X1_31 hts ⟨Nat.le_of_ble_eq_true rfl, Nat.le_of_ble_eq_true rfl⟩) hP hS hA rfl rfl hl.1 (Nat.le_of_ble_eq_true rfl) dX1_share_3 ⟨Nat.zero_le _, Nat.zero_le _⟩ (fun r1 H locs hv2 hP hS => ?_)
  subst hv2
  refine bw_ifeq hx hb (tgt := 18) dX1_share_6 (by decide) (fun c3 => ?_) (fun c3 => ?_)
  · rw [shrS_b (fun q => c3 q.1)]
    exact sh_new hfl hx hb hlocks hnoh hts hth hown hS (hl.1.trans hml.symm) ⟨Nat.le_of_ble_eq_true rfl, Nat.le_of_ble_eq_true rfl, Nat.le_of_ble_eq_true rfl, Nat.le_of_ble_eq_true rfl⟩
  · refine lv_iload_n hx hb dX1_share_9 rfl (lv_at hl 2 rfl) ?_
    refine lv_bipush (v := nI 32) hx hb dX1_share_10 (by decide) ?_
    refine bw_rs (rest := []) ⟨hx, hb, hml, hown, hts⟩ (met_X1_isIn l _ b 32 (by decide)) (cw_X1_31 hts ⟨Nat.le_of_ble_eq_true rfl, Nat.le_of_ble_eq_true rfl⟩) hP hS hA rfl rfl hl.1 (Nat.le_of_ble_eq_true rfl) dX1_share_12 ⟨Nat.zero_le _, Nat.zero_le _⟩ (fun r4 H locs hv5 hP hS => ?_)
    subst hv5
    refine bw_ifne hx hb (tgt := 26) dX1_share_15 (by decide) (fun c6 => ?_) (fun c6 => ?_)
    · obtain ⟨h, hh, rfl⟩ := c3
      obtain ⟨v, hv, rfl⟩ := c6
      refine lv_iconst (v := nI 0) hx hb dX1_share_26 (by decide) ?_
      refine lv_istore (lv' := [(4, .int (nI 0)), (0, .ref (ad 0)), (1, .int (nI h)), (2, .int (nI v)), (3, .int (nI (bN lower)))]) hx hb dX1_share_27 hl (by decide) rfl (fun ls hl => ?_)
      refine lv_iconst (v := nI 0) hx hb dX1_share_29 (by decide) ?_
      refine lv_istore (lv' := [(5, .int (nI 0)), (4, .int (nI 0)), (0, .ref (ad 0)), (1, .int (nI h)), (2, .int (nI v)), (3, .int (nI (bN lower)))]) hx hb dX1_share_30 hl (by decide) rfl (fun ls hl => ?_)
      refine w_loop (σ := Unit) 40 (fun j x H locs ls => lv_has ls 7 [(0, .ref (ad 0)), (1, .int (nI h)), (2, .int (nI v)), (3, .int (nI (bN lower))), (4, .int (nI (cnt (fun t => kb has up ch t h) j))), (5, .int (nI j))] ∧ va_P D vwCl (fcW dA ad own rows up clo cho fai cou see) H ∧ va_S (fun q => s.heap.size ≤ q) s.heap H locs ∧ (True)) ?_ ?_ 0 () _ _ _ (by omega) ⟨lv_sub hl [2, 3, 4, 5, 1, 0] rfl, hP, hS, trivial⟩
      · intro j x H locs ls hj hI hk7
        obtain ⟨hl, hP, hS, hI⟩ := hI
        refine lv_iload hx hb dX1_share_32 (lv_at hl 5 rfl) ?_
        refine lv_bipush (v := nI 40) hx hb dX1_share_34 (by decide) ?_
        refine bw_ge (by omega) (by omega) hx hb (tgt := 65) dX1_share_36 (by decide) (fun c8 => ?_) (fun c8 => ?_)
        · exact absurd c8 (by omega)
        · refine lv_iload hx hb dX1_share_39 (lv_at hl 4 rfl) ?_
          refine lv_aload_n hx hb dX1_share_41 rfl (lv_at hl 0 rfl) ?_
          refine lv_iload hx hb dX1_share_42 (lv_at hl 5 rfl) ?_
          refine lv_iload_n hx hb dX1_share_44 rfl (lv_at hl 1 rfl) ?_
          refine bw_ro (rest := [.int (nI (cnt (fun t => kb has up ch t h) j))]) ⟨hx, hb, hml, hown, hts⟩ (met_X1_isKeptBut l D dA dZ ad _ hO hC hH j h hj hh (hF j hj)) (cw_X1_42 hts ⟨Nat.le_of_ble_eq_true rfl, Nat.le_of_ble_eq_true rfl⟩) (va_recv hK hP (ci := 0) (q0 := 0) rfl rfl) hK hP hDT hP hS hA rfl rfl hl.1 (Nat.le_of_ble_eq_true rfl) dX1_share_45 ⟨Nat.zero_le _, Nat.zero_le _⟩ (fun r9 H locs hv10 hP hS => ?_)
          subst hv10
          refine w_cutH 56 ls [.int (nI (cnt (fun t => kb has up ch t h) j))] (fun q9 H locs => (q9 = nI (bN (kb has up ch j h))) ∧ va_P D vwCl (fcW dA ad own rows up clo cho fai cou see) H ∧ va_S (fun q => s.heap.size ≤ q) s.heap H locs) (fun K11 => ?_) (fun v12 H locs hv13 => ?_)
          · refine bw_ifeq hx hb (tgt := 55) dX1_share_48 (by decide) (fun c14 => ?_) (fun c14 => ?_)
            · refine lv_iconst (v := nI 0) hx hb dX1_share_55 (by decide) ?_
              exact K11 _ _ _ ⟨by rw [bN_f c14], hP, hS⟩
            · refine lv_iconst (v := nI 1) hx hb dX1_share_51 (by decide) ?_
              refine lv_goto (tgt := 56) hx hb dX1_share_52 (by decide) ?_
              exact K11 _ _ _ ⟨by rw [bN_t c14], hP, hS⟩
          · obtain ⟨hv13, hP, hS⟩ := hv13
            subst hv13
            refine bw_add hx hb dX1_share_56 ?_
            refine lv_istore (lv' := [(4, .int (nI ((cnt (fun t => kb has up ch t h) j) + (bN (kb has up ch j h))))), (0, .ref (ad 0)), (1, .int (nI h)), (2, .int (nI v)), (3, .int (nI (bN lower))), (5, .int (nI j))]) hx hb dX1_share_57 hl (by decide) rfl (fun ls hl => ?_)
            refine lv_iinc (v := nI (j + 1)) (lv' := [(5, .int (nI (j + 1))), (4, .int (nI ((cnt (fun t => kb has up ch t h) j) + (bN (kb has up ch j h))))), (0, .ref (ad 0)), (1, .int (nI h)), (2, .int (nI v)), (3, .int (nI (bN lower)))]) hx hb dX1_share_59 hl (k := 5) rfl (inc1 _) (by decide) rfl (fun ls hl => ?_)
            refine lv_goto (tgt := 32) hx hb dX1_share_62 (by decide) ?_
            exact hk7 () _ _ _ ⟨lv_sub hl [2, 3, 4, 5, 1, 0] rfl, hP, hS, trivial⟩
      · intro x H locs ls hI
        obtain ⟨hl, hP, hS, hI⟩ := hI
        refine lv_iload hx hb dX1_share_32 (lv_at hl 5 rfl) ?_
        refine lv_bipush (v := nI 40) hx hb dX1_share_34 (by decide) ?_
        refine bw_ge (by omega) (by omega) hx hb (tgt := 65) dX1_share_36 (by decide) (fun c15 => ?_) (fun c15 => ?_)
        · have hle := aN_le has up ch h
          have hle2 := cN_le has up ch h v
          have hle3 := cN_aN has up ch h v
          have hl : lv_has ls 7 [(0, .ref (ad 0)), (1, .int (nI h)), (2, .int (nI v)), (3, .int (nI (bN lower))), (4, .int (nI (aN has up ch h))), (5, .int (nI 40))] := hl
          refine lv_aload_n hx hb dX1_share_65 rfl (lv_at hl 0 rfl) ?_
          refine fc_counts hx hb hts hown hK hP dX1_share_66 ?_
          refine lv_bipush (v := nI 32) hx hb dX1_share_69 (by decide) ?_
          refine lv_iload_n hx hb dX1_share_71 rfl (lv_at hl 1 rfl) ?_
          refine bw_mul hx hb dX1_share_72 ?_
          refine lv_iload_n hx hb dX1_share_73 rfl (lv_at hl 2 rfl) ?_
          refine bw_add hx hb dX1_share_74 ?_
          refine bw_iald hx hb hK hP 6 rfl (((32 * h) + v)) (by omega) (by decide) dX1_share_75 ?_
          refine bw_top (y := nI (cN has up ch h v)) (hN h hh v hv) ?_
          refine lv_istore (lv' := [(5, .int (nI (cN has up ch h v))), (0, .ref (ad 0)), (1, .int (nI h)), (2, .int (nI v)), (3, .int (nI (bN lower))), (4, .int (nI (aN has up ch h)))]) hx hb dX1_share_76 hl (by decide) rfl (fun ls hl => ?_)
          refine lv_iload hx hb dX1_share_78 (lv_at hl 5 rfl) ?_
          refine lv_iload hx hb dX1_share_80 (lv_at hl 0 rfl) ?_
          refine bw_rs (rest := []) ⟨hx, hb, hml, hown, hts⟩ (met_X1_common l _ (aN has up ch h) (cN has up ch h v) hle hle2) (cw_X1_68 hts ⟨Nat.le_of_ble_eq_true rfl, Nat.le_of_ble_eq_true rfl⟩) hP hS hA rfl rfl hl.1 (Nat.le_of_ble_eq_true rfl) dX1_share_82 ⟨Nat.zero_le _, Nat.zero_le _⟩ (fun r16 H locs hv17 hP hS => ?_)
          subst hv17
          refine lv_istore (lv' := [(6, .int (nI (Nat.gcd (aN has up ch h) (cN has up ch h v)))), (5, .int (nI (cN has up ch h v))), (0, .ref (ad 0)), (1, .int (nI h)), (2, .int (nI v)), (3, .int (nI (bN lower))), (4, .int (nI (aN has up ch h)))]) hx hb dX1_share_85 hl (by decide) rfl (fun ls hl => ?_)
          by_cases hz : aN has up ch h = 0
          · have hz2 : cN has up ch h v = 0 := by omega
            rw [shrS_0 hh hz]
            refine lv_iload_n hx hb dX1_share_87 rfl (lv_at hl 5 rfl) ?_
            refine bw_ifeq hx hb (tgt := 96) dX1_share_88 (by decide) (fun c18 => ?_) (fun c18 => ?_)
            · refine lv_iload hx hb dX1_share_96 (lv_at hl 1 rfl) ?_
              refine lv_iload hx hb dX1_share_98 (lv_at hl 0 rfl) ?_
              exact sh_div0 hfl hx hb hlocks hnoh hth hS (hl.1.trans hml.symm) dX1_share_100 ⟨Nat.le_of_ble_eq_true rfl, Nat.le_of_ble_eq_true rfl, Nat.le_of_ble_eq_true rfl, Nat.le_of_ble_eq_true rfl⟩ (by rw [hz, hz2]; rfl)
            · refine lv_iload hx hb dX1_share_91 (lv_at hl 6 rfl) ?_
              refine lv_goto (tgt := 98) hx hb dX1_share_93 (by decide) ?_
              refine lv_iload hx hb dX1_share_98 (lv_at hl 0 rfl) ?_
              exact sh_div0 hfl hx hb hlocks hnoh hth hS (hl.1.trans hml.symm) dX1_share_100 ⟨Nat.le_of_ble_eq_true rfl, Nat.le_of_ble_eq_true rfl, Nat.le_of_ble_eq_true rfl, Nat.le_of_ble_eq_true rfl⟩ (by rw [hz, hz2]; rfl)
          · have hgp : 0 < Nat.gcd (aN has up ch h) (cN has up ch h v) := Nat.gcd_pos_of_pos_left _ (by omega)
            have hgl : Nat.gcd (aN has up ch h) (cN has up ch h v) ≤ aN has up ch h := Nat.le_of_dvd (by omega) (Nat.gcd_dvd_left _ _)
            refine lv_iload_n hx hb dX1_share_87 rfl (lv_at hl 5 rfl) ?_
            refine bw_ifeq hx hb (tgt := 96) dX1_share_88 (by decide) (fun c19 => ?_) (fun c19 => ?_)
            · refine lv_iload hx hb dX1_share_96 (lv_at hl 1 rfl) ?_
              refine lv_iload hx hb dX1_share_98 (lv_at hl 0 rfl) ?_
              refine lv_idiv hx hb dX1_share_100 (nI_ne0 (by omega) (by omega)) ?_
              refine bw_top (y := nI ((cN has up ch h v) / (Nat.gcd (aN has up ch h) (cN has up ch h v)))) (pk_div (by omega) (by omega) (by omega)) ?_
              exact sh_iret (by rw [shrS_g hh hv hz, cif_f c19]) hx hb hr hlocks hS dX1_share_101
            · refine lv_iload hx hb dX1_share_91 (lv_at hl 6 rfl) ?_
              refine lv_goto (tgt := 98) hx hb dX1_share_93 (by decide) ?_
              refine lv_iload hx hb dX1_share_98 (lv_at hl 0 rfl) ?_
              refine lv_idiv hx hb dX1_share_100 (nI_ne0 (by omega) (by omega)) ?_
              refine bw_top (y := nI ((aN has up ch h) / (Nat.gcd (aN has up ch h) (cN has up ch h v)))) (pk_div (by omega) (by omega) (by omega)) ?_
              exact sh_iret (by rw [shrS_g hh hv hz, cif_t c19]) hx hb hr hlocks hS dX1_share_101
        · exact absurd c15 (by omega)
    · rw [shrS_b (fun q => c6 q.2)]
      exact sh_new hfl hx hb hlocks hnoh hts hth hown hS (hl.1.trans hml.symm) ⟨Nat.le_of_ble_eq_true rfl, Nat.le_of_ble_eq_true rfl, Nat.le_of_ble_eq_true rfl, Nat.le_of_ble_eq_true rfl⟩

/-! ===== FacetCountsLaw.share ===== -/
section SW
variable {p : Program} {l : Launch} {e : Env} {R : Room} {s : State} {m : MethodId} {args : Array Value} {below : List Frame} {meth : Method} {c : Code} {H : Heap} {locs : List Loc} {cells slots : Nat} {Q : State → Prop}
variable {y : MethodName} {bytes cc : ByteArray} {maxL nL mc ms n index : Nat} {ret : Option FieldType} {hh : List (Nat × Nat × Nat × Nat)} {ws : List Cond} {rm : Room} {Pc : Array Value → State → Prop} {Qc : Array Value → State → Outcome → State → Prop} {free : Addr → Prop} {own : String} {As rest : List Value} {g : JFrame}
/-- a static call of a method with handlers -/
theorem sw_run (S : CallFix p m c cc nL s args lw_all own) (hM : Met l y ws rm Pc Qc mc ms free) (hws : ws = wsW_ y bytes maxL ret hh) (h1 : Cond.methodLink own index y ∈ lw_all) (h2 : Cond.static y ∈ lw_all) (h3 : Cond.initialized y.cls ∈ lw_all) (h4 : Cond.codeWith y bytes maxL ret hh ∈ lw_all)
    (hrc : rm.cells = mc) (hrs : rm.slots = ms) (hd : y.cls ≠ "java/lang/invoke/MethodHandle" ∧ y.cls ≠ "java/lang/invoke/VarHandle" ∧ (parseMethodDescriptor y.desc).map (fun d => d.parameters.length) = some n) (hR : rm.frames + 1 ≤ R.frames ∧ 8 + (maxL + 11) + rm.locals ≤ R.locals)
    (hp : PreS s H Pc As) (hg : g.method = m) (hn : As.length = n) (hsize : g.locals.size = nL) (hstack : g.stack = As.reverse ++ rest) (hW : 2 * g.monitorRoom + (rest.map fun v => v.category).sum ≤ 8) (hdg : decode cc g.pc = .ok (.invokestatic index, 3)) (hf : cells + mc ≤ R.cells ∧ slots + ms ≤ R.slots) :
    va_Run p l e R s m args below meth c H locs cells slots mc ms g rest (Qc As.toArray) (free) := by
  subst hws
  obtain ⟨hx, hb, hml, ho, hts⟩ := S
  have hgood := lw_methW (y := y) (b := bytes) (L := maxL) (r := ret) (hh := hh) h4
  have hK : Back l R p e below s args y 3 8 (PreOf R mc ms Pc) (PostOf Qc mc ms free) :=
    va_backW hM hp.1 hrc hrs hR.1 hR.2 (fun w hw a' U hWU => word_at hWU (hgood w hw).2 (hts w (hgood w hw).1)) List.mem_cons_self (fun a' U hWU => word_at hWU (lw_self _ h3).2 (hts _ h3))
  intro T hT X
  obtain ⟨mk, methM, cM, hnamed, hmethM, -, -, -, -, -, -, hsigM⟩ := Cond.codeWith_spec (hts _ h4)
  have hstatic : methM.isStatic = true := Cond.static_spec hnamed hmethM (hts _ h2)
  obtain ⟨kP, hkP, -⟩ := className_of_methodNamed hnamed
  have hinitP : kP.init = .initialized := Cond.initialized_spec (findClass_of_methodNamed hnamed) hkP (hts _ h3)
  have hlen : As.length = methM.sig.parameters.length := by
    have h0 := hd.2.2
    rw [hsigM] at h0
    exact hn.trans (Option.some.inj h0).symm
  obtain ⟨vm₁, X₁, hstep₁⟩ := X.invokestatic hx ho (hts _ h1) hnamed hmethM hstatic hkP hinitP ⟨hd.1, hd.2.1⟩ (g := g) hg (argsL := As) (rest := rest) hlen hstack (by rw [hb]; exact hdg)
  obtain ⟨v, ⟨U', l2, c2, s2⟩, X', ⟨g', mk', t, L, e1, e2, hq, k1, hL, k2, k3⟩, hsteps⟩ := hK m meth c ⟨T.setVm vm₁, locs, cells, slots⟩ { g with stack := rest } (.invokestatic index) mk As.toArray X₁ hg (hsize.trans hml.symm) (by rw [hb]; exact hdg) hW (X₁.named hnamed) ⟨hf.1, hf.2, hp.2 (T.setVm vm₁) hT X₁.warmed⟩
  dsimp only [Pt.U, Pt.locs, Pt.cells, Pt.slots] at X' e1 e2 k1 k2 k3 hsteps
  subst k1; subst k2; subst k3
  exact ⟨v, (T.setVm vm₁).calling g' mk' As.toArray, t, U', L, hT, X', hL, e1, e2, hq, fun target h => hstep₁ _ fun acts => by rw [doInvoke_state]; exact hsteps.trans h⟩
end SW
abbrev rm_X0_share : Room := { frames := 9, cells := 3, slots := 19, locals := 10290 }
/-- what FacetCountsLaw.share answers, and the place of the answer -/
def lsP (res : Option Int32) (f : Nat → Int64) (r : Int32) (f' : Nat → Int64) : Prop := match res with
  | none => r = nI 1 ∧ f' = f
  | some x => r = nI 0 ∧ f' = vp_updL f 0 x.toInt64
def lsPre (D : va_G) (dA dZ dJ : ClassId) (ws : va_W) (sz : Nat) (U : State) : Prop := U.heap.size = sz ∧ va_P D vwCl ws U.heap ∧ va_K D vwCl (tyW dA dZ) U ∧ va_K D vwCl [(dJ, .long)] U ∧ va_D (fun _ => True) ws
theorem lsPre_blind (av : List Value) (D : va_G) (dA dZ dJ : ClassId) (ws : va_W) (sz : Nat) : FrameBlind (va_Pc av (lsPre D dA dZ dJ ws sz)) := by
  intro a U g mk q
  obtain ⟨q0, q1, qP, qK, qK2, qD⟩ := q
  exact ⟨q0, q1, qP, va_K.moved (u := U) (U := U.calling g mk a) (Vm.Alike.refl U.vm) qK, va_K.moved (u := U) (U := U.calling g mk a) (Vm.Alike.refl U.vm) qK2, qD⟩
set_option maxHeartbeats 4000000 in
set_option maxRecDepth 100000 in
theorem met_X0_share (l : Launch) (hfl : l.flags = flags0) (D : va_G) (dA dZ dJ : ClassId) (ad : Nat → Nat) (o0 : Nat) (sz : Nat) {own : Nat → Int32} {rows : Int32} {up clo cho fai cou see has ch tol : Nat → Int32} (hR : Rp (own, rows, up, clo, cho, fai, cou, see) (has, up, ch, tol, rows)) (f : Nat → Int64) (a b : Int32) (lower : Prop) :
    Met l yX0_share (wsW_ yX0_share cX0_share 6 (some .int) [(0, 12, 15, 13)]) rm_X0_share (va_Pc [.ref (ad 0), .int a, .int b, .int (nI (bN lower)), .ref o0] (fun U => lsPre D dA dZ dJ (fcW dA ad own rows up clo cho fai cou see ++ [(o0, .inl (dJ, 1, .inr (.inl f)))]) sz U ∧ thOK U))
      (va_Qi (fun r (f' : Nat → Int64) => lsP (shrS has up ch a b lower) f r f') (fun f' t => va_P D vwCl (fcW dA ad own rows up clo cho fai cou see ++ [(o0, .inl (dJ, 1, .inr (.inl f')))]) t.heap) (va_A [(o0, .inl (dJ, 1, .inr (.inl f)))] sz)) 3 19 (va_A [(o0, .inl (dJ, 1, .inr (.inl f)))] sz) := by
  refine va_MetW (cc := cX0_share) (maxL := 6) (ret := (some .int)) (hh := [(0, 12, 15, 13)]) (by decide) rfl ?_
  intro p e s m args below meth c s₁ B hml hv
  obtain ⟨rfl, ⟨hsz, hP, hK, hK2, hDT⟩, hth0⟩ := hv
  have hx := B.exec
  have hb := B.bytes
  have hr := B.returns
  have hts0 := atoms_spec (ws := wsW_ yX0_share cX0_share 6 (some .int) [(0, 12, 15, 13)]) B.pre
  have hts : ∀ w ∈ lw_all, w.before _ s = true := fun w h => hts0 w (List.mem_cons_of_mem _ h)
  have hown : s.vm.findClass RX0 = some m.cls := findClass_of_methodNamed B.named
  have hlocks := B.notSynchronized
  have htab : c.exceptionTable.toList.map (fun h => (h.startPc, h.endPc, h.handlerPc, h.catchType)) = [(0, 12, 15, 13)] := by
    obtain ⟨m9, meth9, c9, hn9, hm9, hc9, -, -, ht9, -⟩ := Cond.codeWith_spec (hts0 _ List.mem_cons_self)
    cases B.named.symm.trans hn9
    cases B.method.symm.trans hm9
    cases (Stand.of_body B).code.symm.trans hc9
    exact ht9
  subst hsz
  generalize hAe : va_A [(o0, .inl (dJ, 1, .inr (.inl f)))] s.heap.size = A
  have hA : ∀ q : Nat, s.heap.size ≤ q → A q := fun q h => by rw [← hAe]; exact Or.inr h
  have hAo : A o0 := by rw [← hAe]; exact Or.inl ⟨0, _, rfl⟩
  have hS : va_S A s.heap s.heap [] := va_S.rf
  have hl := lv_entry ([.ref (ad 0), .int a, .int b, .int (nI (bN lower)), .ref o0]) (n := 6) (Nat.le_of_ble_eq_true rfl)
  rw [lg_entry_eq]
  generalize (lg_sl ([.ref (ad 0), .int a, .int b, .int (nI (bN lower)), .ref o0]) ++ List.replicate (6 - (lg_sl ([.ref (ad 0), .int a, .int b, .int (nI (bN lower)), .ref o0])).length) Slot.unset).toArray = ls at hl ⊢
  have hl : lv_has ls 6 [(0, .ref (ad 0)), (1, .int a), (2, .int b), (3, .int (nI (bN lower))), (4, .ref o0)] := hl
  refine lv_aload hx hb dX0_share_0 (lv_at hl 4 rfl) ?_
  refine lv_iconst (v := nI 0) hx hb dX0_share_2 (by decide) ?_
  refine lv_aload_n hx hb dX0_share_3 rfl (lv_at hl 0 rfl) ?_
  refine lv_iload_n hx hb dX0_share_4 rfl (lv_at hl 1 rfl) ?_
  refine lv_iload_n hx hb dX0_share_5 rfl (lv_at hl 2 rfl) ?_
  refine lv_iload_n hx hb dX0_share_6 rfl (lv_at hl 3 rfl) ?_
  have hPc := hP.sub (ws' := fcW dA ad own rows up clo cho fai cou see) [0, 1, 2, 3, 4, 5, 6, 7] rfl
  have hDc := hDT.sub (ws' := fcW dA ad own rows up clo cho fai cou see) [0, 1, 2, 3, 4, 5, 6, 7] (by decide) rfl
  have hap : ∀ (k : Nat) (x : Nat × va_E), (fcW dA ad own rows up clo cho fai cou see)[k]? = some x → x.1 ≠ o0 := by
    intro k x hk e9
    have hk8 : k < 8 := (List.getElem?_eq_some_iff.mp hk).1
    have h1 : (fcW dA ad own rows up clo cho fai cou see ++ [(o0, .inl (dJ, 1, .inr (.inl f)))])[k]? = some x := by rw [List.getElem?_append_left hk8]; exact hk
    have := hDT.1 k 8 x (o0, .inl (dJ, 1, .inr (.inl f))) h1 rfl e9
    omega
  have hA2 : va_D A [(o0, .inl (dJ, 1, .inr (.inl f)))] := ⟨fun i j x y hi hj _ => by
      have hi1 : i < 1 := (List.getElem?_eq_some_iff.mp hi).1
      have hj1 : j < 1 := (List.getElem?_eq_some_iff.mp hj).1
      omega, fun k x hk => by
      have hk1 : k < 1 := (List.getElem?_eq_some_iff.mp hk).1
      rw [show k = 0 by omega] at hk
      cases hk
      exact hAo⟩
  refine sh_call (A := A) (rest := [.int (nI 0), .ref o0]) hx hb hown hts (met_X1_share l hfl D dA dZ ad s.heap.size hR a b lower) (th_blind _ (wPre_blind _ D dA dZ _ s.heap.size))
    (fun U hU hW => ⟨rfl, ⟨by rw [hU], by rw [hU]; exact hPc, va_K.moved hW.alike hK, hDc⟩, hth0.move hW (fun q _ => by rw [hU])⟩) rfl (va_recv hK hPc (ci := 0) (q0 := 0) rfl rfl) htab (hts _ q132) hS rfl (hl.1.trans hml.symm) (Nat.le_of_ble_eq_true rfl) dX0_share_7
    ⟨Nat.le_of_ble_eq_true rfl, Nat.le_of_ble_eq_true rfl, Nat.le_of_ble_eq_true rfl, Nat.le_of_ble_eq_true rfl⟩ (fun r H locs hres hk hS => ?_) (fun x H locs hres hk hS => ?_)
  · have hP1 := hP.kept (H1 := H) (fun k q h => hk q.1 (hP k q h).lt)
    have hPo := hP1.sub (ws' := [(o0, .inl (dJ, 1, .inr (.inl f)))]) [8] rfl
    have hPf := hP1.sub (ws' := fcW dA ad own rows up clo cho fai cou see) [0, 1, 2, 3, 4, 5, 6, 7] rfl
    refine lv_i2l (v := r.toInt64) hx hb dX0_share_10 rfl ?_
    refine va_last hx hb hK2 hPo hA2 hS 0 0 rfl rfl (vp_in_nI (n := 0) (N := 1) (by decide) (by decide)) dX0_share_11 (fun H1 locs hP2 hD2 hS2 => ?_)
    have hP2 : va_P D vwCl [(o0, .inl (dJ, 1, .inr (.inl (vp_updL f 0 r.toInt64))))] H1 := by
      rw [nI_clamp (n := 0) (by decide)] at hP2
      exact hP2
    have hoA : ∀ (k : Nat) (x : Nat × va_E), (fcW dA ad own rows up clo cho fai cou see)[k]? = some x → ¬ A x.1 := by
      intro k x hk hA9
      rw [← hAe] at hA9
      rcases hA9 with ⟨i, e9, hi⟩ | h9
      · have hi1 : i < 1 := (List.getElem?_eq_some_iff.mp hi).1
        rw [show i = 0 by omega] at hi
        exact hap k x hk (congrArg Prod.fst (Option.some.inj hi)).symm
      · exact absurd (hPc k x hk).lt (Nat.not_lt.mpr h9)
    have hPf2 : va_P D vwCl (fcW dA ad own rows up clo cho fai cou see) H1 := hPc.kept (fun k q h => hS2.2.1 q.1 (hPc k q h).lt (hoA k q h))
    refine lv_goto (tgt := 19) hx hb dX0_share_12 (by decide) ?_
    refine lv_iconst (v := nI 0) hx hb dX0_share_19 (by decide) ?_
    refine W.widen (k := 3) (n := 19) (by omega) (by omega) ?_
    exact W.iret hx hb hr (fun t ht _ => ⟨⟨nI 0, vp_updL f 0 r.toInt64, rfl, by rw [hres]; exact ⟨rfl, rfl⟩, by show va_P D vwCl _ t.heap; rw [ht]; exact hPf2.app hP2⟩, hS2.F ht⟩) hS2.2.2 dX0_share_20 hlocks
  · have hP1 := hP.kept (H1 := H) (fun k q h => hk q.1 (hP k q h).lt)
    refine lv_astore (lv' := [(5, .ref x), (0, .ref (ad 0)), (1, .int a), (2, .int b), (3, .int (nI (bN lower))), (4, .ref o0)]) hx hb dX0_share_15 hl (by decide) rfl (fun ls hl => ?_)
    refine lv_iconst (v := nI 1) hx hb dX0_share_17 (by decide) ?_
    refine W.widen (k := 3) (n := 19) (by omega) (by omega) ?_
    exact W.iret hx hb hr (fun t ht _ => ⟨⟨nI 1, f, rfl, by rw [hres]; exact ⟨rfl, rfl⟩, by show va_P D vwCl _ t.heap; rw [ht]; exact hP1⟩, hS.F ht⟩) hS.2.2 dX0_share_18 hlocks
end
section
set_option maxRecDepth 100000
/-! ===== the constructors ===== -/
section NW
variable {p : Program} {l : Launch} {e : Env} {R : Room} {s : State} {m : MethodId} {args : Array Value} {below : List Frame} {meth : Method} {c : Code} {H : Heap} {locs : List Loc} {cells slots : Nat} {Q : State → Prop}
variable {cc : ByteArray} {pc : Nat} {ls : Array Slot} {rest : List Value} {D : va_G} {A : Nat → Prop} {ws : va_W} {H0 : Heap} {dA dZ : ClassId}
/-- a new array of ints: its class is dA -/
theorem bw_newi (hx : p.tables.exec = Jvm.exec) (hb : c.code = cc) (harr : (Cond.arrayClass .int).before args s = true) (hK : va_K D vwCl (tyW dA dZ) s) (hP : va_P D vwCl ws H) (hD : va_D A ws) (hS : va_S A H0 H locs) (hA : ∀ q, H0.size ≤ q → A q)
    {N : Nat} (hN : N ≤ 10240) (hcells : cells + 1 ≤ R.cells) (hslots : slots + N ≤ R.slots) (hdg : decode cc pc = .ok (.newarray .int, 2))
    (kk : ∀ (q : Nat) (H1 : Heap), va_P D vwCl (ws ++ [(q, .inl (dA, N, .inl (fun _ => 0)))]) H1 → va_D A (ws ++ [(q, .inl (dA, N, .inl (fun _ => 0)))]) → va_S A H0 H1 locs →
      W p l e R s m args below meth c H1 locs (cells + 1) (slots + N) Q (F0 m (pc + 2) ls (.ref q :: rest))) : W p l e R s m args below meth c H locs cells slots Q (F0 m pc ls (.int (nI N) :: rest)) := by
  refine va_newa (atype := .int) (ty := .int) (N' := N) (a0 := (N, .inl (fun _ => 0))) hx hb harr rfl hK hP hD hS hA (fun cA => vp_cell_i _ _ _) (nI_pos (by omega)) (nI_clamp (by omega)) (by simp only [componentBytes]; omega) hcells hslots hdg (fun q cA H1 hK1 hP1 hD1 hS1 => ?_)
  have hc : cA = dA := Option.some.inj ((hK1.2 2 _ rfl).2.symm.trans (hK1.2 0 _ rfl).2)
  subst hc
  exact kk q H1 hP1 hD1 hS1
theorem bw_newz (hx : p.tables.exec = Jvm.exec) (hb : c.code = cc) (harr : (Cond.arrayClass .boolean).before args s = true) (hK : va_K D vwCl (tyW dA dZ) s) (hP : va_P D vwCl ws H) (hD : va_D A ws) (hS : va_S A H0 H locs) (hA : ∀ q, H0.size ≤ q → A q)
    {N : Nat} (hN : N ≤ 10240) (hcells : cells + 1 ≤ R.cells) (hslots : slots + N ≤ R.slots) (hdg : decode cc pc = .ok (.newarray .boolean, 2))
    (kk : ∀ (q : Nat) (H1 : Heap), va_P D vwCl (ws ++ [(q, .inl (dZ, N, .inl (fun _ => 0)))]) H1 → va_D A (ws ++ [(q, .inl (dZ, N, .inl (fun _ => 0)))]) → va_S A H0 H1 locs →
      W p l e R s m args below meth c H1 locs (cells + 1) (slots + N) Q (F0 m (pc + 2) ls (.ref q :: rest))) : W p l e R s m args below meth c H locs cells slots Q (F0 m pc ls (.int (nI N) :: rest)) := by
  refine va_newa (atype := .boolean) (ty := .boolean) (N' := N) (a0 := (N, .inl (fun _ => 0))) hx hb harr rfl hK hP hD hS hA (fun cA => vp_cell_i _ _ _) (nI_pos (by omega)) (nI_clamp (by omega)) (by simp only [componentBytes]; omega) hcells hslots hdg (fun q cA H1 hK1 hP1 hD1 hS1 => ?_)
  have hc : cA = dZ := Option.some.inj ((hK1.2 2 _ rfl).2.symm.trans (hK1.2 1 _ rfl).2)
  subst hc
  exact kk q H1 hP1 hD1 hS1
end NW
def iniU (n : Nat) : Nat → Int32 := fun k => if k < n then -1 else 0
def iniC (n : Nat) : Nat → Int32 := fun k => if k < n then nI 1 <<< (nI k &&& 31) else 0
theorem iniU_0 : iniU 0 = fun _ => 0 := funext fun k => if_neg (Nat.not_lt_zero k)
theorem iniC_0 : iniC 0 = fun _ => 0 := funext fun k => if_neg (Nat.not_lt_zero k)
theorem iniU_s (n : Nat) : upd (iniU n) n (-1) = iniU (n + 1) := by
  funext i
  by_cases e : i = n
  · subst e
    rw [pk_us]
    exact (if_pos (Nat.lt_succ_self i)).symm
  · rw [pk_un e]
    unfold iniU
    by_cases q : i < n
    · rw [if_pos q, if_pos (by omega)]
    · rw [if_neg q, if_neg (by omega)]
theorem iniC_s (n : Nat) : upd (iniC n) n (nI 1 <<< (nI n &&& 31)) = iniC (n + 1) := by
  funext i
  by_cases e : i = n
  · subst e
    rw [pk_us]
    exact (if_pos (Nat.lt_succ_self i)).symm
  · rw [pk_un e]
    unfold iniC
    by_cases q : i < n
    · rw [if_pos q, if_pos (by omega)]
    · rw [if_neg q, if_neg (by omega)]
theorem iniU_v {k : Nat} (h : k < 32) : iniU 32 k = -1 := if_pos h
theorem iniC_v {k : Nat} (h : k < 32) : iniC 32 k = nI 1 <<< (nI k &&& 31) := if_pos h
def zN : Nat → Int32 := fun _ => 0
/-- the picture at the start -/
def z0 : MS := (zN, iniU 32, zN, zN, 0)
def u0 : FS := (zN, 0, iniU 32, iniC 32, zN, zN, zN, zN)
theorem z_n1 : ¬ (0 : Int32) = nI 1 := by decide
theorem und_0 {k v : Nat} (hk : k < 32) : und (iniU 32) k v ↔ k = v := by
  rw [und_iff]
  constructor
  · rintro (h | ⟨j, hj, e, -⟩)
    · exact h
    · rw [iniU_v hk] at e
      exact absurd e (m1_nI (by omega))
  · intro h
    exact Or.inl h
theorem z0_ok : mOK z0 := ⟨fun _ _ => Or.inl rfl, fun _ _ => Or.inl rfl, fun _ => 0, fun k hk => Or.inl (iniU_v hk)⟩
theorem z0_Rp : Rp u0 z0 := by
  refine ⟨?_, rfl, rfl, ?_, ?_, ?_, ?_, fun _ _ => rfl⟩
  · intro t ht h hh v hv
    show bt 0 v = true ↔ (0 : Int32) = nI 1
    rw [b_0]
    exact ⟨fun q => absurd q (by decide), fun q => absurd q z_n1⟩
  · intro k hk v hv
    show bt (iniC 32 k) v = true ↔ und (iniU 32) k v
    rw [und_0 hk, iniC_v hk, b_one hk hv, decide_eq_true_eq]
    exact eq_comm
  · intro h hh v hv
    show bt 0 v = true ↔ (0 : Int32) = nI 1
    rw [b_0]
    exact ⟨fun q => absurd q (by decide), fun q => absurd q z_n1⟩
  · intro t ht
    show (0 : Int32) = nI (fN zN (iniU 32) zN t)
    have : fN zN (iniU 32) zN t = 0 := cnt_0.mpr (fun h hh q => q (Or.inr (fun ⟨v, hv, z⟩ => z_n1 z)))
    rw [this]
    rfl
  · intro h hh v hv
    show (0 : Int32) = nI (cN zN (iniU 32) zN h v)
    have : cN zN (iniU 32) zN h v = 0 := cnt_0.mpr (fun t ht q => by
      rcases q.1 with ⟨-, k, hk, z, -⟩ | ⟨-, z⟩
      · exact z_n1 z
      · exact z_n1 z)
    rw [this]
    rfl

abbrev rm_X1_init : Room := { frames := 1, cells := 7, slots := 944, locals := 12 }
def adfX1 (h0 q1 q2 q3 q4 q5 q6 q7 : Nat) : Nat → Nat := fun k => match k with
  | 0 => h0
  | 1 => q1
  | 2 => q2
  | 3 => q3
  | 4 => q4
  | 5 => q5
  | 6 => q6
  | _ => q7
set_option maxHeartbeats 4000000 in
set_option maxRecDepth 100000 in
theorem met_X1_init (l : Launch) (D : va_G) (dA dZ : ClassId) (h0 : Nat) (sz : Nat) : Met l yX1_init (ws_ yX1_init cX1_init 2 none) rm_X1_init (va_Pc [.ref h0] (wPre D dA dZ [(h0, .inr (0, [.null, .int 0, .null, .null, .null, .null, .null, .null]))] sz)) (va_Qv (fun (u : (Nat → Nat) × FS) => u.1 0 = h0 ∧ u.2 = u0) (fun u t => va_P D vwCl (fcU dA u.1 u.2) t.heap ∧ va_D (va_A [(h0, .inr (0, [.null, .int 0, .null, .null, .null, .null, .null, .null]))] sz) (fcU dA u.1 u.2)) (va_A [(h0, .inr (0, [.null, .int 0, .null, .null, .null, .null, .null, .null]))] sz)) 7 944 (va_A [(h0, .inr (0, [.null, .int 0, .null, .null, .null, .null, .null, .null]))] sz) := by
  refine Met.ofW (cc := cX1_init) (maxL := 2) (ret := none) (by decide) rfl ?_
  intro p e s m args below meth c s₁ B hml hv
  obtain ⟨rfl, hsz, hP, hK, hDT⟩ := hv
  have hx := B.exec
  have hb := B.bytes
  have hr := B.returns
  have hts : ∀ w ∈ lw_all, w.before _ s = true := fun w h => atoms_spec (ws := ws_ yX1_init cX1_init 2 none) B.pre w (List.mem_cons_of_mem _ h)
  have hown : s.vm.findClass RX1 = some m.cls := findClass_of_methodNamed B.named
  have hlocks := B.notSynchronized
  subst hsz
  have hD := hDT.self (sz := s.heap.size)
  generalize hAe : va_A ([(h0, .inr (0, [.null, .int 0, .null, .null, .null, .null, .null, .null]))]) s.heap.size = A at hD ⊢
  have hA : ∀ q : Nat, s.heap.size ≤ q → A q := fun q h => by rw [← hAe]; exact Or.inr h
  have hS : va_S A s.heap s.heap [] := va_S.rf
  have hl := lv_entry ([.ref h0]) (n := 2) (Nat.le_of_ble_eq_true rfl)
  rw [lg_entry_eq]
  generalize (lg_sl ([.ref h0]) ++ List.replicate (2 - (lg_sl ([.ref h0])).length) Slot.unset).toArray = ls at hl ⊢
  have hl : lv_has ls 2 [(0, .ref h0)] := hl
  have hin : meth.name = "<init>" := (name_of_methodNamed B.named B.method).1
  refine lv_aload_n hx hb dX1_init_0 rfl (lv_at hl 0 rfl) ?_
  refine W.objInit hx hb hown (hts _ q25) (hts _ q26) (hts _ q27) rfl (by rw [hml]; exact hl.1) rfl dX1_init_1 (Nat.le_of_ble_eq_true rfl) (Nat.le_of_ble_eq_true rfl) ?_
  refine W.eq (g2 := F0 m 4 ls []) rfl ?_
  refine lv_aload_n hx hb dX1_init_4 rfl (lv_at hl 0 rfl) ?_
  refine lv_sipush (v := nI 320) hx hb dX1_init_5 (by decide) ?_
  refine bw_newi (N := 320) hx hb (hts _ q53) hK hP hD hS hA (by decide) (Nat.le_of_ble_eq_true rfl) (Nat.le_of_ble_eq_true rfl) dX1_init_8 (fun q1 H hP hD hS => ?_)
  have hP : va_P D vwCl [(h0, .inr (0, [.null, .int 0, .null, .null, .null, .null, .null, .null])), (q1, .inl (dA, 320, .inl (fun _ => 0)))] H := hP
  have hD : va_D A [(h0, .inr (0, [.null, .int 0, .null, .null, .null, .null, .null, .null])), (q1, .inl (dA, 320, .inl (fun _ => 0)))] := hD
  refine W.widen (k := 1) (n := 320) (Nat.le_of_ble_eq_true rfl) (Nat.le_of_ble_eq_true rfl) ?_
  refine va_putF (C := RX1) (T := TX1) (N := 8) (ci := 0) hx hb hts in_X1 tyX1 tyX1_ok nmX1 hown hK hP hD hS 0 rfl rfl 0 (by decide) (hts _ q28) (fun _ h9 => h9) rfl hin rfl rfl rfl rfl (Nat.le_of_ble_eq_true rfl) dX1_init_10 (fun H locs hP hD hS => ?_)
  have hP : va_P D vwCl [(h0, .inr (0, [.ref q1, .int 0, .null, .null, .null, .null, .null, .null])), (q1, .inl (dA, 320, .inl (fun _ => 0)))] H := hP
  have hD : va_D A [(h0, .inr (0, [.ref q1, .int 0, .null, .null, .null, .null, .null, .null])), (q1, .inl (dA, 320, .inl (fun _ => 0)))] := hD
  refine lv_aload_n hx hb dX1_init_13 rfl (lv_at hl 0 rfl) ?_
  refine lv_bipush (v := nI 32) hx hb dX1_init_14 (by decide) ?_
  refine bw_newi (N := 32) hx hb (hts _ q53) hK hP hD hS hA (by decide) (Nat.le_of_ble_eq_true rfl) (Nat.le_of_ble_eq_true rfl) dX1_init_16 (fun q2 H hP hD hS => ?_)
  have hP : va_P D vwCl [(h0, .inr (0, [.ref q1, .int 0, .null, .null, .null, .null, .null, .null])), (q1, .inl (dA, 320, .inl (fun _ => 0))), (q2, .inl (dA, 32, .inl (fun _ => 0)))] H := hP
  have hD : va_D A [(h0, .inr (0, [.ref q1, .int 0, .null, .null, .null, .null, .null, .null])), (q1, .inl (dA, 320, .inl (fun _ => 0))), (q2, .inl (dA, 32, .inl (fun _ => 0)))] := hD
  refine W.widen (k := 2) (n := 352) (Nat.le_of_ble_eq_true rfl) (Nat.le_of_ble_eq_true rfl) ?_
  refine va_putF (C := RX1) (T := TX1) (N := 8) (ci := 0) hx hb hts in_X1 tyX1 tyX1_ok nmX1 hown hK hP hD hS 0 rfl rfl 2 (by decide) (hts _ q30) (fun _ h9 => h9) rfl hin rfl rfl rfl rfl (Nat.le_of_ble_eq_true rfl) dX1_init_18 (fun H locs hP hD hS => ?_)
  have hP : va_P D vwCl [(h0, .inr (0, [.ref q1, .int 0, .ref q2, .null, .null, .null, .null, .null])), (q1, .inl (dA, 320, .inl (fun _ => 0))), (q2, .inl (dA, 32, .inl (fun _ => 0)))] H := hP
  have hD : va_D A [(h0, .inr (0, [.ref q1, .int 0, .ref q2, .null, .null, .null, .null, .null])), (q1, .inl (dA, 320, .inl (fun _ => 0))), (q2, .inl (dA, 32, .inl (fun _ => 0)))] := hD
  refine lv_aload_n hx hb dX1_init_21 rfl (lv_at hl 0 rfl) ?_
  refine lv_bipush (v := nI 32) hx hb dX1_init_22 (by decide) ?_
  refine bw_newi (N := 32) hx hb (hts _ q53) hK hP hD hS hA (by decide) (Nat.le_of_ble_eq_true rfl) (Nat.le_of_ble_eq_true rfl) dX1_init_24 (fun q3 H hP hD hS => ?_)
  have hP : va_P D vwCl [(h0, .inr (0, [.ref q1, .int 0, .ref q2, .null, .null, .null, .null, .null])), (q1, .inl (dA, 320, .inl (fun _ => 0))), (q2, .inl (dA, 32, .inl (fun _ => 0))), (q3, .inl (dA, 32, .inl (fun _ => 0)))] H := hP
  have hD : va_D A [(h0, .inr (0, [.ref q1, .int 0, .ref q2, .null, .null, .null, .null, .null])), (q1, .inl (dA, 320, .inl (fun _ => 0))), (q2, .inl (dA, 32, .inl (fun _ => 0))), (q3, .inl (dA, 32, .inl (fun _ => 0)))] := hD
  refine W.widen (k := 3) (n := 384) (Nat.le_of_ble_eq_true rfl) (Nat.le_of_ble_eq_true rfl) ?_
  refine va_putF (C := RX1) (T := TX1) (N := 8) (ci := 0) hx hb hts in_X1 tyX1 tyX1_ok nmX1 hown hK hP hD hS 0 rfl rfl 3 (by decide) (hts _ q31) (fun _ h9 => h9) rfl hin rfl rfl rfl rfl (Nat.le_of_ble_eq_true rfl) dX1_init_26 (fun H locs hP hD hS => ?_)
  have hP : va_P D vwCl [(h0, .inr (0, [.ref q1, .int 0, .ref q2, .ref q3, .null, .null, .null, .null])), (q1, .inl (dA, 320, .inl (fun _ => 0))), (q2, .inl (dA, 32, .inl (fun _ => 0))), (q3, .inl (dA, 32, .inl (fun _ => 0)))] H := hP
  have hD : va_D A [(h0, .inr (0, [.ref q1, .int 0, .ref q2, .ref q3, .null, .null, .null, .null])), (q1, .inl (dA, 320, .inl (fun _ => 0))), (q2, .inl (dA, 32, .inl (fun _ => 0))), (q3, .inl (dA, 32, .inl (fun _ => 0)))] := hD
  refine lv_aload_n hx hb dX1_init_29 rfl (lv_at hl 0 rfl) ?_
  refine lv_bipush (v := nI 8) hx hb dX1_init_30 (by decide) ?_
  refine bw_newi (N := 8) hx hb (hts _ q53) hK hP hD hS hA (by decide) (Nat.le_of_ble_eq_true rfl) (Nat.le_of_ble_eq_true rfl) dX1_init_32 (fun q4 H hP hD hS => ?_)
  have hP : va_P D vwCl [(h0, .inr (0, [.ref q1, .int 0, .ref q2, .ref q3, .null, .null, .null, .null])), (q1, .inl (dA, 320, .inl (fun _ => 0))), (q2, .inl (dA, 32, .inl (fun _ => 0))), (q3, .inl (dA, 32, .inl (fun _ => 0))), (q4, .inl (dA, 8, .inl (fun _ => 0)))] H := hP
  have hD : va_D A [(h0, .inr (0, [.ref q1, .int 0, .ref q2, .ref q3, .null, .null, .null, .null])), (q1, .inl (dA, 320, .inl (fun _ => 0))), (q2, .inl (dA, 32, .inl (fun _ => 0))), (q3, .inl (dA, 32, .inl (fun _ => 0))), (q4, .inl (dA, 8, .inl (fun _ => 0)))] := hD
  refine W.widen (k := 4) (n := 392) (Nat.le_of_ble_eq_true rfl) (Nat.le_of_ble_eq_true rfl) ?_
  refine va_putF (C := RX1) (T := TX1) (N := 8) (ci := 0) hx hb hts in_X1 tyX1 tyX1_ok nmX1 hown hK hP hD hS 0 rfl rfl 4 (by decide) (hts _ q32) (fun _ h9 => h9) rfl hin rfl rfl rfl rfl (Nat.le_of_ble_eq_true rfl) dX1_init_34 (fun H locs hP hD hS => ?_)
  have hP : va_P D vwCl [(h0, .inr (0, [.ref q1, .int 0, .ref q2, .ref q3, .ref q4, .null, .null, .null])), (q1, .inl (dA, 320, .inl (fun _ => 0))), (q2, .inl (dA, 32, .inl (fun _ => 0))), (q3, .inl (dA, 32, .inl (fun _ => 0))), (q4, .inl (dA, 8, .inl (fun _ => 0)))] H := hP
  have hD : va_D A [(h0, .inr (0, [.ref q1, .int 0, .ref q2, .ref q3, .ref q4, .null, .null, .null])), (q1, .inl (dA, 320, .inl (fun _ => 0))), (q2, .inl (dA, 32, .inl (fun _ => 0))), (q3, .inl (dA, 32, .inl (fun _ => 0))), (q4, .inl (dA, 8, .inl (fun _ => 0)))] := hD
  refine lv_aload_n hx hb dX1_init_37 rfl (lv_at hl 0 rfl) ?_
  refine lv_bipush (v := nI 40) hx hb dX1_init_38 (by decide) ?_
  refine bw_newi (N := 40) hx hb (hts _ q53) hK hP hD hS hA (by decide) (Nat.le_of_ble_eq_true rfl) (Nat.le_of_ble_eq_true rfl) dX1_init_40 (fun q5 H hP hD hS => ?_)
  have hP : va_P D vwCl [(h0, .inr (0, [.ref q1, .int 0, .ref q2, .ref q3, .ref q4, .null, .null, .null])), (q1, .inl (dA, 320, .inl (fun _ => 0))), (q2, .inl (dA, 32, .inl (fun _ => 0))), (q3, .inl (dA, 32, .inl (fun _ => 0))), (q4, .inl (dA, 8, .inl (fun _ => 0))), (q5, .inl (dA, 40, .inl (fun _ => 0)))] H := hP
  have hD : va_D A [(h0, .inr (0, [.ref q1, .int 0, .ref q2, .ref q3, .ref q4, .null, .null, .null])), (q1, .inl (dA, 320, .inl (fun _ => 0))), (q2, .inl (dA, 32, .inl (fun _ => 0))), (q3, .inl (dA, 32, .inl (fun _ => 0))), (q4, .inl (dA, 8, .inl (fun _ => 0))), (q5, .inl (dA, 40, .inl (fun _ => 0)))] := hD
  refine W.widen (k := 5) (n := 432) (Nat.le_of_ble_eq_true rfl) (Nat.le_of_ble_eq_true rfl) ?_
  refine va_putF (C := RX1) (T := TX1) (N := 8) (ci := 0) hx hb hts in_X1 tyX1 tyX1_ok nmX1 hown hK hP hD hS 0 rfl rfl 5 (by decide) (hts _ q33) (fun _ h9 => h9) rfl hin rfl rfl rfl rfl (Nat.le_of_ble_eq_true rfl) dX1_init_42 (fun H locs hP hD hS => ?_)
  have hP : va_P D vwCl [(h0, .inr (0, [.ref q1, .int 0, .ref q2, .ref q3, .ref q4, .ref q5, .null, .null])), (q1, .inl (dA, 320, .inl (fun _ => 0))), (q2, .inl (dA, 32, .inl (fun _ => 0))), (q3, .inl (dA, 32, .inl (fun _ => 0))), (q4, .inl (dA, 8, .inl (fun _ => 0))), (q5, .inl (dA, 40, .inl (fun _ => 0)))] H := hP
  have hD : va_D A [(h0, .inr (0, [.ref q1, .int 0, .ref q2, .ref q3, .ref q4, .ref q5, .null, .null])), (q1, .inl (dA, 320, .inl (fun _ => 0))), (q2, .inl (dA, 32, .inl (fun _ => 0))), (q3, .inl (dA, 32, .inl (fun _ => 0))), (q4, .inl (dA, 8, .inl (fun _ => 0))), (q5, .inl (dA, 40, .inl (fun _ => 0)))] := hD
  refine lv_aload_n hx hb dX1_init_45 rfl (lv_at hl 0 rfl) ?_
  refine lv_sipush (v := nI 256) hx hb dX1_init_46 (by decide) ?_
  refine bw_newi (N := 256) hx hb (hts _ q53) hK hP hD hS hA (by decide) (Nat.le_of_ble_eq_true rfl) (Nat.le_of_ble_eq_true rfl) dX1_init_49 (fun q6 H hP hD hS => ?_)
  have hP : va_P D vwCl [(h0, .inr (0, [.ref q1, .int 0, .ref q2, .ref q3, .ref q4, .ref q5, .null, .null])), (q1, .inl (dA, 320, .inl (fun _ => 0))), (q2, .inl (dA, 32, .inl (fun _ => 0))), (q3, .inl (dA, 32, .inl (fun _ => 0))), (q4, .inl (dA, 8, .inl (fun _ => 0))), (q5, .inl (dA, 40, .inl (fun _ => 0))), (q6, .inl (dA, 256, .inl (fun _ => 0)))] H := hP
  have hD : va_D A [(h0, .inr (0, [.ref q1, .int 0, .ref q2, .ref q3, .ref q4, .ref q5, .null, .null])), (q1, .inl (dA, 320, .inl (fun _ => 0))), (q2, .inl (dA, 32, .inl (fun _ => 0))), (q3, .inl (dA, 32, .inl (fun _ => 0))), (q4, .inl (dA, 8, .inl (fun _ => 0))), (q5, .inl (dA, 40, .inl (fun _ => 0))), (q6, .inl (dA, 256, .inl (fun _ => 0)))] := hD
  refine W.widen (k := 6) (n := 688) (Nat.le_of_ble_eq_true rfl) (Nat.le_of_ble_eq_true rfl) ?_
  refine va_putF (C := RX1) (T := TX1) (N := 8) (ci := 0) hx hb hts in_X1 tyX1 tyX1_ok nmX1 hown hK hP hD hS 0 rfl rfl 6 (by decide) (hts _ q34) (fun _ h9 => h9) rfl hin rfl rfl rfl rfl (Nat.le_of_ble_eq_true rfl) dX1_init_51 (fun H locs hP hD hS => ?_)
  have hP : va_P D vwCl [(h0, .inr (0, [.ref q1, .int 0, .ref q2, .ref q3, .ref q4, .ref q5, .ref q6, .null])), (q1, .inl (dA, 320, .inl (fun _ => 0))), (q2, .inl (dA, 32, .inl (fun _ => 0))), (q3, .inl (dA, 32, .inl (fun _ => 0))), (q4, .inl (dA, 8, .inl (fun _ => 0))), (q5, .inl (dA, 40, .inl (fun _ => 0))), (q6, .inl (dA, 256, .inl (fun _ => 0)))] H := hP
  have hD : va_D A [(h0, .inr (0, [.ref q1, .int 0, .ref q2, .ref q3, .ref q4, .ref q5, .ref q6, .null])), (q1, .inl (dA, 320, .inl (fun _ => 0))), (q2, .inl (dA, 32, .inl (fun _ => 0))), (q3, .inl (dA, 32, .inl (fun _ => 0))), (q4, .inl (dA, 8, .inl (fun _ => 0))), (q5, .inl (dA, 40, .inl (fun _ => 0))), (q6, .inl (dA, 256, .inl (fun _ => 0)))] := hD
  refine lv_aload_n hx hb dX1_init_54 rfl (lv_at hl 0 rfl) ?_
  refine lv_sipush (v := nI 256) hx hb dX1_init_55 (by decide) ?_
  refine bw_newi (N := 256) hx hb (hts _ q53) hK hP hD hS hA (by decide) (Nat.le_of_ble_eq_true rfl) (Nat.le_of_ble_eq_true rfl) dX1_init_58 (fun q7 H hP hD hS => ?_)
  have hP : va_P D vwCl [(h0, .inr (0, [.ref q1, .int 0, .ref q2, .ref q3, .ref q4, .ref q5, .ref q6, .null])), (q1, .inl (dA, 320, .inl (fun _ => 0))), (q2, .inl (dA, 32, .inl (fun _ => 0))), (q3, .inl (dA, 32, .inl (fun _ => 0))), (q4, .inl (dA, 8, .inl (fun _ => 0))), (q5, .inl (dA, 40, .inl (fun _ => 0))), (q6, .inl (dA, 256, .inl (fun _ => 0))), (q7, .inl (dA, 256, .inl (fun _ => 0)))] H := hP
  have hD : va_D A [(h0, .inr (0, [.ref q1, .int 0, .ref q2, .ref q3, .ref q4, .ref q5, .ref q6, .null])), (q1, .inl (dA, 320, .inl (fun _ => 0))), (q2, .inl (dA, 32, .inl (fun _ => 0))), (q3, .inl (dA, 32, .inl (fun _ => 0))), (q4, .inl (dA, 8, .inl (fun _ => 0))), (q5, .inl (dA, 40, .inl (fun _ => 0))), (q6, .inl (dA, 256, .inl (fun _ => 0))), (q7, .inl (dA, 256, .inl (fun _ => 0)))] := hD
  refine W.widen (k := 7) (n := 944) (Nat.le_of_ble_eq_true rfl) (Nat.le_of_ble_eq_true rfl) ?_
  refine va_putF (C := RX1) (T := TX1) (N := 8) (ci := 0) hx hb hts in_X1 tyX1 tyX1_ok nmX1 hown hK hP hD hS 0 rfl rfl 7 (by decide) (hts _ q35) (fun _ h9 => h9) rfl hin rfl rfl rfl rfl (Nat.le_of_ble_eq_true rfl) dX1_init_60 (fun H locs hP hD hS => ?_)
  have hP : va_P D vwCl [(h0, .inr (0, [.ref q1, .int 0, .ref q2, .ref q3, .ref q4, .ref q5, .ref q6, .ref q7])), (q1, .inl (dA, 320, .inl (fun _ => 0))), (q2, .inl (dA, 32, .inl (fun _ => 0))), (q3, .inl (dA, 32, .inl (fun _ => 0))), (q4, .inl (dA, 8, .inl (fun _ => 0))), (q5, .inl (dA, 40, .inl (fun _ => 0))), (q6, .inl (dA, 256, .inl (fun _ => 0))), (q7, .inl (dA, 256, .inl (fun _ => 0)))] H := hP
  have hD : va_D A [(h0, .inr (0, [.ref q1, .int 0, .ref q2, .ref q3, .ref q4, .ref q5, .ref q6, .ref q7])), (q1, .inl (dA, 320, .inl (fun _ => 0))), (q2, .inl (dA, 32, .inl (fun _ => 0))), (q3, .inl (dA, 32, .inl (fun _ => 0))), (q4, .inl (dA, 8, .inl (fun _ => 0))), (q5, .inl (dA, 40, .inl (fun _ => 0))), (q6, .inl (dA, 256, .inl (fun _ => 0))), (q7, .inl (dA, 256, .inl (fun _ => 0)))] := hD
  have hP : va_P D vwCl (fcW dA (adfX1 h0 q1 q2 q3 q4 q5 q6 q7) zN 0 (iniU 0) (iniC 0) zN zN zN zN) H := by rw [iniU_0, iniC_0]; exact hP
  have hD : va_D A (fcW dA (adfX1 h0 q1 q2 q3 q4 q5 q6 q7) zN 0 (iniU 0) (iniC 0) zN zN zN zN) := by rw [iniU_0, iniC_0]; exact hD
  have hl : lv_has ls 2 [(0, .ref ((adfX1 h0 q1 q2 q3 q4 q5 q6 q7) 0))] := hl
  have h0e : (adfX1 h0 q1 q2 q3 q4 q5 q6 q7) 0 = h0 := rfl
  generalize (adfX1 h0 q1 q2 q3 q4 q5 q6 q7) = ad at hP hD hl h0e
  refine lv_iconst (v := nI 0) hx hb dX1_init_63 (by decide) ?_
  refine lv_istore_n (lv' := [(1, .int (nI 0)), (0, .ref (ad 0))]) hx hb dX1_init_64 rfl hl (by decide) rfl (fun ls hl => ?_)
  refine w_loop (σ := Unit) 32 (fun j x H locs ls => lv_has ls 2 [(0, .ref (ad 0)), (1, .int (nI j))] ∧ va_P D vwCl (fcW dA ad zN 0 (iniU j) (iniC j) zN zN zN zN) H ∧ va_D A (fcW dA ad zN 0 (iniU j) (iniC j) zN zN zN zN) ∧ va_S A s.heap H locs ∧ (True)) ?_ ?_ 0 () _ _ _ (by omega) ⟨lv_sub hl [1, 0] rfl, hP, hD, hS, trivial⟩
  · intro j x H locs ls hj hI hk1
    obtain ⟨hl, hP, hD, hS, hI⟩ := hI
    refine lv_iload_n hx hb dX1_init_65 rfl (lv_at hl 1 rfl) ?_
    refine lv_bipush (v := nI 32) hx hb dX1_init_66 (by decide) ?_
    refine bw_ge (by omega) (by omega) hx hb (tgt := 93) dX1_init_68 (by decide) (fun c2 => ?_) (fun c2 => ?_)
    · exact absurd c2 (by omega)
    · refine lv_aload_n hx hb dX1_init_71 rfl (lv_at hl 0 rfl) ?_
      refine fc_uppers hx hb hts hown hK hP dX1_init_72 ?_
      refine lv_iload_n hx hb dX1_init_75 rfl (lv_at hl 1 rfl) ?_
      refine lv_iconst (v := (-1)) hx hb dX1_init_76 (by decide) ?_
      refine bw_iast hx hb hK hP hD hS 2 rfl j (by omega) (by decide) dX1_init_77 (fun H locs hP hD hS => ?_)
      have hP : va_P D vwCl (fcW dA ad zN 0 (upd (iniU j) j ((-1))) (iniC j) zN zN zN zN) H := hP
      have hD : va_D A (fcW dA ad zN 0 (upd (iniU j) j ((-1))) (iniC j) zN zN zN zN) := hD
      refine lv_aload_n hx hb dX1_init_78 rfl (lv_at hl 0 rfl) ?_
      refine fc_closed hx hb hts hown hK hP dX1_init_79 ?_
      refine lv_iload_n hx hb dX1_init_82 rfl (lv_at hl 1 rfl) ?_
      refine lv_iconst (v := nI 1) hx hb dX1_init_83 (by decide) ?_
      refine lv_iload_n hx hb dX1_init_84 rfl (lv_at hl 1 rfl) ?_
      refine lv_ishl hx hb dX1_init_85 ?_
      refine bw_iast hx hb hK hP hD hS 3 rfl j (by omega) (by decide) dX1_init_86 (fun H locs hP hD hS => ?_)
      have hP : va_P D vwCl (fcW dA ad zN 0 (upd (iniU j) j ((-1))) (upd (iniC j) j ((nI 1) <<< ((nI j) &&& 31))) zN zN zN zN) H := hP
      have hD : va_D A (fcW dA ad zN 0 (upd (iniU j) j ((-1))) (upd (iniC j) j ((nI 1) <<< ((nI j) &&& 31))) zN zN zN zN) := hD
      refine lv_iinc (v := nI (j + 1)) (lv' := [(1, .int (nI (j + 1))), (0, .ref (ad 0))]) hx hb dX1_init_87 hl (k := 1) rfl (inc1 _) (by decide) rfl (fun ls hl => ?_)
      refine lv_goto (tgt := 65) hx hb dX1_init_90 (by decide) ?_
      rw [iniU_s, iniC_s] at hP hD
      exact hk1 () _ _ _ ⟨lv_sub hl [1, 0] rfl, hP, hD, hS, trivial⟩
  · intro x H locs ls hI
    obtain ⟨hl, hP, hD, hS, hI⟩ := hI
    refine lv_iload_n hx hb dX1_init_65 rfl (lv_at hl 1 rfl) ?_
    refine lv_bipush (v := nI 32) hx hb dX1_init_66 (by decide) ?_
    refine bw_ge (by omega) (by omega) hx hb (tgt := 93) dX1_init_68 (by decide) (fun c3 => ?_) (fun c3 => ?_)
    · exact W.vret hx hb hr (fun t ht _ => ⟨⟨(ad, u0), rfl, ⟨h0e, rfl⟩, by rw [ht]; exact hP, hD⟩, hS.F ht⟩) hS.2.2 dX1_init_93 hlocks
    · exact absurd c3 (by omega)

abbrev rm_X2_init : Room := { frames := 1, cells := 5, slots := 10816, locals := 12 }
def adfX2 (h0 q1 q2 q3 q4 q5 : Nat) : Nat → Nat := fun k => match k with
  | 0 => h0
  | 1 => q1
  | 2 => q2
  | 3 => q3
  | 4 => q4
  | _ => q5
set_option maxHeartbeats 4000000 in
set_option maxRecDepth 100000 in
theorem met_X2_init (l : Launch) (D : va_G) (dA dZ : ClassId) (h0 : Nat) (sz : Nat) : Met l yX2_init (ws_ yX2_init cX2_init 2 none) rm_X2_init (va_Pc [.ref h0] (wPre D dA dZ [(h0, .inr (1, [.int 0, .null, .null, .null, .null, .null, .int 0]))] sz)) (va_Qv (fun (u : (Nat → Nat) × NS) => u.1 0 = h0 ∧ u.2 = (0, z0, zN)) (fun u t => va_P D vwCl (mdU dA dZ u.1 u.2) t.heap ∧ va_D (va_A [(h0, .inr (1, [.int 0, .null, .null, .null, .null, .null, .int 0]))] sz) (mdU dA dZ u.1 u.2)) (va_A [(h0, .inr (1, [.int 0, .null, .null, .null, .null, .null, .int 0]))] sz)) 5 10816 (va_A [(h0, .inr (1, [.int 0, .null, .null, .null, .null, .null, .int 0]))] sz) := by
  refine Met.ofW (cc := cX2_init) (maxL := 2) (ret := none) (by decide) rfl ?_
  intro p e s m args below meth c s₁ B hml hv
  obtain ⟨rfl, hsz, hP, hK, hDT⟩ := hv
  have hx := B.exec
  have hb := B.bytes
  have hr := B.returns
  have hts : ∀ w ∈ lw_all, w.before _ s = true := fun w h => atoms_spec (ws := ws_ yX2_init cX2_init 2 none) B.pre w (List.mem_cons_of_mem _ h)
  have hown : s.vm.findClass RX2 = some m.cls := findClass_of_methodNamed B.named
  have hlocks := B.notSynchronized
  subst hsz
  have hD := hDT.self (sz := s.heap.size)
  generalize hAe : va_A ([(h0, .inr (1, [.int 0, .null, .null, .null, .null, .null, .int 0]))]) s.heap.size = A at hD ⊢
  have hA : ∀ q : Nat, s.heap.size ≤ q → A q := fun q h => by rw [← hAe]; exact Or.inr h
  have hS : va_S A s.heap s.heap [] := va_S.rf
  have hl := lv_entry ([.ref h0]) (n := 2) (Nat.le_of_ble_eq_true rfl)
  rw [lg_entry_eq]
  generalize (lg_sl ([.ref h0]) ++ List.replicate (2 - (lg_sl ([.ref h0])).length) Slot.unset).toArray = ls at hl ⊢
  have hl : lv_has ls 2 [(0, .ref h0)] := hl
  have hin : meth.name = "<init>" := (name_of_methodNamed B.named B.method).1
  refine lv_aload_n hx hb dX2_init_0 rfl (lv_at hl 0 rfl) ?_
  refine W.objInit hx hb hown (hts _ q224) (hts _ q26) (hts _ q27) rfl (by rw [hml]; exact hl.1) rfl dX2_init_1 (Nat.le_of_ble_eq_true rfl) (Nat.le_of_ble_eq_true rfl) ?_
  refine W.eq (g2 := F0 m 4 ls []) rfl ?_
  refine lv_aload_n hx hb dX2_init_4 rfl (lv_at hl 0 rfl) ?_
  refine lv_sipush (v := nI 10240) hx hb dX2_init_5 (by decide) ?_
  refine bw_newz (N := 10240) hx hb (hts _ q247) hK hP hD hS hA (by decide) (Nat.le_of_ble_eq_true rfl) (Nat.le_of_ble_eq_true rfl) dX2_init_8 (fun q1 H hP hD hS => ?_)
  have hP : va_P D vwCl [(h0, .inr (1, [.int 0, .null, .null, .null, .null, .null, .int 0])), (q1, .inl (dZ, 10240, .inl (fun _ => 0)))] H := hP
  have hD : va_D A [(h0, .inr (1, [.int 0, .null, .null, .null, .null, .null, .int 0])), (q1, .inl (dZ, 10240, .inl (fun _ => 0)))] := hD
  refine W.widen (k := 1) (n := 10240) (Nat.le_of_ble_eq_true rfl) (Nat.le_of_ble_eq_true rfl) ?_
  refine va_putF (C := RX2) (T := TX2) (N := 7) (ci := 1) hx hb hts in_X2 tyX2 tyX2_ok nmX2 hown hK hP hD hS 0 rfl rfl 1 (by decide) (hts _ q226) (fun _ h9 => h9) rfl hin rfl rfl rfl rfl (Nat.le_of_ble_eq_true rfl) dX2_init_10 (fun H locs hP hD hS => ?_)
  have hP : va_P D vwCl [(h0, .inr (1, [.int 0, .ref q1, .null, .null, .null, .null, .int 0])), (q1, .inl (dZ, 10240, .inl (fun _ => 0)))] H := hP
  have hD : va_D A [(h0, .inr (1, [.int 0, .ref q1, .null, .null, .null, .null, .int 0])), (q1, .inl (dZ, 10240, .inl (fun _ => 0)))] := hD
  refine lv_aload_n hx hb dX2_init_13 rfl (lv_at hl 0 rfl) ?_
  refine lv_bipush (v := nI 32) hx hb dX2_init_14 (by decide) ?_
  refine bw_newi (N := 32) hx hb (hts _ q53) hK hP hD hS hA (by decide) (Nat.le_of_ble_eq_true rfl) (Nat.le_of_ble_eq_true rfl) dX2_init_16 (fun q2 H hP hD hS => ?_)
  have hP : va_P D vwCl [(h0, .inr (1, [.int 0, .ref q1, .null, .null, .null, .null, .int 0])), (q1, .inl (dZ, 10240, .inl (fun _ => 0))), (q2, .inl (dA, 32, .inl (fun _ => 0)))] H := hP
  have hD : va_D A [(h0, .inr (1, [.int 0, .ref q1, .null, .null, .null, .null, .int 0])), (q1, .inl (dZ, 10240, .inl (fun _ => 0))), (q2, .inl (dA, 32, .inl (fun _ => 0)))] := hD
  refine W.widen (k := 2) (n := 10272) (Nat.le_of_ble_eq_true rfl) (Nat.le_of_ble_eq_true rfl) ?_
  refine va_putF (C := RX2) (T := TX2) (N := 7) (ci := 1) hx hb hts in_X2 tyX2 tyX2_ok nmX2 hown hK hP hD hS 0 rfl rfl 2 (by decide) (hts _ q227) (fun _ h9 => h9) rfl hin rfl rfl rfl rfl (Nat.le_of_ble_eq_true rfl) dX2_init_18 (fun H locs hP hD hS => ?_)
  have hP : va_P D vwCl [(h0, .inr (1, [.int 0, .ref q1, .ref q2, .null, .null, .null, .int 0])), (q1, .inl (dZ, 10240, .inl (fun _ => 0))), (q2, .inl (dA, 32, .inl (fun _ => 0)))] H := hP
  have hD : va_D A [(h0, .inr (1, [.int 0, .ref q1, .ref q2, .null, .null, .null, .int 0])), (q1, .inl (dZ, 10240, .inl (fun _ => 0))), (q2, .inl (dA, 32, .inl (fun _ => 0)))] := hD
  refine lv_aload_n hx hb dX2_init_21 rfl (lv_at hl 0 rfl) ?_
  refine lv_sipush (v := nI 256) hx hb dX2_init_22 (by decide) ?_
  refine bw_newz (N := 256) hx hb (hts _ q247) hK hP hD hS hA (by decide) (Nat.le_of_ble_eq_true rfl) (Nat.le_of_ble_eq_true rfl) dX2_init_25 (fun q3 H hP hD hS => ?_)
  have hP : va_P D vwCl [(h0, .inr (1, [.int 0, .ref q1, .ref q2, .null, .null, .null, .int 0])), (q1, .inl (dZ, 10240, .inl (fun _ => 0))), (q2, .inl (dA, 32, .inl (fun _ => 0))), (q3, .inl (dZ, 256, .inl (fun _ => 0)))] H := hP
  have hD : va_D A [(h0, .inr (1, [.int 0, .ref q1, .ref q2, .null, .null, .null, .int 0])), (q1, .inl (dZ, 10240, .inl (fun _ => 0))), (q2, .inl (dA, 32, .inl (fun _ => 0))), (q3, .inl (dZ, 256, .inl (fun _ => 0)))] := hD
  refine W.widen (k := 3) (n := 10528) (Nat.le_of_ble_eq_true rfl) (Nat.le_of_ble_eq_true rfl) ?_
  refine va_putF (C := RX2) (T := TX2) (N := 7) (ci := 1) hx hb hts in_X2 tyX2 tyX2_ok nmX2 hown hK hP hD hS 0 rfl rfl 3 (by decide) (hts _ q228) (fun _ h9 => h9) rfl hin rfl rfl rfl rfl (Nat.le_of_ble_eq_true rfl) dX2_init_27 (fun H locs hP hD hS => ?_)
  have hP : va_P D vwCl [(h0, .inr (1, [.int 0, .ref q1, .ref q2, .ref q3, .null, .null, .int 0])), (q1, .inl (dZ, 10240, .inl (fun _ => 0))), (q2, .inl (dA, 32, .inl (fun _ => 0))), (q3, .inl (dZ, 256, .inl (fun _ => 0)))] H := hP
  have hD : va_D A [(h0, .inr (1, [.int 0, .ref q1, .ref q2, .ref q3, .null, .null, .int 0])), (q1, .inl (dZ, 10240, .inl (fun _ => 0))), (q2, .inl (dA, 32, .inl (fun _ => 0))), (q3, .inl (dZ, 256, .inl (fun _ => 0)))] := hD
  refine lv_aload_n hx hb dX2_init_30 rfl (lv_at hl 0 rfl) ?_
  refine lv_sipush (v := nI 256) hx hb dX2_init_31 (by decide) ?_
  refine bw_newi (N := 256) hx hb (hts _ q53) hK hP hD hS hA (by decide) (Nat.le_of_ble_eq_true rfl) (Nat.le_of_ble_eq_true rfl) dX2_init_34 (fun q4 H hP hD hS => ?_)
  have hP : va_P D vwCl [(h0, .inr (1, [.int 0, .ref q1, .ref q2, .ref q3, .null, .null, .int 0])), (q1, .inl (dZ, 10240, .inl (fun _ => 0))), (q2, .inl (dA, 32, .inl (fun _ => 0))), (q3, .inl (dZ, 256, .inl (fun _ => 0))), (q4, .inl (dA, 256, .inl (fun _ => 0)))] H := hP
  have hD : va_D A [(h0, .inr (1, [.int 0, .ref q1, .ref q2, .ref q3, .null, .null, .int 0])), (q1, .inl (dZ, 10240, .inl (fun _ => 0))), (q2, .inl (dA, 32, .inl (fun _ => 0))), (q3, .inl (dZ, 256, .inl (fun _ => 0))), (q4, .inl (dA, 256, .inl (fun _ => 0)))] := hD
  refine W.widen (k := 4) (n := 10784) (Nat.le_of_ble_eq_true rfl) (Nat.le_of_ble_eq_true rfl) ?_
  refine va_putF (C := RX2) (T := TX2) (N := 7) (ci := 1) hx hb hts in_X2 tyX2 tyX2_ok nmX2 hown hK hP hD hS 0 rfl rfl 4 (by decide) (hts _ q229) (fun _ h9 => h9) rfl hin rfl rfl rfl rfl (Nat.le_of_ble_eq_true rfl) dX2_init_36 (fun H locs hP hD hS => ?_)
  have hP : va_P D vwCl [(h0, .inr (1, [.int 0, .ref q1, .ref q2, .ref q3, .ref q4, .null, .int 0])), (q1, .inl (dZ, 10240, .inl (fun _ => 0))), (q2, .inl (dA, 32, .inl (fun _ => 0))), (q3, .inl (dZ, 256, .inl (fun _ => 0))), (q4, .inl (dA, 256, .inl (fun _ => 0)))] H := hP
  have hD : va_D A [(h0, .inr (1, [.int 0, .ref q1, .ref q2, .ref q3, .ref q4, .null, .int 0])), (q1, .inl (dZ, 10240, .inl (fun _ => 0))), (q2, .inl (dA, 32, .inl (fun _ => 0))), (q3, .inl (dZ, 256, .inl (fun _ => 0))), (q4, .inl (dA, 256, .inl (fun _ => 0)))] := hD
  refine lv_aload_n hx hb dX2_init_39 rfl (lv_at hl 0 rfl) ?_
  refine lv_bipush (v := nI 32) hx hb dX2_init_40 (by decide) ?_
  refine bw_newi (N := 32) hx hb (hts _ q53) hK hP hD hS hA (by decide) (Nat.le_of_ble_eq_true rfl) (Nat.le_of_ble_eq_true rfl) dX2_init_42 (fun q5 H hP hD hS => ?_)
  have hP : va_P D vwCl [(h0, .inr (1, [.int 0, .ref q1, .ref q2, .ref q3, .ref q4, .null, .int 0])), (q1, .inl (dZ, 10240, .inl (fun _ => 0))), (q2, .inl (dA, 32, .inl (fun _ => 0))), (q3, .inl (dZ, 256, .inl (fun _ => 0))), (q4, .inl (dA, 256, .inl (fun _ => 0))), (q5, .inl (dA, 32, .inl (fun _ => 0)))] H := hP
  have hD : va_D A [(h0, .inr (1, [.int 0, .ref q1, .ref q2, .ref q3, .ref q4, .null, .int 0])), (q1, .inl (dZ, 10240, .inl (fun _ => 0))), (q2, .inl (dA, 32, .inl (fun _ => 0))), (q3, .inl (dZ, 256, .inl (fun _ => 0))), (q4, .inl (dA, 256, .inl (fun _ => 0))), (q5, .inl (dA, 32, .inl (fun _ => 0)))] := hD
  refine W.widen (k := 5) (n := 10816) (Nat.le_of_ble_eq_true rfl) (Nat.le_of_ble_eq_true rfl) ?_
  refine va_putF (C := RX2) (T := TX2) (N := 7) (ci := 1) hx hb hts in_X2 tyX2 tyX2_ok nmX2 hown hK hP hD hS 0 rfl rfl 5 (by decide) (hts _ q230) (fun _ h9 => h9) rfl hin rfl rfl rfl rfl (Nat.le_of_ble_eq_true rfl) dX2_init_44 (fun H locs hP hD hS => ?_)
  have hP : va_P D vwCl [(h0, .inr (1, [.int 0, .ref q1, .ref q2, .ref q3, .ref q4, .ref q5, .int 0])), (q1, .inl (dZ, 10240, .inl (fun _ => 0))), (q2, .inl (dA, 32, .inl (fun _ => 0))), (q3, .inl (dZ, 256, .inl (fun _ => 0))), (q4, .inl (dA, 256, .inl (fun _ => 0))), (q5, .inl (dA, 32, .inl (fun _ => 0)))] H := hP
  have hD : va_D A [(h0, .inr (1, [.int 0, .ref q1, .ref q2, .ref q3, .ref q4, .ref q5, .int 0])), (q1, .inl (dZ, 10240, .inl (fun _ => 0))), (q2, .inl (dA, 32, .inl (fun _ => 0))), (q3, .inl (dZ, 256, .inl (fun _ => 0))), (q4, .inl (dA, 256, .inl (fun _ => 0))), (q5, .inl (dA, 32, .inl (fun _ => 0)))] := hD
  have hP : va_P D vwCl (mdW dA dZ (adfX2 h0 q1 q2 q3 q4 q5) 0 zN (iniU 0) zN zN zN 0) H := by rw [iniU_0]; exact hP
  have hD : va_D A (mdW dA dZ (adfX2 h0 q1 q2 q3 q4 q5) 0 zN (iniU 0) zN zN zN 0) := by rw [iniU_0]; exact hD
  have hl : lv_has ls 2 [(0, .ref ((adfX2 h0 q1 q2 q3 q4 q5) 0))] := hl
  have h0e : (adfX2 h0 q1 q2 q3 q4 q5) 0 = h0 := rfl
  generalize (adfX2 h0 q1 q2 q3 q4 q5) = ad at hP hD hl h0e
  refine lv_iconst (v := nI 0) hx hb dX2_init_47 (by decide) ?_
  refine lv_istore_n (lv' := [(1, .int (nI 0)), (0, .ref (ad 0))]) hx hb dX2_init_48 rfl hl (by decide) rfl (fun ls hl => ?_)
  refine w_loop (σ := Unit) 32 (fun j x H locs ls => lv_has ls 2 [(0, .ref (ad 0)), (1, .int (nI j))] ∧ va_P D vwCl (mdW dA dZ ad 0 zN (iniU j) zN zN zN 0) H ∧ va_D A (mdW dA dZ ad 0 zN (iniU j) zN zN zN 0) ∧ va_S A s.heap H locs ∧ (True)) ?_ ?_ 0 () _ _ _ (by omega) ⟨lv_sub hl [1, 0] rfl, hP, hD, hS, trivial⟩
  · intro j x H locs ls hj hI hk1
    obtain ⟨hl, hP, hD, hS, hI⟩ := hI
    refine lv_iload_n hx hb dX2_init_49 rfl (lv_at hl 1 rfl) ?_
    refine lv_bipush (v := nI 32) hx hb dX2_init_50 (by decide) ?_
    refine bw_ge (by omega) (by omega) hx hb (tgt := 68) dX2_init_52 (by decide) (fun c2 => ?_) (fun c2 => ?_)
    · exact absurd c2 (by omega)
    · refine lv_aload_n hx hb dX2_init_55 rfl (lv_at hl 0 rfl) ?_
      refine md_above hx hb hts hown hK hP dX2_init_56 ?_
      refine lv_iload_n hx hb dX2_init_59 rfl (lv_at hl 1 rfl) ?_
      refine lv_iconst (v := (-1)) hx hb dX2_init_60 (by decide) ?_
      refine bw_iast hx hb hK hP hD hS 2 rfl j (by omega) (by decide) dX2_init_61 (fun H locs hP hD hS => ?_)
      have hP : va_P D vwCl (mdW dA dZ ad 0 zN (upd (iniU j) j ((-1))) zN zN zN 0) H := hP
      have hD : va_D A (mdW dA dZ ad 0 zN (upd (iniU j) j ((-1))) zN zN zN 0) := hD
      refine lv_iinc (v := nI (j + 1)) (lv' := [(1, .int (nI (j + 1))), (0, .ref (ad 0))]) hx hb dX2_init_62 hl (k := 1) rfl (inc1 _) (by decide) rfl (fun ls hl => ?_)
      refine lv_goto (tgt := 49) hx hb dX2_init_65 (by decide) ?_
      rw [iniU_s] at hP hD
      exact hk1 () _ _ _ ⟨lv_sub hl [1, 0] rfl, hP, hD, hS, trivial⟩
  · intro x H locs ls hI
    obtain ⟨hl, hP, hD, hS, hI⟩ := hI
    refine lv_iload_n hx hb dX2_init_49 rfl (lv_at hl 1 rfl) ?_
    refine lv_bipush (v := nI 32) hx hb dX2_init_50 (by decide) ?_
    refine bw_ge (by omega) (by omega) hx hb (tgt := 68) dX2_init_52 (by decide) (fun c3 => ?_) (fun c3 => ?_)
    · exact W.vret hx hb hr (fun t ht _ => ⟨⟨(ad, (0, z0, zN)), rfl, ⟨h0e, rfl⟩, by rw [ht]; exact hP, hD⟩, hS.F ht⟩) hS.2.2 dX2_init_68 hlocks
    · exact absurd c3 (by omega)
end
section
set_option maxRecDepth 100000
/-! ===== THE LAW: what holds of the picture all along ===== -/
theorem lw01 {f : Nat → Int32} {n k : Nat} {x : Int32} (H : ∀ i, i < n → f i = nI 0 ∨ f i = nI 1) (hx : x = nI 0 ∨ x = nI 1) : ∀ i, i < n → upd f k x i = nI 0 ∨ upd f k x i = nI 1 := by
  intro i hi
  by_cases e : i = k
  · rw [e, pk_us]
    exact hx
  · rw [pk_un e]
    exact H i hi
section MO
variable {has up ch tol : Nat → Int32} {rows : Int32}
theorem mOK_row (hM : mOK (has, up, ch, tol, rows)) (a b d : Int32) : mOK (rowS has up ch tol rows a b d).2 := by
  unfold rowS
  by_cases h : inR a 40 ∧ inR b 8 ∧ inR d 32
  · rw [cif_t h]
    unfold rowG
    by_cases h1 : hsP has a.toNatClampNeg b.toNatClampNeg d.toNatClampNeg
    · rw [cif_t h1]
      exact hM
    · rw [cif_f h1]
      by_cases h2 : rows = nI 300
      · rw [cif_t h2]
        exact hM
      · rw [cif_f h2]
        exact ⟨lw01 hM.1 (Or.inr rfl), hM.2.1, hM.2.2⟩
  · rw [cif_f h]
    exact hM
theorem mOK_drop (hM : mOK (has, up, ch, tol, rows)) (a b d : Int32) : mOK (dropS has up ch tol rows a b d).2 := by
  unfold dropS
  by_cases h : inR a 40 ∧ inR b 8 ∧ inR d 32
  · rw [cif_t h]
    unfold dropG
    by_cases h1 : hsP has a.toNatClampNeg b.toNatClampNeg d.toNatClampNeg
    · rw [cif_t h1]
      exact ⟨lw01 hM.1 (Or.inl rfl), hM.2.1, hM.2.2⟩
    · rw [cif_f h1]
      exact hM
  · rw [cif_f h]
    exact hM
theorem mOK_abv (hM : mOK (has, up, ch, tol, rows)) (a b : Int32) : mOK (abvS has up ch tol rows a b).2 := by
  by_cases h : inR a 32 ∧ (b = -1 ∨ inR b 32)
  · obtain ⟨⟨k, hk, rfl⟩, hb⟩ := h
    rw [abvS_g hk hb]
    unfold abvG
    by_cases h1 : up k = b
    · rw [cif_t h1]
      exact hM
    · rw [cif_f h1]
      by_cases h2 : ∃ u, u < 32 ∧ b = nI u ∧ und up u k
      · rw [cif_t h2]
        exact hM
      · rw [cif_f h2]
        refine ⟨hM.1, hM.2.1, ?_⟩
        rcases hb with rfl | ⟨u, hu, rfl⟩
        · exact acy_none hM.2.2 k
        · exact acy_set hM.2.2 hk hu (fun q => h2 ⟨u, hu, rfl, q⟩)
  · unfold abvS
    rw [cif_f h]
    exact hM
theorem mOK_cho (hM : mOK (has, up, ch, tol, rows)) (a b : Int32) (on : Prop) : mOK (choS has up ch tol rows a b on).2 := by
  unfold choS
  by_cases h : inR a 8 ∧ inR b 32
  · rw [cif_t h]
    refine ⟨hM.1, lw01 hM.2.1 ?_, hM.2.2⟩
    by_cases q : on
    · exact Or.inr (by rw [bN_t q])
    · exact Or.inl (by rw [bN_f q])
  · rw [cif_f h]
    exact hM
theorem mOK_chg (hM : mOK (has, up, ch, tol, rows)) : mOK (chgS has up ch tol rows).2 := ⟨hM.1, hM.2.1, hM.2.2⟩
end MO
theorem law_cmp {L j : Nat} (hL : L ≤ 256) (hj : j ≤ 64) : nI L - nI 4 < nI (4 * j) ↔ L < 4 * j + 4 := by
  rw [Int32.lt_iff_toInt_lt, pk_sub_toInt (by omega) (by omega), nI_toInt (by omega)]
  omega
theorem and15 (x : Int32) : ∃ k, k < 16 ∧ x &&& nI 15 = nI k := by
  refine ⟨(x &&& nI 15).toBitVec.toNat, ?_, ?_⟩
  · rw [Int32.toBitVec_and, BitVec.toNat_and]
    have h : x.toBitVec.toNat &&& (nI 15).toBitVec.toNat ≤ (nI 15).toBitVec.toNat := Nat.and_le_right
    have h2 : (nI 15).toBitVec.toNat = 15 := by decide
    omega
  · apply Int32.toBitVec_inj.mp
    apply BitVec.eq_of_toNat_eq
    show _ = (BitVec.ofNat 32 (x &&& nI 15).toBitVec.toNat).toNat
    rw [BitVec.toNat_ofNat, Nat.mod_eq_of_lt (BitVec.isLt _)]
/-! ===== the law's world, its rows ===== -/
abbrev lwW (dA dZ dJ : ClassId) (ad1 ad2 : Nat → Nat) (o0 : Nat) (u : FS) (n : NS) (f : Nat → Int64) : va_W := fcU dA ad1 u ++ (mdU dA dZ ad2 n ++ [(o0, .inl (dJ, 1, .inr (.inl f)))])
theorem one_D {A : Nat → Prop} {o : Nat} {x : va_E} (h : A o) : va_D A [(o, x)] := ⟨fun i j y z hi hj _ => by
      have hi1 : i < 1 := (List.getElem?_eq_some_iff.mp hi).1
      have hj1 : j < 1 := (List.getElem?_eq_some_iff.mp hj).1
      omega, fun k y hk => by
      have hk1 : k < 1 := (List.getElem?_eq_some_iff.mp hk).1
      rw [show k = 0 by omega] at hk
      cases hk
      exact h⟩
theorem arr_known {s : State} {args : Array Value} {ty : FieldType} (h : (Cond.arrayClass ty).before args s = true) : ∃ d : ClassId, ArrOfT s d ty ∧ s.vm.findClass ("[" ++ ty.toString) = some d := by
  obtain ⟨cA, kA, comp, h1, h2, h3⟩ := Cond.arrayClass_spec h
  exact ⟨cA, fun n z => ⟨fun k h => (by cases h), kA, h2, comp, h3⟩, h1⟩
section LR
variable {p : Program} {l : Launch} {e : Env} {R : Room} {s : State} {m : MethodId} {args : Array Value} {below : List Frame} {meth : Method} {c : Code} {H : Heap} {locs : List Loc} {cells slots : Nat} {Q : State → Prop}
variable {cc : ByteArray} {pc : Nat} {ls : Array Slot} {rest : List Value} {D : va_G} {A : Nat → Prop} {dA dZ dJ : ClassId} {ad1 ad2 : Nat → Nat} {o0 : Nat}
variable {y : MethodName} {bytes : ByteArray} {maxL nL n index : Nat} {ret : Option FieldType} {rm : Room} {own : String} {As : List Value} {u : FS} {nn : NS} {f : Nat → Int64}
theorem lw_sld (hx : p.tables.exec = Jvm.exec) (hb : c.code = cc) {b L : Nat} {xs : Nat → Int32} (hX : va_X b L xs s s.heap) (hbl : b < s.heap.size) (hS : va_S (fun q => s.heap.size ≤ q) s.heap H locs) {k : Nat} (hk : k < L) (hL : L ≤ 256) (hdg : decode cc pc = .ok (.iaload, 1))
    (kk : W p l e R s m args below meth c H locs cells slots Q (F0 m (pc + 1) ls (.int (xs k) :: rest))) : W p l e R s m args below meth c H locs cells slots Q (F0 m pc ls (.int (nI k) :: .ref b :: rest)) :=
  va_sld hx hb hX hbl (Nat.not_le.mpr hbl) hS (vp_in_nI hk (by omega)) hdg (by rw [nI_clamp (by omega)]; exact kk)
/-- a method of the class that changes its world -/
theorem lc_X1 {post : Int32 → FS → Prop} (S : CallFix p m c cc nL s args lw_all own) (hM : RW l y bytes maxL ret rm (.ref (ad1 0) :: As) D dA dZ (fcU dA ad1 u) H.size (S := FS) post (fun u => fcU dA ad1 u)) (cw : CallW R s args own RX1 index y bytes maxL ret (ws_ y bytes maxL ret) rm 0 0 n)
    (hK : va_K D vwCl (tyW dA dZ) s) (hP : va_P D vwCl (lwW dA dZ dJ ad1 ad2 o0 u nn f) H) (hD : va_D A (lwW dA dZ dJ ad1 ad2 o0 u nn f)) (hS : va_S A s.heap H locs) (hA : ∀ q, s.heap.size ≤ q → A q)
    {st : List Value} (hst : st = As.reverse ++ .ref (ad1 0) :: rest) (hn : As.length = n) (hsize : ls.size = nL) (hrm : (rest.map fun v => v.category).sum ≤ 8) (hdg : decode cc pc = .ok (.invokevirtual index, 3)) (hcl : cells ≤ R.cells ∧ slots ≤ R.slots)
    (kk : ∀ (r : Int32) (u1 : FS) (H1 : Heap) (locs1 : List Loc), post r u1 → va_P D vwCl (lwW dA dZ dJ ad1 ad2 o0 u1 nn f) H1 → va_D A (lwW dA dZ dJ ad1 ad2 o0 u1 nn f) → va_S A s.heap H1 locs1 → W p l e R s m args below meth c H1 locs1 cells slots Q (F0 m (pc + 3) ls (.int r :: rest))) : W p l e R s m args below meth c H locs cells slots Q (F0 m pc ls st) := by
  subst hst
  have hPc := hP.sub (ws' := fcU dA ad1 u) [0, 1, 2, 3, 4, 5, 6, 7] rfl
  have hDc := hD.sub (ws' := fcU dA ad1 u) [0, 1, 2, 3, 4, 5, 6, 7] (by decide) rfl
  have hFc := va_free (wc := fcU dA ad1 u) hD hS hA [0, 1, 2, 3, 4, 5, 6, 7] rfl
  refine va_calli (va_runV (rest := rest) S hM cw ⟨wPre_blind _ D dA dZ _ H.size, va_recv hK hPc (ci := 0) (q0 := 0) rfl rfl, fun U hU hW => ⟨rfl, by rw [hU], by rw [hU]; exact hPc, va_K.moved hW.alike hK, hDc.weaken (fun _ _ _ _ => trivial)⟩⟩ rfl hn hsize rfl (lv_room hrm) hdg hcl) hS (fun q _ h => hFc q h) hFc (fun r u1 t H1 locs1 ht hvm hpo hB hz hk hS1 => ?_)
  obtain ⟨hP1, hD1⟩ := hB
  rw [ht] at hP1
  obtain ⟨hP2, hD2⟩ := va_join (wr := mdU dA dZ ad2 nn ++ [(o0, .inl (dJ, 1, .inr (.inl f)))]) (w1 := fcU dA ad1 u1) hP hD [0, 1, 2, 3, 4, 5, 6, 7] [8, 9, 10, 11, 12, 13, 14] rfl rfl (by decide) (by decide) hk hFc hP1 hD1
  exact kk r u1 H1 locs1 hpo (hP2.sub [7, 8, 9, 10, 11, 12, 13, 14, 0, 1, 2, 3, 4, 5, 6] rfl) (hD2.sub [7, 8, 9, 10, 11, 12, 13, 14, 0, 1, 2, 3, 4, 5, 6] (by decide) rfl) hS1
/-- a method of the reference that changes its world -/
theorem lc_X2 {post : Int32 → NS → Prop} (S : CallFix p m c cc nL s args lw_all own) (hM : RW l y bytes maxL ret rm (.ref (ad2 0) :: As) D dA dZ (mdU dA dZ ad2 nn) H.size (S := NS) post (fun u => mdU dA dZ ad2 u)) (cw : CallW R s args own RX2 index y bytes maxL ret (ws_ y bytes maxL ret) rm 0 0 n)
    (hK : va_K D vwCl (tyW dA dZ) s) (hP : va_P D vwCl (lwW dA dZ dJ ad1 ad2 o0 u nn f) H) (hD : va_D A (lwW dA dZ dJ ad1 ad2 o0 u nn f)) (hS : va_S A s.heap H locs) (hA : ∀ q, s.heap.size ≤ q → A q)
    {st : List Value} (hst : st = As.reverse ++ .ref (ad2 0) :: rest) (hn : As.length = n) (hsize : ls.size = nL) (hrm : (rest.map fun v => v.category).sum ≤ 8) (hdg : decode cc pc = .ok (.invokevirtual index, 3)) (hcl : cells ≤ R.cells ∧ slots ≤ R.slots)
    (kk : ∀ (r : Int32) (n1 : NS) (H1 : Heap) (locs1 : List Loc), post r n1 → va_P D vwCl (lwW dA dZ dJ ad1 ad2 o0 u n1 f) H1 → va_D A (lwW dA dZ dJ ad1 ad2 o0 u n1 f) → va_S A s.heap H1 locs1 → W p l e R s m args below meth c H1 locs1 cells slots Q (F0 m (pc + 3) ls (.int r :: rest))) : W p l e R s m args below meth c H locs cells slots Q (F0 m pc ls st) := by
  subst hst
  have hPc := hP.sub (ws' := mdU dA dZ ad2 nn) [8, 9, 10, 11, 12, 13] rfl
  have hDc := hD.sub (ws' := mdU dA dZ ad2 nn) [8, 9, 10, 11, 12, 13] (by decide) rfl
  have hFc := va_free (wc := mdU dA dZ ad2 nn) hD hS hA [8, 9, 10, 11, 12, 13] rfl
  refine va_calli (va_runV (rest := rest) S hM cw ⟨wPre_blind _ D dA dZ _ H.size, va_recv hK hPc (ci := 1) (q0 := 0) rfl rfl, fun U hU hW => ⟨rfl, by rw [hU], by rw [hU]; exact hPc, va_K.moved hW.alike hK, hDc.weaken (fun _ _ _ _ => trivial)⟩⟩ rfl hn hsize rfl (lv_room hrm) hdg hcl) hS (fun q _ h => hFc q h) hFc (fun r u1 t H1 locs1 ht hvm hpo hB hz hk hS1 => ?_)
  obtain ⟨hP1, hD1⟩ := hB
  rw [ht] at hP1
  obtain ⟨hP2, hD2⟩ := va_join (wr := fcU dA ad1 u ++ [(o0, .inl (dJ, 1, .inr (.inl f)))]) (w1 := mdU dA dZ ad2 u1) hP hD [8, 9, 10, 11, 12, 13] [0, 1, 2, 3, 4, 5, 6, 7, 14] rfl rfl (by decide) (by decide) hk hFc hP1 hD1
  exact kk r u1 H1 locs1 hpo (hP2.sub [0, 1, 2, 3, 4, 5, 6, 7, 9, 10, 11, 12, 13, 14, 8] rfl) (hD2.sub [0, 1, 2, 3, 4, 5, 6, 7, 9, 10, 11, 12, 13, 14, 8] (by decide) rfl) hS1
/-- a method of the class that writes nothing -/
theorem lc_R1 {post : Int32 → Prop} (S : CallFix p m c cc nL s args lw_all own) (hM : RO l y bytes maxL ret rm (.ref (ad1 0) :: As) D dA dZ (fcU dA ad1 u) H.size post) (cw : CallW R s args own RX1 index y bytes maxL ret (ws_ y bytes maxL ret) rm 0 0 n)
    (hK : va_K D vwCl (tyW dA dZ) s) (hP : va_P D vwCl (lwW dA dZ dJ ad1 ad2 o0 u nn f) H) (hD : va_D A (lwW dA dZ dJ ad1 ad2 o0 u nn f)) (hS : va_S A s.heap H locs) (hA : ∀ q, s.heap.size ≤ q → A q)
    {st : List Value} (hst : st = As.reverse ++ .ref (ad1 0) :: rest) (hn : As.length = n) (hsize : ls.size = nL) (hrm : (rest.map fun v => v.category).sum ≤ 8) (hdg : decode cc pc = .ok (.invokevirtual index, 3)) (hcl : cells ≤ R.cells ∧ slots ≤ R.slots)
    (kk : ∀ (r : Int32) (H1 : Heap) (locs1 : List Loc), post r → va_P D vwCl (lwW dA dZ dJ ad1 ad2 o0 u nn f) H1 → va_S A s.heap H1 locs1 → W p l e R s m args below meth c H1 locs1 cells slots Q (F0 m (pc + 3) ls (.int r :: rest))) : W p l e R s m args below meth c H locs cells slots Q (F0 m pc ls st) := by
  have hPc := hP.sub (ws' := fcU dA ad1 u) [0, 1, 2, 3, 4, 5, 6, 7] rfl
  have hDc := hD.sub (ws' := fcU dA ad1 u) [0, 1, 2, 3, 4, 5, 6, 7] (by decide) rfl
  exact bw_ro S hM cw (va_recv hK hPc (ci := 0) (q0 := 0) rfl rfl) hK hPc (hDc.weaken (fun _ _ _ _ => trivial)) hP hS hA hst hn hsize hrm hdg hcl kk
theorem lc_R2 {post : Int32 → Prop} (S : CallFix p m c cc nL s args lw_all own) (hM : RO l y bytes maxL ret rm (.ref (ad2 0) :: As) D dA dZ (mdU dA dZ ad2 nn) H.size post) (cw : CallW R s args own RX2 index y bytes maxL ret (ws_ y bytes maxL ret) rm 0 0 n)
    (hK : va_K D vwCl (tyW dA dZ) s) (hP : va_P D vwCl (lwW dA dZ dJ ad1 ad2 o0 u nn f) H) (hD : va_D A (lwW dA dZ dJ ad1 ad2 o0 u nn f)) (hS : va_S A s.heap H locs) (hA : ∀ q, s.heap.size ≤ q → A q)
    {st : List Value} (hst : st = As.reverse ++ .ref (ad2 0) :: rest) (hn : As.length = n) (hsize : ls.size = nL) (hrm : (rest.map fun v => v.category).sum ≤ 8) (hdg : decode cc pc = .ok (.invokevirtual index, 3)) (hcl : cells ≤ R.cells ∧ slots ≤ R.slots)
    (kk : ∀ (r : Int32) (H1 : Heap) (locs1 : List Loc), post r → va_P D vwCl (lwW dA dZ dJ ad1 ad2 o0 u nn f) H1 → va_S A s.heap H1 locs1 → W p l e R s m args below meth c H1 locs1 cells slots Q (F0 m (pc + 3) ls (.int r :: rest))) : W p l e R s m args below meth c H locs cells slots Q (F0 m pc ls st) := by
  have hPc := hP.sub (ws' := mdU dA dZ ad2 nn) [8, 9, 10, 11, 12, 13] rfl
  have hDc := hD.sub (ws' := mdU dA dZ ad2 nn) [8, 9, 10, 11, 12, 13] (by decide) rfl
  exact bw_ro S hM cw (va_recv hK hPc (ci := 1) (q0 := 0) rfl rfl) hK hPc (hDc.weaken (fun _ _ _ _ => trivial)) hP hS hA hst hn hsize hrm hdg hcl kk
/-- a loop that counts up, some cells and slots a turn -/
theorem w_loopL {σ : Type} (N c0 s0 : Nat) (I : Nat → σ → Heap → List Loc → Array Slot → Prop)
    (step : ∀ (j : Nat) (x : σ) (H : Heap) (locs : List Loc) (ls : Array Slot), j < N → I j x H locs ls → (∀ (x' : σ) (H' : Heap) (locs' : List Loc) (ls' : Array Slot), I (j + 1) x' H' locs' ls' → W p l e R s m args below meth c H' locs' (c0 + 3 * (j + 1)) (s0 + 19 * (j + 1)) Q (F0 m pc ls' [])) → W p l e R s m args below meth c H locs (c0 + 3 * j) (s0 + 19 * j) Q (F0 m pc ls []))
    (ex : ∀ (x : σ) (H : Heap) (locs : List Loc) (ls : Array Slot), I N x H locs ls → W p l e R s m args below meth c H locs (c0 + 3 * N) (s0 + 19 * N) Q (F0 m pc ls [])) :
    ∀ (x : σ) (H : Heap) (locs : List Loc) (ls : Array Slot), I 0 x H locs ls → W p l e R s m args below meth c H locs (c0 + 3 * 0) (s0 + 19 * 0) Q (F0 m pc ls []) := by
  have key : ∀ (n j : Nat) (x : σ) (H : Heap) (locs : List Loc) (ls : Array Slot), j + n = N → I j x H locs ls → W p l e R s m args below meth c H locs (c0 + 3 * j) (s0 + 19 * j) Q (F0 m pc ls []) := by
    intro n
    induction n with
    | zero =>
      intro j x H locs ls hj hI
      have : j = N := by omega
      subst this
      exact ex x H locs ls hI
    | succ n ih =>
      intro j x H locs ls hj hI
      exact step j x H locs ls (by omega) hI (fun x' H' locs' ls' h => ih (j + 1) x' H' locs' ls' (by omega) h)
  intro x H locs ls hI
  exact key N 0 x H locs ls (by omega) hI
end LR
/-- what holds all along in the law's body -/
def lwC (p : Program) (l : Launch) (s : State) (m : MethodId) (meth : Method) (c : Code) (b L : Nat) (xs : Nat → Int32) (D : va_G) (dA dZ dJ : ClassId) : Prop :=
  p.tables.exec = Jvm.exec ∧ c.code = cL_law ∧ c.maxLocals = 7 ∧ s.vm.findClass RX0 = some m.cls ∧ (∀ w ∈ lw_all, w.before #[Value.ref b] s = true) ∧ va_X b L xs s s.heap ∧ b < s.heap.size ∧ L ≤ 256 ∧ va_K D vwCl (tyW dA dZ) s ∧ va_K D vwCl [(dJ, .long)] s ∧ thOK s ∧ l.flags = flags0
/-- .. at the loop's head, j calls done -/
def lwI (s : State) (D : va_G) (dA dZ dJ : ClassId) (ad1 ad2 : Nat → Nat) (o0 b j : Nat) (x : FS × NS × (Nat → Int64)) (H : Heap) (locs : List Loc) (ls : Array Slot) : Prop :=
  lv_has ls 7 [(0, .ref b), (1, .ref (ad1 0)), (2, .ref (ad2 0)), (3, .ref o0), (4, .int (nI (4 * j)))] ∧ va_P D vwCl (lwW dA dZ dJ ad1 ad2 o0 x.1 x.2.1 x.2.2) H ∧ va_D (fun q => s.heap.size ≤ q) (lwW dA dZ dJ ad1 ad2 o0 x.1 x.2.1 x.2.2) ∧ va_S (fun q => s.heap.size ≤ q) s.heap H locs ∧ Rp x.1 x.2.1.2.1 ∧ mOK x.2.1.2.1
end
section
set_option maxRecDepth 100000
set_option maxHeartbeats 4000000 in
set_option maxRecDepth 100000 in
theorem law_0 {p : Program} {l : Launch} {e : Env} {s : State} {m : MethodId} {below : List Frame} {meth : Method} {c : Code} {H : Heap} {locs : List Loc} {cells slots : Nat} {Q : State → Prop} {ls : Array Slot} {D : va_G} {dA dZ dJ : ClassId} {ad1 ad2 : Nat → Nat} {o0 b L j : Nat} {xs : Nat → Int32} {x : FS × NS × (Nat → Int64)} (C : lwC p l s m meth c b L xs D dA dZ dJ) (hj : 4 * j + 4 ≤ L) (hcl : cells + 3 ≤ 600000 ∧ slots + 19 ≤ 7290000) (hI : lwI s D dA dZ dJ ad1 ad2 o0 b j x H locs ls)
    (K : ∀ (x : FS × NS × (Nat → Int64)) (H : Heap) (locs : List Loc) (ls : Array Slot), lwI s D dA dZ dJ ad1 ad2 o0 b j x H locs ls → W p l e room_1 s m #[Value.ref b] below meth c H locs (cells + 3) (slots + 19) Q (F0 m 636 ls [])) : W p l e room_1 s m #[Value.ref b] below meth c H locs cells slots Q (F0 m 104 ls []) := by
  obtain ⟨hx, hb, hml, hown, hts, hX, hbl, hL, hK, hK2, hth, hfl⟩ := C
  obtain ⟨hl, hP, hD, hS, hR, hM⟩ := hI
  obtain ⟨⟨own, rows9, up9, clo, cho, fai, cou, see⟩, ⟨cod, ⟨has, up, ch, tol, rows⟩, cn⟩, f⟩ := x
  have e1 : rows = rows9 := hR.2.1.symm
  have e2 : up = up9 := hR.2.2.1.symm
  subst e1
  subst e2
  have hR : Rp (own, rows, up, clo, cho, fai, cou, see) (has, up, ch, tol, rows) := hR
  have hM : mOK (has, up, ch, tol, rows) := hM
  have hA : ∀ q : Nat, s.heap.size ≤ q → (fun q => s.heap.size ≤ q) q := fun _ h => h
  have hcl0 : cells ≤ room_1.cells ∧ slots ≤ room_1.slots := ⟨by show cells ≤ 600000; omega, by show slots ≤ 7290000; omega⟩
  have hP : va_P D vwCl (lwW dA dZ dJ ad1 ad2 o0 (own, rows, up, clo, cho, fai, cou, see) (cod, (has, up, ch, tol, rows), cn) f) H := hP
  have hD : va_D (fun q => s.heap.size ≤ q) (lwW dA dZ dJ ad1 ad2 o0 (own, rows, up, clo, cho, fai, cou, see) (cod, (has, up, ch, tol, rows), cn) f) := hD
  refine lv_aload_n hx hb dL_law_104 rfl (lv_at hl 1 rfl) ?_
  refine lv_aload_n hx hb dL_law_105 rfl (lv_at hl 0 rfl) ?_
  refine lv_iload hx hb dL_law_106 (lv_at hl 4 rfl) ?_
  refine lv_iconst (v := nI 1) hx hb dL_law_108 (by decide) ?_
  refine bw_add hx hb dL_law_109 ?_
  refine lw_sld hx hb hX hbl hS (k := (((4 * j) + 1))) (by omega) hL dL_law_110 ?_
  refine lv_aload_n hx hb dL_law_111 rfl (lv_at hl 0 rfl) ?_
  refine lv_iload hx hb dL_law_112 (lv_at hl 4 rfl) ?_
  refine lv_iconst (v := nI 2) hx hb dL_law_114 (by decide) ?_
  refine bw_add hx hb dL_law_115 ?_
  refine lw_sld hx hb hX hbl hS (k := (((4 * j) + 2))) (by omega) hL dL_law_116 ?_
  refine lv_aload_n hx hb dL_law_117 rfl (lv_at hl 0 rfl) ?_
  refine lv_iload hx hb dL_law_118 (lv_at hl 4 rfl) ?_
  refine lv_iconst (v := nI 3) hx hb dL_law_120 (by decide) ?_
  refine bw_add hx hb dL_law_121 ?_
  refine lw_sld hx hb hX hbl hS (k := (((4 * j) + 3))) (by omega) hL dL_law_122 ?_
  refine lc_X1 (rest := []) (u := (own, rows, up, clo, cho, fai, cou, see)) (nn := (cod, (has, up, ch, tol, rows), cn)) ⟨hx, hb, hml, hown, hts⟩ (met_X1_row l D dA dZ ad1 _ hR (xs ((4 * j) + 1)) (xs ((4 * j) + 2)) (xs ((4 * j) + 3))) (cw_X0_19 hts ⟨Nat.le_of_ble_eq_true rfl, Nat.le_of_ble_eq_true rfl⟩) hK hP hD hS hA rfl rfl hl.1 (Nat.le_of_ble_eq_true rfl) dL_law_123 hcl0 (fun r1 u3 H locs hv2 hP hD hS => ?_)
  refine lv_aload_n hx hb dL_law_126 rfl (lv_at hl 2 rfl) ?_
  refine lv_aload_n hx hb dL_law_127 rfl (lv_at hl 0 rfl) ?_
  refine lv_iload hx hb dL_law_128 (lv_at hl 4 rfl) ?_
  refine lv_iconst (v := nI 1) hx hb dL_law_130 (by decide) ?_
  refine bw_add hx hb dL_law_131 ?_
  refine lw_sld hx hb hX hbl hS (k := (((4 * j) + 1))) (by omega) hL dL_law_132 ?_
  refine lv_aload_n hx hb dL_law_133 rfl (lv_at hl 0 rfl) ?_
  refine lv_iload hx hb dL_law_134 (lv_at hl 4 rfl) ?_
  refine lv_iconst (v := nI 2) hx hb dL_law_136 (by decide) ?_
  refine bw_add hx hb dL_law_137 ?_
  refine lw_sld hx hb hX hbl hS (k := (((4 * j) + 2))) (by omega) hL dL_law_138 ?_
  refine lv_aload_n hx hb dL_law_139 rfl (lv_at hl 0 rfl) ?_
  refine lv_iload hx hb dL_law_140 (lv_at hl 4 rfl) ?_
  refine lv_iconst (v := nI 3) hx hb dL_law_142 (by decide) ?_
  refine bw_add hx hb dL_law_143 ?_
  refine lw_sld hx hb hX hbl hS (k := (((4 * j) + 3))) (by omega) hL dL_law_144 ?_
  refine lc_X2 (rest := [.int r1]) (u := u3) (nn := (cod, (has, up, ch, tol, rows), cn)) ⟨hx, hb, hml, hown, hts⟩ (met_X2_row l D dA dZ ad2 _ hM (xs ((4 * j) + 1)) (xs ((4 * j) + 2)) (xs ((4 * j) + 3))) (cw_X0_23 hts ⟨Nat.le_of_ble_eq_true rfl, Nat.le_of_ble_eq_true rfl⟩) hK hP hD hS hA rfl rfl hl.1 (Nat.le_of_ble_eq_true rfl) dL_law_145 hcl0 (fun r4 u6 H locs hv5 hP hD hS => ?_)
  refine lv_icmp_eq hx hb (tgt := 636) dL_law_148 (by decide) (fun c7 => ?_) (fun c7 => ?_)
  · refine W.widen (k := cells + 3) (n := slots + 19) (by omega) (by omega) ?_
    exact K (u3, u6, f) _ _ _ ⟨hl, hP, hD, hS, by show Rp u3 u6.2.1; rw [hv5.2.2]; exact hv2.2, by show mOK u6.2.1; rw [hv5.2.2]; exact mOK_row hM (xs ((4 * j) + 1)) (xs ((4 * j) + 2)) (xs ((4 * j) + 3))⟩
  · exact absurd (hv2.1.trans hv5.1.symm) c7

set_option maxHeartbeats 4000000 in
set_option maxRecDepth 100000 in
theorem law_1 {p : Program} {l : Launch} {e : Env} {s : State} {m : MethodId} {below : List Frame} {meth : Method} {c : Code} {H : Heap} {locs : List Loc} {cells slots : Nat} {Q : State → Prop} {ls : Array Slot} {D : va_G} {dA dZ dJ : ClassId} {ad1 ad2 : Nat → Nat} {o0 b L j : Nat} {xs : Nat → Int32} {x : FS × NS × (Nat → Int64)} (C : lwC p l s m meth c b L xs D dA dZ dJ) (hj : 4 * j + 4 ≤ L) (hcl : cells + 3 ≤ 600000 ∧ slots + 19 ≤ 7290000) (hI : lwI s D dA dZ dJ ad1 ad2 o0 b j x H locs ls)
    (K : ∀ (x : FS × NS × (Nat → Int64)) (H : Heap) (locs : List Loc) (ls : Array Slot), lwI s D dA dZ dJ ad1 ad2 o0 b j x H locs ls → W p l e room_1 s m #[Value.ref b] below meth c H locs (cells + 3) (slots + 19) Q (F0 m 636 ls [])) : W p l e room_1 s m #[Value.ref b] below meth c H locs cells slots Q (F0 m 153 ls []) := by
  obtain ⟨hx, hb, hml, hown, hts, hX, hbl, hL, hK, hK2, hth, hfl⟩ := C
  obtain ⟨hl, hP, hD, hS, hR, hM⟩ := hI
  obtain ⟨⟨own, rows9, up9, clo, cho, fai, cou, see⟩, ⟨cod, ⟨has, up, ch, tol, rows⟩, cn⟩, f⟩ := x
  have e1 : rows = rows9 := hR.2.1.symm
  have e2 : up = up9 := hR.2.2.1.symm
  subst e1
  subst e2
  have hR : Rp (own, rows, up, clo, cho, fai, cou, see) (has, up, ch, tol, rows) := hR
  have hM : mOK (has, up, ch, tol, rows) := hM
  have hA : ∀ q : Nat, s.heap.size ≤ q → (fun q => s.heap.size ≤ q) q := fun _ h => h
  have hcl0 : cells ≤ room_1.cells ∧ slots ≤ room_1.slots := ⟨by show cells ≤ 600000; omega, by show slots ≤ 7290000; omega⟩
  have hP : va_P D vwCl (lwW dA dZ dJ ad1 ad2 o0 (own, rows, up, clo, cho, fai, cou, see) (cod, (has, up, ch, tol, rows), cn) f) H := hP
  have hD : va_D (fun q => s.heap.size ≤ q) (lwW dA dZ dJ ad1 ad2 o0 (own, rows, up, clo, cho, fai, cou, see) (cod, (has, up, ch, tol, rows), cn) f) := hD
  refine lv_aload_n hx hb dL_law_153 rfl (lv_at hl 1 rfl) ?_
  refine lv_aload_n hx hb dL_law_154 rfl (lv_at hl 0 rfl) ?_
  refine lv_iload hx hb dL_law_155 (lv_at hl 4 rfl) ?_
  refine lv_iconst (v := nI 1) hx hb dL_law_157 (by decide) ?_
  refine bw_add hx hb dL_law_158 ?_
  refine lw_sld hx hb hX hbl hS (k := (((4 * j) + 1))) (by omega) hL dL_law_159 ?_
  refine lv_aload_n hx hb dL_law_160 rfl (lv_at hl 0 rfl) ?_
  refine lv_iload hx hb dL_law_161 (lv_at hl 4 rfl) ?_
  refine lv_iconst (v := nI 2) hx hb dL_law_163 (by decide) ?_
  refine bw_add hx hb dL_law_164 ?_
  refine lw_sld hx hb hX hbl hS (k := (((4 * j) + 2))) (by omega) hL dL_law_165 ?_
  refine lv_aload_n hx hb dL_law_166 rfl (lv_at hl 0 rfl) ?_
  refine lv_iload hx hb dL_law_167 (lv_at hl 4 rfl) ?_
  refine lv_iconst (v := nI 3) hx hb dL_law_169 (by decide) ?_
  refine bw_add hx hb dL_law_170 ?_
  refine lw_sld hx hb hX hbl hS (k := (((4 * j) + 3))) (by omega) hL dL_law_171 ?_
  refine lc_X1 (rest := []) (u := (own, rows, up, clo, cho, fai, cou, see)) (nn := (cod, (has, up, ch, tol, rows), cn)) ⟨hx, hb, hml, hown, hts⟩ (met_X1_drop l D dA dZ ad1 _ hR (xs ((4 * j) + 1)) (xs ((4 * j) + 2)) (xs ((4 * j) + 3))) (cw_X0_24 hts ⟨Nat.le_of_ble_eq_true rfl, Nat.le_of_ble_eq_true rfl⟩) hK hP hD hS hA rfl rfl hl.1 (Nat.le_of_ble_eq_true rfl) dL_law_172 hcl0 (fun r1 u3 H locs hv2 hP hD hS => ?_)
  refine lv_aload_n hx hb dL_law_175 rfl (lv_at hl 2 rfl) ?_
  refine lv_aload_n hx hb dL_law_176 rfl (lv_at hl 0 rfl) ?_
  refine lv_iload hx hb dL_law_177 (lv_at hl 4 rfl) ?_
  refine lv_iconst (v := nI 1) hx hb dL_law_179 (by decide) ?_
  refine bw_add hx hb dL_law_180 ?_
  refine lw_sld hx hb hX hbl hS (k := (((4 * j) + 1))) (by omega) hL dL_law_181 ?_
  refine lv_aload_n hx hb dL_law_182 rfl (lv_at hl 0 rfl) ?_
  refine lv_iload hx hb dL_law_183 (lv_at hl 4 rfl) ?_
  refine lv_iconst (v := nI 2) hx hb dL_law_185 (by decide) ?_
  refine bw_add hx hb dL_law_186 ?_
  refine lw_sld hx hb hX hbl hS (k := (((4 * j) + 2))) (by omega) hL dL_law_187 ?_
  refine lv_aload_n hx hb dL_law_188 rfl (lv_at hl 0 rfl) ?_
  refine lv_iload hx hb dL_law_189 (lv_at hl 4 rfl) ?_
  refine lv_iconst (v := nI 3) hx hb dL_law_191 (by decide) ?_
  refine bw_add hx hb dL_law_192 ?_
  refine lw_sld hx hb hX hbl hS (k := (((4 * j) + 3))) (by omega) hL dL_law_193 ?_
  refine lc_X2 (rest := [.int r1]) (u := u3) (nn := (cod, (has, up, ch, tol, rows), cn)) ⟨hx, hb, hml, hown, hts⟩ (met_X2_drop l D dA dZ ad2 _ hM (xs ((4 * j) + 1)) (xs ((4 * j) + 2)) (xs ((4 * j) + 3))) (cw_X0_27 hts ⟨Nat.le_of_ble_eq_true rfl, Nat.le_of_ble_eq_true rfl⟩) hK hP hD hS hA rfl rfl hl.1 (Nat.le_of_ble_eq_true rfl) dL_law_194 hcl0 (fun r4 u6 H locs hv5 hP hD hS => ?_)
  refine lv_icmp_eq hx hb (tgt := 636) dL_law_197 (by decide) (fun c7 => ?_) (fun c7 => ?_)
  · refine W.widen (k := cells + 3) (n := slots + 19) (by omega) (by omega) ?_
    exact K (u3, u6, f) _ _ _ ⟨hl, hP, hD, hS, by show Rp u3 u6.2.1; rw [hv5.2.2]; exact hv2.2, by show mOK u6.2.1; rw [hv5.2.2]; exact mOK_drop hM (xs ((4 * j) + 1)) (xs ((4 * j) + 2)) (xs ((4 * j) + 3))⟩
  · exact absurd (hv2.1.trans hv5.1.symm) c7

set_option maxHeartbeats 4000000 in
set_option maxRecDepth 100000 in
theorem law_2 {p : Program} {l : Launch} {e : Env} {s : State} {m : MethodId} {below : List Frame} {meth : Method} {c : Code} {H : Heap} {locs : List Loc} {cells slots : Nat} {Q : State → Prop} {ls : Array Slot} {D : va_G} {dA dZ dJ : ClassId} {ad1 ad2 : Nat → Nat} {o0 b L j : Nat} {xs : Nat → Int32} {x : FS × NS × (Nat → Int64)} (C : lwC p l s m meth c b L xs D dA dZ dJ) (hj : 4 * j + 4 ≤ L) (hcl : cells + 3 ≤ 600000 ∧ slots + 19 ≤ 7290000) (hI : lwI s D dA dZ dJ ad1 ad2 o0 b j x H locs ls)
    (K : ∀ (x : FS × NS × (Nat → Int64)) (H : Heap) (locs : List Loc) (ls : Array Slot), lwI s D dA dZ dJ ad1 ad2 o0 b j x H locs ls → W p l e room_1 s m #[Value.ref b] below meth c H locs (cells + 3) (slots + 19) Q (F0 m 636 ls [])) : W p l e room_1 s m #[Value.ref b] below meth c H locs cells slots Q (F0 m 202 ls []) := by
  obtain ⟨hx, hb, hml, hown, hts, hX, hbl, hL, hK, hK2, hth, hfl⟩ := C
  obtain ⟨hl, hP, hD, hS, hR, hM⟩ := hI
  obtain ⟨⟨own, rows9, up9, clo, cho, fai, cou, see⟩, ⟨cod, ⟨has, up, ch, tol, rows⟩, cn⟩, f⟩ := x
  have e1 : rows = rows9 := hR.2.1.symm
  have e2 : up = up9 := hR.2.2.1.symm
  subst e1
  subst e2
  have hR : Rp (own, rows, up, clo, cho, fai, cou, see) (has, up, ch, tol, rows) := hR
  have hM : mOK (has, up, ch, tol, rows) := hM
  have hA : ∀ q : Nat, s.heap.size ≤ q → (fun q => s.heap.size ≤ q) q := fun _ h => h
  have hcl0 : cells ≤ room_1.cells ∧ slots ≤ room_1.slots := ⟨by show cells ≤ 600000; omega, by show slots ≤ 7290000; omega⟩
  have hP : va_P D vwCl (lwW dA dZ dJ ad1 ad2 o0 (own, rows, up, clo, cho, fai, cou, see) (cod, (has, up, ch, tol, rows), cn) f) H := hP
  have hD : va_D (fun q => s.heap.size ≤ q) (lwW dA dZ dJ ad1 ad2 o0 (own, rows, up, clo, cho, fai, cou, see) (cod, (has, up, ch, tol, rows), cn) f) := hD
  refine lv_aload_n hx hb dL_law_202 rfl (lv_at hl 1 rfl) ?_
  refine lv_aload_n hx hb dL_law_203 rfl (lv_at hl 0 rfl) ?_
  refine lv_iload hx hb dL_law_204 (lv_at hl 4 rfl) ?_
  refine lv_iconst (v := nI 1) hx hb dL_law_206 (by decide) ?_
  refine bw_add hx hb dL_law_207 ?_
  refine lw_sld hx hb hX hbl hS (k := (((4 * j) + 1))) (by omega) hL dL_law_208 ?_
  refine lv_aload_n hx hb dL_law_209 rfl (lv_at hl 0 rfl) ?_
  refine lv_iload hx hb dL_law_210 (lv_at hl 4 rfl) ?_
  refine lv_iconst (v := nI 2) hx hb dL_law_212 (by decide) ?_
  refine bw_add hx hb dL_law_213 ?_
  refine lw_sld hx hb hX hbl hS (k := (((4 * j) + 2))) (by omega) hL dL_law_214 ?_
  refine lc_X1 (rest := []) (u := (own, rows, up, clo, cho, fai, cou, see)) (nn := (cod, (has, up, ch, tol, rows), cn)) ⟨hx, hb, hml, hown, hts⟩ (met_X1_above l D dA dZ ad1 _ hR hM.2.2 (xs ((4 * j) + 1)) (xs ((4 * j) + 2))) (cw_X0_28 hts ⟨Nat.le_of_ble_eq_true rfl, Nat.le_of_ble_eq_true rfl⟩) hK hP hD hS hA rfl rfl hl.1 (Nat.le_of_ble_eq_true rfl) dL_law_215 hcl0 (fun r1 u3 H locs hv2 hP hD hS => ?_)
  refine lv_aload_n hx hb dL_law_218 rfl (lv_at hl 2 rfl) ?_
  refine lv_aload_n hx hb dL_law_219 rfl (lv_at hl 0 rfl) ?_
  refine lv_iload hx hb dL_law_220 (lv_at hl 4 rfl) ?_
  refine lv_iconst (v := nI 1) hx hb dL_law_222 (by decide) ?_
  refine bw_add hx hb dL_law_223 ?_
  refine lw_sld hx hb hX hbl hS (k := (((4 * j) + 1))) (by omega) hL dL_law_224 ?_
  refine lv_aload_n hx hb dL_law_225 rfl (lv_at hl 0 rfl) ?_
  refine lv_iload hx hb dL_law_226 (lv_at hl 4 rfl) ?_
  refine lv_iconst (v := nI 2) hx hb dL_law_228 (by decide) ?_
  refine bw_add hx hb dL_law_229 ?_
  refine lw_sld hx hb hX hbl hS (k := (((4 * j) + 2))) (by omega) hL dL_law_230 ?_
  refine lc_X2 (rest := [.int r1]) (u := u3) (nn := (cod, (has, up, ch, tol, rows), cn)) ⟨hx, hb, hml, hown, hts⟩ (met_X2_above l D dA dZ ad2 _ hM (xs ((4 * j) + 1)) (xs ((4 * j) + 2))) (cw_X0_32 hts ⟨Nat.le_of_ble_eq_true rfl, Nat.le_of_ble_eq_true rfl⟩) hK hP hD hS hA rfl rfl hl.1 (Nat.le_of_ble_eq_true rfl) dL_law_231 hcl0 (fun r4 u6 H locs hv5 hP hD hS => ?_)
  refine lv_icmp_eq hx hb (tgt := 636) dL_law_234 (by decide) (fun c7 => ?_) (fun c7 => ?_)
  · refine W.widen (k := cells + 3) (n := slots + 19) (by omega) (by omega) ?_
    exact K (u3, u6, f) _ _ _ ⟨hl, hP, hD, hS, by show Rp u3 u6.2.1; rw [hv5.2.2]; exact hv2.2, by show mOK u6.2.1; rw [hv5.2.2]; exact mOK_abv hM (xs ((4 * j) + 1)) (xs ((4 * j) + 2))⟩
  · exact absurd (hv2.1.trans hv5.1.symm) c7

set_option maxHeartbeats 4000000 in
set_option maxRecDepth 100000 in
theorem law_3 {p : Program} {l : Launch} {e : Env} {s : State} {m : MethodId} {below : List Frame} {meth : Method} {c : Code} {H : Heap} {locs : List Loc} {cells slots : Nat} {Q : State → Prop} {ls : Array Slot} {D : va_G} {dA dZ dJ : ClassId} {ad1 ad2 : Nat → Nat} {o0 b L j : Nat} {xs : Nat → Int32} {x : FS × NS × (Nat → Int64)} (C : lwC p l s m meth c b L xs D dA dZ dJ) (hj : 4 * j + 4 ≤ L) (hcl : cells + 3 ≤ 600000 ∧ slots + 19 ≤ 7290000) (hI : lwI s D dA dZ dJ ad1 ad2 o0 b j x H locs ls)
    (K : ∀ (x : FS × NS × (Nat → Int64)) (H : Heap) (locs : List Loc) (ls : Array Slot), lwI s D dA dZ dJ ad1 ad2 o0 b j x H locs ls → W p l e room_1 s m #[Value.ref b] below meth c H locs (cells + 3) (slots + 19) Q (F0 m 636 ls [])) : W p l e room_1 s m #[Value.ref b] below meth c H locs cells slots Q (F0 m 239 ls []) := by
  obtain ⟨hx, hb, hml, hown, hts, hX, hbl, hL, hK, hK2, hth, hfl⟩ := C
  obtain ⟨hl, hP, hD, hS, hR, hM⟩ := hI
  obtain ⟨⟨own, rows9, up9, clo, cho, fai, cou, see⟩, ⟨cod, ⟨has, up, ch, tol, rows⟩, cn⟩, f⟩ := x
  have e1 : rows = rows9 := hR.2.1.symm
  have e2 : up = up9 := hR.2.2.1.symm
  subst e1
  subst e2
  have hR : Rp (own, rows, up, clo, cho, fai, cou, see) (has, up, ch, tol, rows) := hR
  have hM : mOK (has, up, ch, tol, rows) := hM
  have hA : ∀ q : Nat, s.heap.size ≤ q → (fun q => s.heap.size ≤ q) q := fun _ h => h
  have hcl0 : cells ≤ room_1.cells ∧ slots ≤ room_1.slots := ⟨by show cells ≤ 600000; omega, by show slots ≤ 7290000; omega⟩
  have hP : va_P D vwCl (lwW dA dZ dJ ad1 ad2 o0 (own, rows, up, clo, cho, fai, cou, see) (cod, (has, up, ch, tol, rows), cn) f) H := hP
  have hD : va_D (fun q => s.heap.size ≤ q) (lwW dA dZ dJ ad1 ad2 o0 (own, rows, up, clo, cho, fai, cou, see) (cod, (has, up, ch, tol, rows), cn) f) := hD
  refine lv_aload_n hx hb dL_law_239 rfl (lv_at hl 1 rfl) ?_
  refine lv_aload_n hx hb dL_law_240 rfl (lv_at hl 0 rfl) ?_
  refine lv_iload hx hb dL_law_241 (lv_at hl 4 rfl) ?_
  refine lv_iconst (v := nI 1) hx hb dL_law_243 (by decide) ?_
  refine bw_add hx hb dL_law_244 ?_
  refine lw_sld hx hb hX hbl hS (k := (((4 * j) + 1))) (by omega) hL dL_law_245 ?_
  refine lv_aload_n hx hb dL_law_246 rfl (lv_at hl 0 rfl) ?_
  refine lv_iload hx hb dL_law_247 (lv_at hl 4 rfl) ?_
  refine lv_iconst (v := nI 2) hx hb dL_law_249 (by decide) ?_
  refine bw_add hx hb dL_law_250 ?_
  refine lw_sld hx hb hX hbl hS (k := (((4 * j) + 2))) (by omega) hL dL_law_251 ?_
  refine lv_aload_n hx hb dL_law_252 rfl (lv_at hl 0 rfl) ?_
  refine lv_iload hx hb dL_law_253 (lv_at hl 4 rfl) ?_
  refine lv_iconst (v := nI 3) hx hb dL_law_255 (by decide) ?_
  refine bw_add hx hb dL_law_256 ?_
  refine lw_sld hx hb hX hbl hS (k := (((4 * j) + 3))) (by omega) hL dL_law_257 ?_
  refine w_cut 266 ls [.int (xs (((4 * j) + 2))), .int (xs (((4 * j) + 1))), .ref (ad1 0)] (fun v9 => v9 = nI (bN (¬ xs (((4 * j) + 3)) = 0))) (fun K1 => ?_) (fun v2 hv3 => ?_)
  · refine lv_if_eq hx hb (tgt := 265) dL_law_258 (by decide) (fun c4 => ?_) (fun c4 => ?_)
    · refine lv_iconst (v := nI 0) hx hb dL_law_265 (by decide) ?_
      exact K1 _ (by rw [bN_f (fun q => q c4)])
    · refine lv_iconst (v := nI 1) hx hb dL_law_261 (by decide) ?_
      refine lv_goto (tgt := 266) hx hb dL_law_262 (by decide) ?_
      exact K1 _ (by rw [bN_t c4])
  · subst hv3
    refine lc_X1 (rest := []) (u := (own, rows, up, clo, cho, fai, cou, see)) (nn := (cod, (has, up, ch, tol, rows), cn)) ⟨hx, hb, hml, hown, hts⟩ (met_X1_choose l D dA dZ ad1 _ hR (xs ((4 * j) + 1)) (xs ((4 * j) + 2)) (¬ xs ((4 * j) + 3) = 0)) (cw_X0_33 hts ⟨Nat.le_of_ble_eq_true rfl, Nat.le_of_ble_eq_true rfl⟩) hK hP hD hS hA rfl rfl hl.1 (Nat.le_of_ble_eq_true rfl) dL_law_266 hcl0 (fun r5 u7 H locs hv6 hP hD hS => ?_)
    refine lv_aload_n hx hb dL_law_269 rfl (lv_at hl 2 rfl) ?_
    refine lv_aload_n hx hb dL_law_270 rfl (lv_at hl 0 rfl) ?_
    refine lv_iload hx hb dL_law_271 (lv_at hl 4 rfl) ?_
    refine lv_iconst (v := nI 1) hx hb dL_law_273 (by decide) ?_
    refine bw_add hx hb dL_law_274 ?_
    refine lw_sld hx hb hX hbl hS (k := (((4 * j) + 1))) (by omega) hL dL_law_275 ?_
    refine lv_aload_n hx hb dL_law_276 rfl (lv_at hl 0 rfl) ?_
    refine lv_iload hx hb dL_law_277 (lv_at hl 4 rfl) ?_
    refine lv_iconst (v := nI 2) hx hb dL_law_279 (by decide) ?_
    refine bw_add hx hb dL_law_280 ?_
    refine lw_sld hx hb hX hbl hS (k := (((4 * j) + 2))) (by omega) hL dL_law_281 ?_
    refine lv_aload_n hx hb dL_law_282 rfl (lv_at hl 0 rfl) ?_
    refine lv_iload hx hb dL_law_283 (lv_at hl 4 rfl) ?_
    refine lv_iconst (v := nI 3) hx hb dL_law_285 (by decide) ?_
    refine bw_add hx hb dL_law_286 ?_
    refine lw_sld hx hb hX hbl hS (k := (((4 * j) + 3))) (by omega) hL dL_law_287 ?_
    refine w_cut 296 ls [.int (xs (((4 * j) + 2))), .int (xs (((4 * j) + 1))), .ref (ad2 0), .int r5] (fun v9 => v9 = nI (bN (¬ xs (((4 * j) + 3)) = 0))) (fun K8 => ?_) (fun v9 hv10 => ?_)
    · refine lv_if_eq hx hb (tgt := 295) dL_law_288 (by decide) (fun c11 => ?_) (fun c11 => ?_)
      · refine lv_iconst (v := nI 0) hx hb dL_law_295 (by decide) ?_
        exact K8 _ (by rw [bN_f (fun q => q c11)])
      · refine lv_iconst (v := nI 1) hx hb dL_law_291 (by decide) ?_
        refine lv_goto (tgt := 296) hx hb dL_law_292 (by decide) ?_
        exact K8 _ (by rw [bN_t c11])
    · subst hv10
      refine lc_X2 (rest := [.int r5]) (u := u7) (nn := (cod, (has, up, ch, tol, rows), cn)) ⟨hx, hb, hml, hown, hts⟩ (met_X2_choose l D dA dZ ad2 _ hM (xs ((4 * j) + 1)) (xs ((4 * j) + 2)) (¬ xs ((4 * j) + 3) = 0)) (cw_X0_36 hts ⟨Nat.le_of_ble_eq_true rfl, Nat.le_of_ble_eq_true rfl⟩) hK hP hD hS hA rfl rfl hl.1 (Nat.le_of_ble_eq_true rfl) dL_law_296 hcl0 (fun r12 u14 H locs hv13 hP hD hS => ?_)
      refine lv_icmp_eq hx hb (tgt := 636) dL_law_299 (by decide) (fun c15 => ?_) (fun c15 => ?_)
      · refine W.widen (k := cells + 3) (n := slots + 19) (by omega) (by omega) ?_
        exact K (u7, u14, f) _ _ _ ⟨hl, hP, hD, hS, by show Rp u7 u14.2.1; rw [hv13.2.2]; exact hv6.2, by show mOK u14.2.1; rw [hv13.2.2]; exact mOK_cho hM (xs ((4 * j) + 1)) (xs ((4 * j) + 2)) (¬ xs ((4 * j) + 3) = 0)⟩
      · exact absurd (hv6.1.trans hv13.1.symm) c15

set_option maxHeartbeats 4000000 in
set_option maxRecDepth 100000 in
theorem law_4 {p : Program} {l : Launch} {e : Env} {s : State} {m : MethodId} {below : List Frame} {meth : Method} {c : Code} {H : Heap} {locs : List Loc} {cells slots : Nat} {Q : State → Prop} {ls : Array Slot} {D : va_G} {dA dZ dJ : ClassId} {ad1 ad2 : Nat → Nat} {o0 b L j : Nat} {xs : Nat → Int32} {x : FS × NS × (Nat → Int64)} (C : lwC p l s m meth c b L xs D dA dZ dJ) (hj : 4 * j + 4 ≤ L) (hcl : cells + 3 ≤ 600000 ∧ slots + 19 ≤ 7290000) (hI : lwI s D dA dZ dJ ad1 ad2 o0 b j x H locs ls)
    (K : ∀ (x : FS × NS × (Nat → Int64)) (H : Heap) (locs : List Loc) (ls : Array Slot), lwI s D dA dZ dJ ad1 ad2 o0 b j x H locs ls → W p l e room_1 s m #[Value.ref b] below meth c H locs (cells + 3) (slots + 19) Q (F0 m 636 ls [])) : W p l e room_1 s m #[Value.ref b] below meth c H locs cells slots Q (F0 m 304 ls []) := by
  obtain ⟨hx, hb, hml, hown, hts, hX, hbl, hL, hK, hK2, hth, hfl⟩ := C
  obtain ⟨hl, hP, hD, hS, hR, hM⟩ := hI
  obtain ⟨⟨own, rows9, up9, clo, cho, fai, cou, see⟩, ⟨cod, ⟨has, up, ch, tol, rows⟩, cn⟩, f⟩ := x
  have e1 : rows = rows9 := hR.2.1.symm
  have e2 : up = up9 := hR.2.2.1.symm
  subst e1
  subst e2
  have hR : Rp (own, rows, up, clo, cho, fai, cou, see) (has, up, ch, tol, rows) := hR
  have hM : mOK (has, up, ch, tol, rows) := hM
  have hA : ∀ q : Nat, s.heap.size ≤ q → (fun q => s.heap.size ≤ q) q := fun _ h => h
  have hcl0 : cells ≤ room_1.cells ∧ slots ≤ room_1.slots := ⟨by show cells ≤ 600000; omega, by show slots ≤ 7290000; omega⟩
  have hP : va_P D vwCl (lwW dA dZ dJ ad1 ad2 o0 (own, rows, up, clo, cho, fai, cou, see) (cod, (has, up, ch, tol, rows), cn) f) H := hP
  have hD : va_D (fun q => s.heap.size ≤ q) (lwW dA dZ dJ ad1 ad2 o0 (own, rows, up, clo, cho, fai, cou, see) (cod, (has, up, ch, tol, rows), cn) f) := hD
  refine lv_aload_n hx hb dL_law_304 rfl (lv_at hl 1 rfl) ?_
  refine lc_R1 (rest := []) (u := (own, rows, up, clo, cho, fai, cou, see)) (nn := (cod, (has, up, ch, tol, rows), cn)) ⟨hx, hb, hml, hown, hts⟩ (met_X1_kept l D dA dZ ad1 _ hR ) (cw_X0_37 hts ⟨Nat.le_of_ble_eq_true rfl, Nat.le_of_ble_eq_true rfl⟩) hK hP hD hS hA rfl rfl hl.1 (Nat.le_of_ble_eq_true rfl) dL_law_305 hcl0 (fun r1 H locs hv2 hP hS => ?_)
  refine lv_aload_n hx hb dL_law_308 rfl (lv_at hl 2 rfl) ?_
  refine lc_X2 (rest := [.int r1]) (u := (own, rows, up, clo, cho, fai, cou, see)) (nn := (cod, (has, up, ch, tol, rows), cn)) ⟨hx, hb, hml, hown, hts⟩ (met_X2_kept l D dA dZ ad2 _ hM ) (cw_X0_41 hts ⟨Nat.le_of_ble_eq_true rfl, Nat.le_of_ble_eq_true rfl⟩) hK hP hD hS hA rfl rfl hl.1 (Nat.le_of_ble_eq_true rfl) dL_law_309 hcl0 (fun r4 u6 H locs hv5 hP hD hS => ?_)
  refine lv_icmp_eq hx hb (tgt := 636) dL_law_312 (by decide) (fun c7 => ?_) (fun c7 => ?_)
  · refine W.widen (k := cells + 3) (n := slots + 19) (by omega) (by omega) ?_
    exact K ((own, rows, up, clo, cho, fai, cou, see), u6, f) _ _ _ ⟨hl, hP, hD, hS, by show Rp (own, rows, up, clo, cho, fai, cou, see) u6.2.1; rw [hv5.2.2]; exact hR, by show mOK u6.2.1; rw [hv5.2.2]; exact hM⟩
  · exact absurd (hv2.trans hv5.1.symm) c7

set_option maxHeartbeats 4000000 in
set_option maxRecDepth 100000 in
theorem law_5 {p : Program} {l : Launch} {e : Env} {s : State} {m : MethodId} {below : List Frame} {meth : Method} {c : Code} {H : Heap} {locs : List Loc} {cells slots : Nat} {Q : State → Prop} {ls : Array Slot} {D : va_G} {dA dZ dJ : ClassId} {ad1 ad2 : Nat → Nat} {o0 b L j : Nat} {xs : Nat → Int32} {x : FS × NS × (Nat → Int64)} (C : lwC p l s m meth c b L xs D dA dZ dJ) (hj : 4 * j + 4 ≤ L) (hcl : cells + 3 ≤ 600000 ∧ slots + 19 ≤ 7290000) (hI : lwI s D dA dZ dJ ad1 ad2 o0 b j x H locs ls)
    (K : ∀ (x : FS × NS × (Nat → Int64)) (H : Heap) (locs : List Loc) (ls : Array Slot), lwI s D dA dZ dJ ad1 ad2 o0 b j x H locs ls → W p l e room_1 s m #[Value.ref b] below meth c H locs (cells + 3) (slots + 19) Q (F0 m 636 ls [])) : W p l e room_1 s m #[Value.ref b] below meth c H locs cells slots Q (F0 m 317 ls []) := by
  obtain ⟨hx, hb, hml, hown, hts, hX, hbl, hL, hK, hK2, hth, hfl⟩ := C
  obtain ⟨hl, hP, hD, hS, hR, hM⟩ := hI
  obtain ⟨⟨own, rows9, up9, clo, cho, fai, cou, see⟩, ⟨cod, ⟨has, up, ch, tol, rows⟩, cn⟩, f⟩ := x
  have e1 : rows = rows9 := hR.2.1.symm
  have e2 : up = up9 := hR.2.2.1.symm
  subst e1
  subst e2
  have hR : Rp (own, rows, up, clo, cho, fai, cou, see) (has, up, ch, tol, rows) := hR
  have hM : mOK (has, up, ch, tol, rows) := hM
  have hA : ∀ q : Nat, s.heap.size ≤ q → (fun q => s.heap.size ≤ q) q := fun _ h => h
  have hcl0 : cells ≤ room_1.cells ∧ slots ≤ room_1.slots := ⟨by show cells ≤ 600000; omega, by show slots ≤ 7290000; omega⟩
  have hP : va_P D vwCl (lwW dA dZ dJ ad1 ad2 o0 (own, rows, up, clo, cho, fai, cou, see) (cod, (has, up, ch, tol, rows), cn) f) H := hP
  have hD : va_D (fun q => s.heap.size ≤ q) (lwW dA dZ dJ ad1 ad2 o0 (own, rows, up, clo, cho, fai, cou, see) (cod, (has, up, ch, tol, rows), cn) f) := hD
  refine lv_aload_n hx hb dL_law_317 rfl (lv_at hl 1 rfl) ?_
  refine lv_aload_n hx hb dL_law_318 rfl (lv_at hl 0 rfl) ?_
  refine lv_iload hx hb dL_law_319 (lv_at hl 4 rfl) ?_
  refine lv_iconst (v := nI 1) hx hb dL_law_321 (by decide) ?_
  refine bw_add hx hb dL_law_322 ?_
  refine lw_sld hx hb hX hbl hS (k := (((4 * j) + 1))) (by omega) hL dL_law_323 ?_
  refine lc_R1 (rest := []) (u := (own, rows, up, clo, cho, fai, cou, see)) (nn := (cod, (has, up, ch, tol, rows), cn)) ⟨hx, hb, hml, hown, hts⟩ (met_X1_isKept l D dA dZ ad1 _ hR (xs ((4 * j) + 1))) (cw_X0_42 hts ⟨Nat.le_of_ble_eq_true rfl, Nat.le_of_ble_eq_true rfl⟩) hK hP hD hS hA rfl rfl hl.1 (Nat.le_of_ble_eq_true rfl) dL_law_324 hcl0 (fun r1 H locs hv2 hP hS => ?_)
  refine lv_aload_n hx hb dL_law_327 rfl (lv_at hl 2 rfl) ?_
  refine lv_aload_n hx hb dL_law_328 rfl (lv_at hl 0 rfl) ?_
  refine lv_iload hx hb dL_law_329 (lv_at hl 4 rfl) ?_
  refine lv_iconst (v := nI 1) hx hb dL_law_331 (by decide) ?_
  refine bw_add hx hb dL_law_332 ?_
  refine lw_sld hx hb hX hbl hS (k := (((4 * j) + 1))) (by omega) hL dL_law_333 ?_
  refine lc_X2 (rest := [.int r1]) (u := (own, rows, up, clo, cho, fai, cou, see)) (nn := (cod, (has, up, ch, tol, rows), cn)) ⟨hx, hb, hml, hown, hts⟩ (met_X2_isKept l D dA dZ ad2 _ hM (xs ((4 * j) + 1))) (cw_X0_46 hts ⟨Nat.le_of_ble_eq_true rfl, Nat.le_of_ble_eq_true rfl⟩) hK hP hD hS hA rfl rfl hl.1 (Nat.le_of_ble_eq_true rfl) dL_law_334 hcl0 (fun r4 u6 H locs hv5 hP hD hS => ?_)
  refine lv_icmp_eq hx hb (tgt := 636) dL_law_337 (by decide) (fun c7 => ?_) (fun c7 => ?_)
  · refine W.widen (k := cells + 3) (n := slots + 19) (by omega) (by omega) ?_
    exact K ((own, rows, up, clo, cho, fai, cou, see), u6, f) _ _ _ ⟨hl, hP, hD, hS, by show Rp (own, rows, up, clo, cho, fai, cou, see) u6.2.1; rw [hv5.2.2]; exact hR, by show mOK u6.2.1; rw [hv5.2.2]; exact hM⟩
  · exact absurd (hv2.trans hv5.1.symm) c7

set_option maxHeartbeats 4000000 in
set_option maxRecDepth 100000 in
theorem law_6 {p : Program} {l : Launch} {e : Env} {s : State} {m : MethodId} {below : List Frame} {meth : Method} {c : Code} {H : Heap} {locs : List Loc} {cells slots : Nat} {Q : State → Prop} {ls : Array Slot} {D : va_G} {dA dZ dJ : ClassId} {ad1 ad2 : Nat → Nat} {o0 b L j : Nat} {xs : Nat → Int32} {x : FS × NS × (Nat → Int64)} (C : lwC p l s m meth c b L xs D dA dZ dJ) (hj : 4 * j + 4 ≤ L) (hcl : cells + 3 ≤ 600000 ∧ slots + 19 ≤ 7290000) (hI : lwI s D dA dZ dJ ad1 ad2 o0 b j x H locs ls)
    (K : ∀ (x : FS × NS × (Nat → Int64)) (H : Heap) (locs : List Loc) (ls : Array Slot), lwI s D dA dZ dJ ad1 ad2 o0 b j x H locs ls → W p l e room_1 s m #[Value.ref b] below meth c H locs (cells + 3) (slots + 19) Q (F0 m 636 ls [])) : W p l e room_1 s m #[Value.ref b] below meth c H locs cells slots Q (F0 m 342 ls []) := by
  obtain ⟨hx, hb, hml, hown, hts, hX, hbl, hL, hK, hK2, hth, hfl⟩ := C
  obtain ⟨hl, hP, hD, hS, hR, hM⟩ := hI
  obtain ⟨⟨own, rows9, up9, clo, cho, fai, cou, see⟩, ⟨cod, ⟨has, up, ch, tol, rows⟩, cn⟩, f⟩ := x
  have e1 : rows = rows9 := hR.2.1.symm
  have e2 : up = up9 := hR.2.2.1.symm
  subst e1
  subst e2
  have hR : Rp (own, rows, up, clo, cho, fai, cou, see) (has, up, ch, tol, rows) := hR
  have hM : mOK (has, up, ch, tol, rows) := hM
  have hA : ∀ q : Nat, s.heap.size ≤ q → (fun q => s.heap.size ≤ q) q := fun _ h => h
  have hcl0 : cells ≤ room_1.cells ∧ slots ≤ room_1.slots := ⟨by show cells ≤ 600000; omega, by show slots ≤ 7290000; omega⟩
  have hP : va_P D vwCl (lwW dA dZ dJ ad1 ad2 o0 (own, rows, up, clo, cho, fai, cou, see) (cod, (has, up, ch, tol, rows), cn) f) H := hP
  have hD : va_D (fun q => s.heap.size ≤ q) (lwW dA dZ dJ ad1 ad2 o0 (own, rows, up, clo, cho, fai, cou, see) (cod, (has, up, ch, tol, rows), cn) f) := hD
  refine lv_aload_n hx hb dL_law_342 rfl (lv_at hl 1 rfl) ?_
  refine lv_aload_n hx hb dL_law_343 rfl (lv_at hl 0 rfl) ?_
  refine lv_iload hx hb dL_law_344 (lv_at hl 4 rfl) ?_
  refine lv_iconst (v := nI 1) hx hb dL_law_346 (by decide) ?_
  refine bw_add hx hb dL_law_347 ?_
  refine lw_sld hx hb hX hbl hS (k := (((4 * j) + 1))) (by omega) hL dL_law_348 ?_
  refine lv_aload_n hx hb dL_law_349 rfl (lv_at hl 0 rfl) ?_
  refine lv_iload hx hb dL_law_350 (lv_at hl 4 rfl) ?_
  refine lv_iconst (v := nI 2) hx hb dL_law_352 (by decide) ?_
  refine bw_add hx hb dL_law_353 ?_
  refine lw_sld hx hb hX hbl hS (k := (((4 * j) + 2))) (by omega) hL dL_law_354 ?_
  refine lc_R1 (rest := []) (u := (own, rows, up, clo, cho, fai, cou, see)) (nn := (cod, (has, up, ch, tol, rows), cn)) ⟨hx, hb, hml, hown, hts⟩ (met_X1_facet l D dA dZ ad1 _ hR (xs ((4 * j) + 1)) (xs ((4 * j) + 2))) (cw_X0_47 hts ⟨Nat.le_of_ble_eq_true rfl, Nat.le_of_ble_eq_true rfl⟩) hK hP hD hS hA rfl rfl hl.1 (Nat.le_of_ble_eq_true rfl) dL_law_355 hcl0 (fun r1 H locs hv2 hP hS => ?_)
  refine lv_aload_n hx hb dL_law_358 rfl (lv_at hl 2 rfl) ?_
  refine lv_aload_n hx hb dL_law_359 rfl (lv_at hl 0 rfl) ?_
  refine lv_iload hx hb dL_law_360 (lv_at hl 4 rfl) ?_
  refine lv_iconst (v := nI 1) hx hb dL_law_362 (by decide) ?_
  refine bw_add hx hb dL_law_363 ?_
  refine lw_sld hx hb hX hbl hS (k := (((4 * j) + 1))) (by omega) hL dL_law_364 ?_
  refine lv_aload_n hx hb dL_law_365 rfl (lv_at hl 0 rfl) ?_
  refine lv_iload hx hb dL_law_366 (lv_at hl 4 rfl) ?_
  refine lv_iconst (v := nI 2) hx hb dL_law_368 (by decide) ?_
  refine bw_add hx hb dL_law_369 ?_
  refine lw_sld hx hb hX hbl hS (k := (((4 * j) + 2))) (by omega) hL dL_law_370 ?_
  refine lc_X2 (rest := [.int r1]) (u := (own, rows, up, clo, cho, fai, cou, see)) (nn := (cod, (has, up, ch, tol, rows), cn)) ⟨hx, hb, hml, hown, hts⟩ (met_X2_facet l D dA dZ ad2 _ hM (xs ((4 * j) + 1)) (xs ((4 * j) + 2))) (cw_X0_50 hts ⟨Nat.le_of_ble_eq_true rfl, Nat.le_of_ble_eq_true rfl⟩) hK hP hD hS hA rfl rfl hl.1 (Nat.le_of_ble_eq_true rfl) dL_law_371 hcl0 (fun r4 u6 H locs hv5 hP hD hS => ?_)
  refine lv_icmp_eq hx hb (tgt := 636) dL_law_374 (by decide) (fun c7 => ?_) (fun c7 => ?_)
  · refine W.widen (k := cells + 3) (n := slots + 19) (by omega) (by omega) ?_
    exact K ((own, rows, up, clo, cho, fai, cou, see), u6, f) _ _ _ ⟨hl, hP, hD, hS, by show Rp (own, rows, up, clo, cho, fai, cou, see) u6.2.1; rw [hv5.2.2]; exact hR, by show mOK u6.2.1; rw [hv5.2.2]; exact hM⟩
  · exact absurd (hv2.trans hv5.1.symm) c7

set_option maxHeartbeats 4000000 in
set_option maxRecDepth 100000 in
theorem law_7 {p : Program} {l : Launch} {e : Env} {s : State} {m : MethodId} {below : List Frame} {meth : Method} {c : Code} {H : Heap} {locs : List Loc} {cells slots : Nat} {Q : State → Prop} {ls : Array Slot} {D : va_G} {dA dZ dJ : ClassId} {ad1 ad2 : Nat → Nat} {o0 b L j : Nat} {xs : Nat → Int32} {x : FS × NS × (Nat → Int64)} (C : lwC p l s m meth c b L xs D dA dZ dJ) (hj : 4 * j + 4 ≤ L) (hcl : cells + 3 ≤ 600000 ∧ slots + 19 ≤ 7290000) (hI : lwI s D dA dZ dJ ad1 ad2 o0 b j x H locs ls)
    (K : ∀ (x : FS × NS × (Nat → Int64)) (H : Heap) (locs : List Loc) (ls : Array Slot), lwI s D dA dZ dJ ad1 ad2 o0 b j x H locs ls → W p l e room_1 s m #[Value.ref b] below meth c H locs (cells + 3) (slots + 19) Q (F0 m 636 ls [])) : W p l e room_1 s m #[Value.ref b] below meth c H locs cells slots Q (F0 m 379 ls []) := by
  obtain ⟨hx, hb, hml, hown, hts, hX, hbl, hL, hK, hK2, hth, hfl⟩ := C
  obtain ⟨hl, hP, hD, hS, hR, hM⟩ := hI
  obtain ⟨⟨own, rows9, up9, clo, cho, fai, cou, see⟩, ⟨cod, ⟨has, up, ch, tol, rows⟩, cn⟩, f⟩ := x
  have e1 : rows = rows9 := hR.2.1.symm
  have e2 : up = up9 := hR.2.2.1.symm
  subst e1
  subst e2
  have hR : Rp (own, rows, up, clo, cho, fai, cou, see) (has, up, ch, tol, rows) := hR
  have hM : mOK (has, up, ch, tol, rows) := hM
  have hA : ∀ q : Nat, s.heap.size ≤ q → (fun q => s.heap.size ≤ q) q := fun _ h => h
  have hcl0 : cells ≤ room_1.cells ∧ slots ≤ room_1.slots := ⟨by show cells ≤ 600000; omega, by show slots ≤ 7290000; omega⟩
  have hP : va_P D vwCl (lwW dA dZ dJ ad1 ad2 o0 (own, rows, up, clo, cho, fai, cou, see) (cod, (has, up, ch, tol, rows), cn) f) H := hP
  have hD : va_D (fun q => s.heap.size ≤ q) (lwW dA dZ dJ ad1 ad2 o0 (own, rows, up, clo, cho, fai, cou, see) (cod, (has, up, ch, tol, rows), cn) f) := hD
  refine lv_aload_n hx hb dL_law_379 rfl (lv_at hl 1 rfl) ?_
  refine lv_aload_n hx hb dL_law_380 rfl (lv_at hl 0 rfl) ?_
  refine lv_iload hx hb dL_law_381 (lv_at hl 4 rfl) ?_
  refine lv_iconst (v := nI 1) hx hb dL_law_383 (by decide) ?_
  refine bw_add hx hb dL_law_384 ?_
  refine lw_sld hx hb hX hbl hS (k := (((4 * j) + 1))) (by omega) hL dL_law_385 ?_
  refine lv_aload_n hx hb dL_law_386 rfl (lv_at hl 0 rfl) ?_
  refine lv_iload hx hb dL_law_387 (lv_at hl 4 rfl) ?_
  refine lv_iconst (v := nI 2) hx hb dL_law_389 (by decide) ?_
  refine bw_add hx hb dL_law_390 ?_
  refine lw_sld hx hb hX hbl hS (k := (((4 * j) + 2))) (by omega) hL dL_law_391 ?_
  refine lc_R1 (rest := []) (u := (own, rows, up, clo, cho, fai, cou, see)) (nn := (cod, (has, up, ch, tol, rows), cn)) ⟨hx, hb, hml, hown, hts⟩ (met_X1_top l D dA dZ ad1 _ hR (xs ((4 * j) + 1)) (xs ((4 * j) + 2))) (cw_X0_51 hts ⟨Nat.le_of_ble_eq_true rfl, Nat.le_of_ble_eq_true rfl⟩) hK hP hD hS hA rfl rfl hl.1 (Nat.le_of_ble_eq_true rfl) dL_law_392 hcl0 (fun r1 H locs hv2 hP hS => ?_)
  refine lv_aload_n hx hb dL_law_395 rfl (lv_at hl 2 rfl) ?_
  refine lv_aload_n hx hb dL_law_396 rfl (lv_at hl 0 rfl) ?_
  refine lv_iload hx hb dL_law_397 (lv_at hl 4 rfl) ?_
  refine lv_iconst (v := nI 1) hx hb dL_law_399 (by decide) ?_
  refine bw_add hx hb dL_law_400 ?_
  refine lw_sld hx hb hX hbl hS (k := (((4 * j) + 1))) (by omega) hL dL_law_401 ?_
  refine lv_aload_n hx hb dL_law_402 rfl (lv_at hl 0 rfl) ?_
  refine lv_iload hx hb dL_law_403 (lv_at hl 4 rfl) ?_
  refine lv_iconst (v := nI 2) hx hb dL_law_405 (by decide) ?_
  refine bw_add hx hb dL_law_406 ?_
  refine lw_sld hx hb hX hbl hS (k := (((4 * j) + 2))) (by omega) hL dL_law_407 ?_
  refine lc_X2 (rest := [.int r1]) (u := (own, rows, up, clo, cho, fai, cou, see)) (nn := (cod, (has, up, ch, tol, rows), cn)) ⟨hx, hb, hml, hown, hts⟩ (met_X2_top l D dA dZ ad2 _ hM (xs ((4 * j) + 1)) (xs ((4 * j) + 2))) (cw_X0_54 hts ⟨Nat.le_of_ble_eq_true rfl, Nat.le_of_ble_eq_true rfl⟩) hK hP hD hS hA rfl rfl hl.1 (Nat.le_of_ble_eq_true rfl) dL_law_408 hcl0 (fun r4 u6 H locs hv5 hP hD hS => ?_)
  refine lv_icmp_eq hx hb (tgt := 636) dL_law_411 (by decide) (fun c7 => ?_) (fun c7 => ?_)
  · refine W.widen (k := cells + 3) (n := slots + 19) (by omega) (by omega) ?_
    exact K ((own, rows, up, clo, cho, fai, cou, see), u6, f) _ _ _ ⟨hl, hP, hD, hS, by show Rp (own, rows, up, clo, cho, fai, cou, see) u6.2.1; rw [hv5.2.2]; exact hR, by show mOK u6.2.1; rw [hv5.2.2]; exact hM⟩
  · exact absurd (hv2.trans hv5.1.symm) c7

set_option maxHeartbeats 4000000 in
set_option maxRecDepth 100000 in
theorem law_8 {p : Program} {l : Launch} {e : Env} {s : State} {m : MethodId} {below : List Frame} {meth : Method} {c : Code} {H : Heap} {locs : List Loc} {cells slots : Nat} {Q : State → Prop} {ls : Array Slot} {D : va_G} {dA dZ dJ : ClassId} {ad1 ad2 : Nat → Nat} {o0 b L j : Nat} {xs : Nat → Int32} {x : FS × NS × (Nat → Int64)} (C : lwC p l s m meth c b L xs D dA dZ dJ) (hj : 4 * j + 4 ≤ L) (hcl : cells + 3 ≤ 600000 ∧ slots + 19 ≤ 7290000) (hI : lwI s D dA dZ dJ ad1 ad2 o0 b j x H locs ls)
    (K : ∀ (x : FS × NS × (Nat → Int64)) (H : Heap) (locs : List Loc) (ls : Array Slot), lwI s D dA dZ dJ ad1 ad2 o0 b j x H locs ls → W p l e room_1 s m #[Value.ref b] below meth c H locs (cells + 3) (slots + 19) Q (F0 m 636 ls [])) : W p l e room_1 s m #[Value.ref b] below meth c H locs cells slots Q (F0 m 416 ls []) := by
  obtain ⟨hx, hb, hml, hown, hts, hX, hbl, hL, hK, hK2, hth, hfl⟩ := C
  obtain ⟨hl, hP, hD, hS, hR, hM⟩ := hI
  obtain ⟨⟨own, rows9, up9, clo, cho, fai, cou, see⟩, ⟨cod, ⟨has, up, ch, tol, rows⟩, cn⟩, f⟩ := x
  have e1 : rows = rows9 := hR.2.1.symm
  have e2 : up = up9 := hR.2.2.1.symm
  subst e1
  subst e2
  have hR : Rp (own, rows, up, clo, cho, fai, cou, see) (has, up, ch, tol, rows) := hR
  have hM : mOK (has, up, ch, tol, rows) := hM
  have hA : ∀ q : Nat, s.heap.size ≤ q → (fun q => s.heap.size ≤ q) q := fun _ h => h
  have hcl0 : cells ≤ room_1.cells ∧ slots ≤ room_1.slots := ⟨by show cells ≤ 600000; omega, by show slots ≤ 7290000; omega⟩
  have hP : va_P D vwCl (lwW dA dZ dJ ad1 ad2 o0 (own, rows, up, clo, cho, fai, cou, see) (cod, (has, up, ch, tol, rows), cn) f) H := hP
  have hD : va_D (fun q => s.heap.size ≤ q) (lwW dA dZ dJ ad1 ad2 o0 (own, rows, up, clo, cho, fai, cou, see) (cod, (has, up, ch, tol, rows), cn) f) := hD
  refine lv_aload_n hx hb dL_law_416 rfl (lv_at hl 1 rfl) ?_
  refine lv_aload_n hx hb dL_law_417 rfl (lv_at hl 0 rfl) ?_
  refine lv_iload hx hb dL_law_418 (lv_at hl 4 rfl) ?_
  refine lv_iconst (v := nI 1) hx hb dL_law_420 (by decide) ?_
  refine bw_add hx hb dL_law_421 ?_
  refine lw_sld hx hb hX hbl hS (k := (((4 * j) + 1))) (by omega) hL dL_law_422 ?_
  refine lv_aload_n hx hb dL_law_423 rfl (lv_at hl 0 rfl) ?_
  refine lv_iload hx hb dL_law_424 (lv_at hl 4 rfl) ?_
  refine lv_iconst (v := nI 2) hx hb dL_law_426 (by decide) ?_
  refine bw_add hx hb dL_law_427 ?_
  refine lw_sld hx hb hX hbl hS (k := (((4 * j) + 2))) (by omega) hL dL_law_428 ?_
  refine lv_aload_n hx hb dL_law_429 rfl (lv_at hl 0 rfl) ?_
  refine lv_iload hx hb dL_law_430 (lv_at hl 4 rfl) ?_
  refine lv_iconst (v := nI 3) hx hb dL_law_432 (by decide) ?_
  refine bw_add hx hb dL_law_433 ?_
  refine lw_sld hx hb hX hbl hS (k := (((4 * j) + 3))) (by omega) hL dL_law_434 ?_
  refine lc_R1 (rest := []) (u := (own, rows, up, clo, cho, fai, cou, see)) (nn := (cod, (has, up, ch, tol, rows), cn)) ⟨hx, hb, hml, hown, hts⟩ (met_X1_range l D dA dZ ad1 _ hR (xs ((4 * j) + 1)) (xs ((4 * j) + 2)) (xs ((4 * j) + 3))) (cw_X0_55 hts ⟨Nat.le_of_ble_eq_true rfl, Nat.le_of_ble_eq_true rfl⟩) hK hP hD hS hA rfl rfl hl.1 (Nat.le_of_ble_eq_true rfl) dL_law_435 hcl0 (fun r1 H locs hv2 hP hS => ?_)
  refine lv_aload_n hx hb dL_law_438 rfl (lv_at hl 2 rfl) ?_
  refine lv_aload_n hx hb dL_law_439 rfl (lv_at hl 0 rfl) ?_
  refine lv_iload hx hb dL_law_440 (lv_at hl 4 rfl) ?_
  refine lv_iconst (v := nI 1) hx hb dL_law_442 (by decide) ?_
  refine bw_add hx hb dL_law_443 ?_
  refine lw_sld hx hb hX hbl hS (k := (((4 * j) + 1))) (by omega) hL dL_law_444 ?_
  refine lv_aload_n hx hb dL_law_445 rfl (lv_at hl 0 rfl) ?_
  refine lv_iload hx hb dL_law_446 (lv_at hl 4 rfl) ?_
  refine lv_iconst (v := nI 2) hx hb dL_law_448 (by decide) ?_
  refine bw_add hx hb dL_law_449 ?_
  refine lw_sld hx hb hX hbl hS (k := (((4 * j) + 2))) (by omega) hL dL_law_450 ?_
  refine lv_aload_n hx hb dL_law_451 rfl (lv_at hl 0 rfl) ?_
  refine lv_iload hx hb dL_law_452 (lv_at hl 4 rfl) ?_
  refine lv_iconst (v := nI 3) hx hb dL_law_454 (by decide) ?_
  refine bw_add hx hb dL_law_455 ?_
  refine lw_sld hx hb hX hbl hS (k := (((4 * j) + 3))) (by omega) hL dL_law_456 ?_
  refine lc_X2 (rest := [.int r1]) (u := (own, rows, up, clo, cho, fai, cou, see)) (nn := (cod, (has, up, ch, tol, rows), cn)) ⟨hx, hb, hml, hown, hts⟩ (met_X2_range l D dA dZ ad2 _ hM (xs ((4 * j) + 1)) (xs ((4 * j) + 2)) (xs ((4 * j) + 3))) (cw_X0_58 hts ⟨Nat.le_of_ble_eq_true rfl, Nat.le_of_ble_eq_true rfl⟩) hK hP hD hS hA rfl rfl hl.1 (Nat.le_of_ble_eq_true rfl) dL_law_457 hcl0 (fun r4 u6 H locs hv5 hP hD hS => ?_)
  refine lv_icmp_eq hx hb (tgt := 636) dL_law_460 (by decide) (fun c7 => ?_) (fun c7 => ?_)
  · refine W.widen (k := cells + 3) (n := slots + 19) (by omega) (by omega) ?_
    exact K ((own, rows, up, clo, cho, fai, cou, see), u6, f) _ _ _ ⟨hl, hP, hD, hS, by show Rp (own, rows, up, clo, cho, fai, cou, see) u6.2.1; rw [hv5.2.2]; exact hR, by show mOK u6.2.1; rw [hv5.2.2]; exact hM⟩
  · exact absurd (hv2.trans hv5.1.symm) c7

set_option maxHeartbeats 4000000 in
set_option maxRecDepth 100000 in
theorem law_9 {p : Program} {l : Launch} {e : Env} {s : State} {m : MethodId} {below : List Frame} {meth : Method} {c : Code} {H : Heap} {locs : List Loc} {cells slots : Nat} {Q : State → Prop} {ls : Array Slot} {D : va_G} {dA dZ dJ : ClassId} {ad1 ad2 : Nat → Nat} {o0 b L j : Nat} {xs : Nat → Int32} {x : FS × NS × (Nat → Int64)} (C : lwC p l s m meth c b L xs D dA dZ dJ) (hj : 4 * j + 4 ≤ L) (hcl : cells + 3 ≤ 600000 ∧ slots + 19 ≤ 7290000) (hI : lwI s D dA dZ dJ ad1 ad2 o0 b j x H locs ls)
    (K : ∀ (x : FS × NS × (Nat → Int64)) (H : Heap) (locs : List Loc) (ls : Array Slot), lwI s D dA dZ dJ ad1 ad2 o0 b j x H locs ls → W p l e room_1 s m #[Value.ref b] below meth c H locs (cells + 3) (slots + 19) Q (F0 m 636 ls [])) : W p l e room_1 s m #[Value.ref b] below meth c H locs cells slots Q (F0 m 465 ls []) := by
  obtain ⟨hx, hb, hml, hown, hts, hX, hbl, hL, hK, hK2, hth, hfl⟩ := C
  obtain ⟨hl, hP, hD, hS, hR, hM⟩ := hI
  obtain ⟨⟨own, rows9, up9, clo, cho, fai, cou, see⟩, ⟨cod, ⟨has, up, ch, tol, rows⟩, cn⟩, f⟩ := x
  have e1 : rows = rows9 := hR.2.1.symm
  have e2 : up = up9 := hR.2.2.1.symm
  subst e1
  subst e2
  have hR : Rp (own, rows, up, clo, cho, fai, cou, see) (has, up, ch, tol, rows) := hR
  have hM : mOK (has, up, ch, tol, rows) := hM
  have hA : ∀ q : Nat, s.heap.size ≤ q → (fun q => s.heap.size ≤ q) q := fun _ h => h
  have hcl0 : cells ≤ room_1.cells ∧ slots ≤ room_1.slots := ⟨by show cells ≤ 600000; omega, by show slots ≤ 7290000; omega⟩
  have hP : va_P D vwCl (lwW dA dZ dJ ad1 ad2 o0 (own, rows, up, clo, cho, fai, cou, see) (cod, (has, up, ch, tol, rows), cn) f) H := hP
  have hD : va_D (fun q => s.heap.size ≤ q) (lwW dA dZ dJ ad1 ad2 o0 (own, rows, up, clo, cho, fai, cou, see) (cod, (has, up, ch, tol, rows), cn) f) := hD
  refine lv_aload_n hx hb dL_law_465 rfl (lv_at hl 1 rfl) ?_
  refine lv_aload_n hx hb dL_law_466 rfl (lv_at hl 0 rfl) ?_
  refine lv_iload hx hb dL_law_467 (lv_at hl 4 rfl) ?_
  refine lv_iconst (v := nI 1) hx hb dL_law_469 (by decide) ?_
  refine bw_add hx hb dL_law_470 ?_
  refine lw_sld hx hb hX hbl hS (k := (((4 * j) + 1))) (by omega) hL dL_law_471 ?_
  refine lv_aload_n hx hb dL_law_472 rfl (lv_at hl 0 rfl) ?_
  refine lv_iload hx hb dL_law_473 (lv_at hl 4 rfl) ?_
  refine lv_iconst (v := nI 2) hx hb dL_law_475 (by decide) ?_
  refine bw_add hx hb dL_law_476 ?_
  refine lw_sld hx hb hX hbl hS (k := (((4 * j) + 2))) (by omega) hL dL_law_477 ?_
  refine lv_aload_n hx hb dL_law_478 rfl (lv_at hl 0 rfl) ?_
  refine lv_iload hx hb dL_law_479 (lv_at hl 4 rfl) ?_
  refine lv_iconst (v := nI 3) hx hb dL_law_481 (by decide) ?_
  refine bw_add hx hb dL_law_482 ?_
  refine lw_sld hx hb hX hbl hS (k := (((4 * j) + 3))) (by omega) hL dL_law_483 ?_
  refine lc_R1 (rest := []) (u := (own, rows, up, clo, cho, fai, cou, see)) (nn := (cod, (has, up, ch, tol, rows), cn)) ⟨hx, hb, hml, hown, hts⟩ (met_X1_sum l D dA dZ ad1 _ hR (xs ((4 * j) + 1)) (xs ((4 * j) + 2)) (xs ((4 * j) + 3))) (cw_X0_59 hts ⟨Nat.le_of_ble_eq_true rfl, Nat.le_of_ble_eq_true rfl⟩) hK hP hD hS hA rfl rfl hl.1 (Nat.le_of_ble_eq_true rfl) dL_law_484 hcl0 (fun r1 H locs hv2 hP hS => ?_)
  refine lv_aload_n hx hb dL_law_487 rfl (lv_at hl 2 rfl) ?_
  refine lv_aload_n hx hb dL_law_488 rfl (lv_at hl 0 rfl) ?_
  refine lv_iload hx hb dL_law_489 (lv_at hl 4 rfl) ?_
  refine lv_iconst (v := nI 1) hx hb dL_law_491 (by decide) ?_
  refine bw_add hx hb dL_law_492 ?_
  refine lw_sld hx hb hX hbl hS (k := (((4 * j) + 1))) (by omega) hL dL_law_493 ?_
  refine lv_aload_n hx hb dL_law_494 rfl (lv_at hl 0 rfl) ?_
  refine lv_iload hx hb dL_law_495 (lv_at hl 4 rfl) ?_
  refine lv_iconst (v := nI 2) hx hb dL_law_497 (by decide) ?_
  refine bw_add hx hb dL_law_498 ?_
  refine lw_sld hx hb hX hbl hS (k := (((4 * j) + 2))) (by omega) hL dL_law_499 ?_
  refine lv_aload_n hx hb dL_law_500 rfl (lv_at hl 0 rfl) ?_
  refine lv_iload hx hb dL_law_501 (lv_at hl 4 rfl) ?_
  refine lv_iconst (v := nI 3) hx hb dL_law_503 (by decide) ?_
  refine bw_add hx hb dL_law_504 ?_
  refine lw_sld hx hb hX hbl hS (k := (((4 * j) + 3))) (by omega) hL dL_law_505 ?_
  refine lc_X2 (rest := [.int r1]) (u := (own, rows, up, clo, cho, fai, cou, see)) (nn := (cod, (has, up, ch, tol, rows), cn)) ⟨hx, hb, hml, hown, hts⟩ (met_X2_sum l D dA dZ ad2 _ hM (xs ((4 * j) + 1)) (xs ((4 * j) + 2)) (xs ((4 * j) + 3))) (cw_X0_62 hts ⟨Nat.le_of_ble_eq_true rfl, Nat.le_of_ble_eq_true rfl⟩) hK hP hD hS hA rfl rfl hl.1 (Nat.le_of_ble_eq_true rfl) dL_law_506 hcl0 (fun r4 u6 H locs hv5 hP hD hS => ?_)
  refine lv_icmp_eq hx hb (tgt := 636) dL_law_509 (by decide) (fun c7 => ?_) (fun c7 => ?_)
  · refine W.widen (k := cells + 3) (n := slots + 19) (by omega) (by omega) ?_
    exact K ((own, rows, up, clo, cho, fai, cou, see), u6, f) _ _ _ ⟨hl, hP, hD, hS, by show Rp (own, rows, up, clo, cho, fai, cou, see) u6.2.1; rw [hv5.2.2]; exact hR, by show mOK u6.2.1; rw [hv5.2.2]; exact hM⟩
  · exact absurd (hv2.trans hv5.1.symm) c7

set_option maxHeartbeats 4000000 in
set_option maxRecDepth 100000 in
theorem law_11 {p : Program} {l : Launch} {e : Env} {s : State} {m : MethodId} {below : List Frame} {meth : Method} {c : Code} {H : Heap} {locs : List Loc} {cells slots : Nat} {Q : State → Prop} {ls : Array Slot} {D : va_G} {dA dZ dJ : ClassId} {ad1 ad2 : Nat → Nat} {o0 b L j : Nat} {xs : Nat → Int32} {x : FS × NS × (Nat → Int64)} (C : lwC p l s m meth c b L xs D dA dZ dJ) (hj : 4 * j + 4 ≤ L) (hcl : cells + 3 ≤ 600000 ∧ slots + 19 ≤ 7290000) (hI : lwI s D dA dZ dJ ad1 ad2 o0 b j x H locs ls)
    (K : ∀ (x : FS × NS × (Nat → Int64)) (H : Heap) (locs : List Loc) (ls : Array Slot), lwI s D dA dZ dJ ad1 ad2 o0 b j x H locs ls → W p l e room_1 s m #[Value.ref b] below meth c H locs (cells + 3) (slots + 19) Q (F0 m 636 ls [])) : W p l e room_1 s m #[Value.ref b] below meth c H locs cells slots Q (F0 m 610 ls []) := by
  obtain ⟨hx, hb, hml, hown, hts, hX, hbl, hL, hK, hK2, hth, hfl⟩ := C
  obtain ⟨hl, hP, hD, hS, hR, hM⟩ := hI
  obtain ⟨⟨own, rows9, up9, clo, cho, fai, cou, see⟩, ⟨cod, ⟨has, up, ch, tol, rows⟩, cn⟩, f⟩ := x
  have e1 : rows = rows9 := hR.2.1.symm
  have e2 : up = up9 := hR.2.2.1.symm
  subst e1
  subst e2
  have hR : Rp (own, rows, up, clo, cho, fai, cou, see) (has, up, ch, tol, rows) := hR
  have hM : mOK (has, up, ch, tol, rows) := hM
  have hA : ∀ q : Nat, s.heap.size ≤ q → (fun q => s.heap.size ≤ q) q := fun _ h => h
  have hcl0 : cells ≤ room_1.cells ∧ slots ≤ room_1.slots := ⟨by show cells ≤ 600000; omega, by show slots ≤ 7290000; omega⟩
  have hP : va_P D vwCl (lwW dA dZ dJ ad1 ad2 o0 (own, rows, up, clo, cho, fai, cou, see) (cod, (has, up, ch, tol, rows), cn) f) H := hP
  have hD : va_D (fun q => s.heap.size ≤ q) (lwW dA dZ dJ ad1 ad2 o0 (own, rows, up, clo, cho, fai, cou, see) (cod, (has, up, ch, tol, rows), cn) f) := hD
  refine lv_aload_n hx hb dL_law_610 rfl (lv_at hl 1 rfl) ?_
  refine lc_X1 (rest := []) (u := (own, rows, up, clo, cho, fai, cou, see)) (nn := (cod, (has, up, ch, tol, rows), cn)) ⟨hx, hb, hml, hown, hts⟩ (met_X1_changed l D dA dZ ad1 _ hR ) (cw_X0_72 hts ⟨Nat.le_of_ble_eq_true rfl, Nat.le_of_ble_eq_true rfl⟩) hK hP hD hS hA rfl rfl hl.1 (Nat.le_of_ble_eq_true rfl) dL_law_611 hcl0 (fun r1 u3 H locs hv2 hP hD hS => ?_)
  refine lv_aload_n hx hb dL_law_614 rfl (lv_at hl 2 rfl) ?_
  refine lc_X2 (rest := [.int r1]) (u := u3) (nn := (cod, (has, up, ch, tol, rows), cn)) ⟨hx, hb, hml, hown, hts⟩ (met_X2_changed l D dA dZ ad2 _ hM ) (cw_X0_75 hts ⟨Nat.le_of_ble_eq_true rfl, Nat.le_of_ble_eq_true rfl⟩) hK hP hD hS hA rfl rfl hl.1 (Nat.le_of_ble_eq_true rfl) dL_law_615 hcl0 (fun r4 u6 H locs hv5 hP hD hS => ?_)
  refine lv_icmp_eq hx hb (tgt := 636) dL_law_618 (by decide) (fun c7 => ?_) (fun c7 => ?_)
  · refine W.widen (k := cells + 3) (n := slots + 19) (by omega) (by omega) ?_
    exact K (u3, u6, f) _ _ _ ⟨hl, hP, hD, hS, by show Rp u3 u6.2.1; rw [hv5.2.2]; exact hv2.2, by show mOK u6.2.1; rw [hv5.2.2]; exact mOK_chg hM ⟩
  · exact absurd (hv2.1.trans hv5.1.symm) c7

set_option maxHeartbeats 4000000 in
set_option maxRecDepth 100000 in
theorem law_12 {p : Program} {l : Launch} {e : Env} {s : State} {m : MethodId} {below : List Frame} {meth : Method} {c : Code} {H : Heap} {locs : List Loc} {cells slots : Nat} {Q : State → Prop} {ls : Array Slot} {D : va_G} {dA dZ dJ : ClassId} {ad1 ad2 : Nat → Nat} {o0 b L j : Nat} {xs : Nat → Int32} {x : FS × NS × (Nat → Int64)} (C : lwC p l s m meth c b L xs D dA dZ dJ) (hj : 4 * j + 4 ≤ L) (hcl : cells + 3 ≤ 600000 ∧ slots + 19 ≤ 7290000) (hI : lwI s D dA dZ dJ ad1 ad2 o0 b j x H locs ls)
    (K : ∀ (x : FS × NS × (Nat → Int64)) (H : Heap) (locs : List Loc) (ls : Array Slot), lwI s D dA dZ dJ ad1 ad2 o0 b j x H locs ls → W p l e room_1 s m #[Value.ref b] below meth c H locs (cells + 3) (slots + 19) Q (F0 m 636 ls [])) : W p l e room_1 s m #[Value.ref b] below meth c H locs cells slots Q (F0 m 623 ls []) := by
  obtain ⟨hx, hb, hml, hown, hts, hX, hbl, hL, hK, hK2, hth, hfl⟩ := C
  obtain ⟨hl, hP, hD, hS, hR, hM⟩ := hI
  obtain ⟨⟨own, rows9, up9, clo, cho, fai, cou, see⟩, ⟨cod, ⟨has, up, ch, tol, rows⟩, cn⟩, f⟩ := x
  have e1 : rows = rows9 := hR.2.1.symm
  have e2 : up = up9 := hR.2.2.1.symm
  subst e1
  subst e2
  have hR : Rp (own, rows, up, clo, cho, fai, cou, see) (has, up, ch, tol, rows) := hR
  have hM : mOK (has, up, ch, tol, rows) := hM
  have hA : ∀ q : Nat, s.heap.size ≤ q → (fun q => s.heap.size ≤ q) q := fun _ h => h
  have hcl0 : cells ≤ room_1.cells ∧ slots ≤ room_1.slots := ⟨by show cells ≤ 600000; omega, by show slots ≤ 7290000; omega⟩
  have hP : va_P D vwCl (lwW dA dZ dJ ad1 ad2 o0 (own, rows, up, clo, cho, fai, cou, see) (cod, (has, up, ch, tol, rows), cn) f) H := hP
  have hD : va_D (fun q => s.heap.size ≤ q) (lwW dA dZ dJ ad1 ad2 o0 (own, rows, up, clo, cho, fai, cou, see) (cod, (has, up, ch, tol, rows), cn) f) := hD
  refine lv_aload_n hx hb dL_law_623 rfl (lv_at hl 1 rfl) ?_
  refine lc_R1 (rest := []) (u := (own, rows, up, clo, cho, fai, cou, see)) (nn := (cod, (has, up, ch, tol, rows), cn)) ⟨hx, hb, hml, hown, hts⟩ (met_X1_rows l D dA dZ ad1 _ hR ) (cw_X0_76 hts ⟨Nat.le_of_ble_eq_true rfl, Nat.le_of_ble_eq_true rfl⟩) hK hP hD hS hA rfl rfl hl.1 (Nat.le_of_ble_eq_true rfl) dL_law_624 hcl0 (fun r1 H locs hv2 hP hS => ?_)
  refine lv_aload_n hx hb dL_law_627 rfl (lv_at hl 2 rfl) ?_
  refine lc_X2 (rest := [.int r1]) (u := (own, rows, up, clo, cho, fai, cou, see)) (nn := (cod, (has, up, ch, tol, rows), cn)) ⟨hx, hb, hml, hown, hts⟩ (met_X2_rows l D dA dZ ad2 _ hM ) (cw_X0_79 hts ⟨Nat.le_of_ble_eq_true rfl, Nat.le_of_ble_eq_true rfl⟩) hK hP hD hS hA rfl rfl hl.1 (Nat.le_of_ble_eq_true rfl) dL_law_628 hcl0 (fun r4 u6 H locs hv5 hP hD hS => ?_)
  refine lv_icmp_eq hx hb (tgt := 636) dL_law_631 (by decide) (fun c7 => ?_) (fun c7 => ?_)
  · refine W.widen (k := cells + 3) (n := slots + 19) (by omega) (by omega) ?_
    exact K ((own, rows, up, clo, cho, fai, cou, see), u6, f) _ _ _ ⟨hl, hP, hD, hS, by show Rp (own, rows, up, clo, cho, fai, cou, see) u6.2.1; rw [hv5.2.2]; exact hR, by show mOK u6.2.1; rw [hv5.2.2]; exact hM⟩
  · exact absurd (hv2.trans hv5.1.symm) c7
end
section
set_option maxRecDepth 100000
theorem lcmp_same {f : Nat → Int64} {v : Int32} : lg_cmp ((vp_updL f 0 v.toInt64) (nI 0).toNatClampNeg) v.toInt64 = nI 0 := by
  rw [nI_clamp (n := 0) (by decide), show vp_updL f 0 v.toInt64 0 = v.toInt64 from if_pos rfl]
  simp [lg_cmp]
  rfl
set_option maxHeartbeats 4000000 in
set_option maxRecDepth 100000 in
theorem law_10 {p : Program} {l : Launch} {e : Env} {s : State} {m : MethodId} {below : List Frame} {meth : Method} {c : Code} {H : Heap} {locs : List Loc} {cells slots : Nat} {Q : State → Prop} {ls : Array Slot} {D : va_G} {dA dZ dJ : ClassId} {ad1 ad2 : Nat → Nat} {o0 b L j : Nat} {xs : Nat → Int32} {x : FS × NS × (Nat → Int64)} (C : lwC p l s m meth c b L xs D dA dZ dJ) (hj : 4 * j + 4 ≤ L) (hcl : cells + 3 ≤ 600000 ∧ slots + 19 ≤ 7290000) (hI : lwI s D dA dZ dJ ad1 ad2 o0 b j x H locs ls)
    (K : ∀ (x : FS × NS × (Nat → Int64)) (H : Heap) (locs : List Loc) (ls : Array Slot), lwI s D dA dZ dJ ad1 ad2 o0 b j x H locs ls → W p l e room_1 s m #[Value.ref b] below meth c H locs (cells + 3) (slots + 19) Q (F0 m 636 ls [])) : W p l e room_1 s m #[Value.ref b] below meth c H locs cells slots Q (F0 m 514 ls []) := by
  obtain ⟨hx, hb, hml, hown, hts, hX, hbl, hL, hK, hK2, hth, hfl⟩ := C
  obtain ⟨hl, hP, hD, hS, hR, hM⟩ := hI
  obtain ⟨⟨own, rows9, up9, clo, cho, fai, cou, see⟩, ⟨cod, ⟨has, up, ch, tol, rows⟩, cn⟩, f⟩ := x
  have e1 : rows = rows9 := hR.2.1.symm
  have e2 : up = up9 := hR.2.2.1.symm
  subst e1
  subst e2
  have hR : Rp (own, rows, up, clo, cho, fai, cou, see) (has, up, ch, tol, rows) := hR
  have hM : mOK (has, up, ch, tol, rows) := hM
  have hA : ∀ q : Nat, s.heap.size ≤ q → (fun q => s.heap.size ≤ q) q := fun _ h => h
  have hcl0 : cells ≤ room_1.cells ∧ slots ≤ room_1.slots := ⟨by show cells ≤ 600000; omega, by show slots ≤ 7290000; omega⟩
  have hP : va_P D vwCl (lwW dA dZ dJ ad1 ad2 o0 (own, rows, up, clo, cho, fai, cou, see) (cod, (has, up, ch, tol, rows), cn) f) H := hP
  have hD : va_D (fun q => s.heap.size ≤ q) (lwW dA dZ dJ ad1 ad2 o0 (own, rows, up, clo, cho, fai, cou, see) (cod, (has, up, ch, tol, rows), cn) f) := hD
  refine lv_aload_n hx hb dL_law_514 rfl (lv_at hl 1 rfl) ?_
  refine lv_aload_n hx hb dL_law_515 rfl (lv_at hl 0 rfl) ?_
  refine lv_iload hx hb dL_law_516 (lv_at hl 4 rfl) ?_
  refine lv_iconst (v := nI 1) hx hb dL_law_518 (by decide) ?_
  refine bw_add hx hb dL_law_519 ?_
  refine lw_sld hx hb hX hbl hS (k := (((4 * j) + 1))) (by omega) hL dL_law_520 ?_
  refine lv_aload_n hx hb dL_law_521 rfl (lv_at hl 0 rfl) ?_
  refine lv_iload hx hb dL_law_522 (lv_at hl 4 rfl) ?_
  refine lv_iconst (v := nI 2) hx hb dL_law_524 (by decide) ?_
  refine bw_add hx hb dL_law_525 ?_
  refine lw_sld hx hb hX hbl hS (k := (((4 * j) + 2))) (by omega) hL dL_law_526 ?_
  refine lv_aload_n hx hb dL_law_527 rfl (lv_at hl 0 rfl) ?_
  refine lv_iload hx hb dL_law_528 (lv_at hl 4 rfl) ?_
  refine lv_iconst (v := nI 3) hx hb dL_law_530 (by decide) ?_
  refine bw_add hx hb dL_law_531 ?_
  refine lw_sld hx hb hX hbl hS (k := (((4 * j) + 3))) (by omega) hL dL_law_532 ?_
  refine w_cut 541 ls [.int (xs (((4 * j) + 2))), .int (xs (((4 * j) + 1))), .ref (ad1 0)] (fun v9 => v9 = nI (bN (¬ xs (((4 * j) + 3)) = 0))) (fun K1 => ?_) (fun v2 hv3 => ?_)
  · refine lv_if_eq hx hb (tgt := 540) dL_law_533 (by decide) (fun c4 => ?_) (fun c4 => ?_)
    · refine lv_iconst (v := nI 0) hx hb dL_law_540 (by decide) ?_
      exact K1 _ (by rw [bN_f (fun q => q c4)])
    · refine lv_iconst (v := nI 1) hx hb dL_law_536 (by decide) ?_
      refine lv_goto (tgt := 541) hx hb dL_law_537 (by decide) ?_
      exact K1 _ (by rw [bN_t c4])
  · subst hv3
    refine lv_aload_n hx hb dL_law_541 rfl (lv_at hl 3 rfl) ?_
    have hPs := hP.sub (ws' := fcW dA ad1 own rows up clo cho fai cou see ++ [(o0, .inl (dJ, 1, .inr (.inl f)))]) [0, 1, 2, 3, 4, 5, 6, 7, 14] rfl
    have hDs := hD.sub (ws' := fcW dA ad1 own rows up clo cho fai cou see ++ [(o0, .inl (dJ, 1, .inr (.inl f)))]) [0, 1, 2, 3, 4, 5, 6, 7, 14] (by decide) rfl
    have hFc := va_free (wc := [(o0, .inl (dJ, 1, .inr (.inl f)))]) hD hS hA [14] rfl
    refine va_calli (sw_run (rest := []) (n := 5) (As := [.ref (ad1 0), .int (xs ((4 * j) + 1)), .int (xs ((4 * j) + 2)), .int (nI (bN (¬ xs ((4 * j) + 3) = 0))), .ref o0]) ⟨hx, hb, hml, hown, hts⟩ (met_X0_share l hfl D dA dZ dJ ad1 o0 H.size hR f (xs ((4 * j) + 1)) (xs ((4 * j) + 2)) (¬ xs ((4 * j) + 3) = 0)) rfl q129 q130 q12 q131 rfl rfl (by decide +kernel) ⟨Nat.le_of_ble_eq_true rfl, Nat.le_of_ble_eq_true rfl⟩ ⟨th_blind _ (lsPre_blind _ D dA dZ dJ _ H.size), fun U hU hW => ⟨rfl, ⟨by rw [hU], by rw [hU]; exact hPs, va_K.moved hW.alike hK, va_K.moved hW.alike hK2, hDs.weaken (fun _ _ _ _ => trivial)⟩, hth.move hW (fun q hq => by rw [hU]; exact hS.2.1 q hq (Nat.not_le.mpr hq))⟩⟩ rfl rfl hl.1 rfl (lv_room (Nat.le_of_ble_eq_true rfl)) dL_law_542 ⟨by show cells + 3 ≤ 600000; omega, by show slots + 19 ≤ 7290000; omega⟩) hS (fun q _ h => hFc q h) hFc (fun r1 f1 t H1 locs ht hvm hv1 hB hz1 hk1 hS => ?_)
    rw [ht] at hB
    have hB1 := hB.sub (ws' := [(o0, .inl (dJ, 1, .inr (.inl f1)))]) [8] rfl
    obtain ⟨hP, hD⟩ := va_join (wr := fcU dA ad1 (own, rows, up, clo, cho, fai, cou, see) ++ mdU dA dZ ad2 (cod, (has, up, ch, tol, rows), cn)) (w1 := [(o0, .inl (dJ, 1, .inr (.inl f1)))]) hP hD [14] [0, 1, 2, 3, 4, 5, 6, 7, 8, 9, 10, 11, 12, 13] rfl rfl (by decide) (by decide) hk1 hFc hB1 (one_D (Or.inl ⟨0, _, rfl⟩))
    have hP : va_P D vwCl (lwW dA dZ dJ ad1 ad2 o0 ((own, rows, up, clo, cho, fai, cou, see)) ((cod, (has, up, ch, tol, rows), cn)) f1) H1 := hP
    have hD : va_D (fun q => s.heap.size ≤ q) (lwW dA dZ dJ ad1 ad2 o0 ((own, rows, up, clo, cho, fai, cou, see)) ((cod, (has, up, ch, tol, rows), cn)) f1) := hD
    generalize H1 = H at hP hS ⊢
    have hcl0 : cells + 3 ≤ room_1.cells ∧ slots + 19 ≤ room_1.slots := ⟨by show cells + 3 ≤ 600000; omega, by show slots + 19 ≤ 7290000; omega⟩
    refine lv_istore (lv' := [(5, .int r1), (0, .ref b), (1, .ref (ad1 0)), (2, .ref (ad2 0)), (3, .ref o0), (4, .int (nI (4 * j)))]) hx hb dL_law_545 hl (by decide) rfl (fun ls hl => ?_)
    refine lv_aload_n hx hb dL_law_547 rfl (lv_at hl 3 rfl) ?_
    refine lv_aload_n hx hb dL_law_548 rfl (lv_at hl 1 rfl) ?_
    refine lv_iload hx hb dL_law_549 (lv_at hl 5 rfl) ?_
    refine lv_iconst (v := nI 1) hx hb dL_law_551 (by decide) ?_
    refine bw_add hx hb dL_law_552 ?_
    refine lw_sld hx hb hX hbl hS (k := (((4 * j) + 1))) (by omega) hL dL_law_553 ?_
    refine lv_aload_n hx hb dL_law_554 rfl (lv_at hl 1 rfl) ?_
    refine lv_iload hx hb dL_law_555 (lv_at hl 5 rfl) ?_
    refine lv_iconst (v := nI 2) hx hb dL_law_557 (by decide) ?_
    refine bw_add hx hb dL_law_558 ?_
    refine lw_sld hx hb hX hbl hS (k := (((4 * j) + 2))) (by omega) hL dL_law_559 ?_
    refine lv_aload_n hx hb dL_law_560 rfl (lv_at hl 1 rfl) ?_
    refine lv_iload hx hb dL_law_561 (lv_at hl 5 rfl) ?_
    refine lv_iconst (v := nI 3) hx hb dL_law_563 (by decide) ?_
    refine bw_add hx hb dL_law_564 ?_
    refine lw_sld hx hb hX hbl hS (k := (((4 * j) + 3))) (by omega) hL dL_law_565 ?_
    refine w_cut 574 ls [.int (xs (((4 * j) + 2))), .int (xs (((4 * j) + 1))), .ref (ad2 0)] (fun v9 => v9 = nI (bN (¬ xs (((4 * j) + 3)) = 0))) (fun K5 => ?_) (fun v6 hv7 => ?_)
    · refine lv_if_eq hx hb (tgt := 573) dL_law_566 (by decide) (fun c8 => ?_) (fun c8 => ?_)
      · refine lv_iconst (v := nI 0) hx hb dL_law_573 (by decide) ?_
        exact K5 _ (by rw [bN_f (fun q => q c8)])
      · refine lv_iconst (v := nI 1) hx hb dL_law_569 (by decide) ?_
        refine lv_goto (tgt := 574) hx hb dL_law_570 (by decide) ?_
        exact K5 _ (by rw [bN_t c8])
    · subst hv7
      refine lc_X2 (rest := []) (u := (own, rows, up, clo, cho, fai, cou, see)) (nn := (cod, (has, up, ch, tol, rows), cn)) ⟨hx, hb, hml, hown, hts⟩ (met_X2_share l D dA dZ ad2 _ hM (xs ((4 * j) + 1)) (xs ((4 * j) + 2)) (¬ xs ((4 * j) + 3) = 0)) (cw_X0_68 hts ⟨Nat.le_of_ble_eq_true rfl, Nat.le_of_ble_eq_true rfl⟩) hK hP hD hS hA rfl rfl hl.1 (Nat.le_of_ble_eq_true rfl) dL_law_574 hcl0 (fun r9 u11 H locs hv10 hP hD hS => ?_)
      refine lv_istore (lv' := [(6, .int r9), (5, .int r1), (0, .ref b), (1, .ref (ad1 0)), (2, .ref (ad2 0)), (3, .ref o0), (4, .int (nI (4 * j)))]) hx hb dL_law_577 hl (by decide) rfl (fun ls hl => ?_)
      refine lv_aload_n hx hb dL_law_579 rfl (lv_at hl 4 rfl) ?_
      obtain ⟨cod2, z2, cn2⟩ := u11
      have h9 : shrP (shrS has up ch (xs ((4 * j) + 1)) (xs ((4 * j) + 2)) (¬ xs ((4 * j) + 3) = 0)) r9 cod2 ∧ z2 = (has, up, ch, tol, rows) := hv10
      obtain ⟨h9, h8⟩ := h9
      subst h8
      refine lc_R2 (rest := []) (u := (own, rows, up, clo, cho, fai, cou, see)) (nn := (cod2, (has, up, ch, tol, rows), cn2)) ⟨hx, hb, hml, hown, hts⟩ (met_X2_thrown l D dA dZ ad2 _ ) (cw_X0_69 hts ⟨Nat.le_of_ble_eq_true rfl, Nat.le_of_ble_eq_true rfl⟩) hK hP hD hS hA rfl rfl hl.1 (Nat.le_of_ble_eq_true rfl) dL_law_580 hcl0 (fun r12 H locs hv13 hP hS => ?_)
      subst hv13
      refine lv_iload hx hb dL_law_583 (lv_at hl 1 rfl) ?_
      have h7 : lsP (shrS has up ch (xs ((4 * j) + 1)) (xs ((4 * j) + 2)) (¬ xs ((4 * j) + 3) = 0)) f r1 f1 := hv1
      revert h7 h9
      cases shrS has up ch (xs ((4 * j) + 1)) (xs ((4 * j) + 2)) (¬ xs ((4 * j) + 3) = 0) with
      | none =>
        intro h9 h7
        obtain ⟨h7a, h7b⟩ := h7
        subst h7a
        clear h7b
        obtain ⟨rfl, rfl⟩ := h9
        refine bw_eq (by omega) (by omega) hx hb (tgt := 590) dL_law_585 (by decide) (fun c15 => ?_) (fun c15 => ?_)
        · refine lv_iload hx hb dL_law_590 (lv_at hl 1 rfl) ?_
          refine bw_ifn (by omega) hx hb (tgt := 607) dL_law_592 (by decide) (fun c16 => ?_) (fun c16 => ?_)
          · refine lv_goto (tgt := 636) hx hb dL_law_607 (by decide) ?_
            exact K ((own, rows, up, clo, cho, fai, cou, see), (nI 1, (has, up, ch, tol, rows), cn2), f1) _ _ _ ⟨lv_sub hl [2, 3, 4, 5, 6] rfl, hP, hD, hS, hR, hM⟩
          · exact absurd c16 (by omega)
        · exact absurd rfl c15
      | some v8 =>
        intro h9 h7
        obtain ⟨h7a, h7b⟩ := h7
        subst h7a
        subst h7b
        obtain ⟨rfl, rfl⟩ := h9
        refine bw_eq (by omega) (by omega) hx hb (tgt := 590) dL_law_585 (by decide) (fun c17 => ?_) (fun c17 => ?_)
        · refine lv_iload hx hb dL_law_590 (lv_at hl 1 rfl) ?_
          refine bw_ifn (by omega) hx hb (tgt := 607) dL_law_592 (by decide) (fun c18 => ?_) (fun c18 => ?_)
          · exact absurd c18 (by omega)
          · refine lv_aload_n hx hb dL_law_595 rfl (lv_at hl 5 rfl) ?_
            refine lv_iconst (v := nI 0) hx hb dL_law_596 (by decide) ?_
            have hPo := hP.sub (ws' := [(o0, .inl (dJ, 1, .inr (.inl (vp_updL f 0 r9.toInt64))))]) [14] rfl
            refine va_lald hx hb hK2 hPo 0 0 rfl rfl (vp_in_nI (n := 0) (N := 1) (by decide) (by decide)) dL_law_597 ?_
            refine lv_iload hx hb dL_law_598 (lv_at hl 0 rfl) ?_
            refine lv_i2l (v := r9.toInt64) hx hb dL_law_600 rfl ?_
            refine W.lcmp hx hb dL_law_601 ?_
            refine bw_top (y := nI 0) lcmp_same ?_
            refine bw_ife (by omega) hx hb (tgt := 607) dL_law_602 (by decide) (fun c19 => ?_) (fun c19 => ?_)
            · refine lv_goto (tgt := 636) hx hb dL_law_607 (by decide) ?_
              exact K ((own, rows, up, clo, cho, fai, cou, see), (nI 0, (has, up, ch, tol, rows), cn2), vp_updL f 0 r9.toInt64) _ _ _ ⟨lv_sub hl [2, 3, 4, 5, 6] rfl, hP, hD, hS, hR, hM⟩
            · exact absurd c19 (by omega)
        · exact absurd rfl c17
end
section
set_option maxRecDepth 100000
def R_law : String := "FacetCountsLaw"
def lw_P (b : Addr) (xs : List Int32) (args : Array Value) (s : State) : Prop := args = #[.ref b] ∧ s.IntsAt b xs ∧ xs.length ≤ 256 ∧ (Jvm.Cond.and given_1 narrow_1).before args s = true
def lw_Q (_ : Array Value) (s : State) (o : Outcome) (t : State) : Prop := o = .returned (some (.int 1)) ∧ Framed s o t [] 600000 7290000
def lw_Z (below : List Frame) (a : Array Value) (s : State) : State → Prop := fun t => ∃ o, t.status = .running ∧ Ended t below o ∧ lw_Q a s o t
/-- the law's own end, with 1 on the stack, nothing written that was there before, its room as the claim has it -/
theorem lw_ret {p : Program} {l : Launch} {e : Env} {s : State} {m : MethodId} {below : List Frame} {meth : Method} {c : Code} {b : Nat} (hx : p.tables.exec = Jvm.exec) (hb : c.code = code) (hr : meth.sig.returnType = ret) (hlocks : meth.locks = false) {pc : Nat} {H : Heap} {ls : Array Slot} (hdg : decode code pc = .ok (.ireturn, 1)) : W p l e room_1 s m #[Value.ref b] below meth c H [] 600000 7290000 (lw_Z below #[Value.ref b] s) (F0 m pc ls [.int 1]) := by
  intro T hT X
  obtain ⟨fs, hret, hrun, hended, hW, hframe⟩ := X.leave (v := some (.int 1)) (hlocks := hlocks) (fun h => by rw [hr] at h; cases h)
  have hmeth' : T.vm.method? m = some meth := X.method'
  refine ⟨T.setFrames fs, ?_, .returned (some (.int 1)), hrun, hended, rfl, ⟨_, rfl⟩, hW, hframe⟩
  jvm_step X.here [X.here.top, hx, hb, hdg, hmeth', hr, ret, narrow_b1]
  (try refine ⟨rfl, ?_⟩); (try refine ⟨rfl, ?_⟩)
  first | (intro acts; rw [hret _ acts rfl rfl rfl]) | rw [hret _ _ rfl rfl rfl]
  exact Steps.refl _
/-- what holds at the law's entry: the machine, the code, the tables' words (any of lw_tbl by 'hts w (by decide +kernel)'), the script of L ints xs at the cell b, what the Statement gives of the start (any of its parts by flat_of_before) -/
def lw_At (p : Program) (s : State) (m : MethodId) (meth : Method) (c : Code) (b L : Nat) (xs : Nat → Int32) : Prop :=
  p.tables.exec = Jvm.exec ∧ c.code = code ∧ meth.sig.returnType = ret ∧ c.maxLocals = 7 ∧ s.vm.findClass R_law = some m.cls ∧ (∀ w ∈ lw_tbl, w.before #[Value.ref b] s = true) ∧ va_X b L xs s s.heap ∧ b < s.heap.size ∧ meth.locks = false ∧ (Jvm.Cond.and given_1 narrow_1).before #[Value.ref b] s = true
set_option maxHeartbeats 4000000 in
set_option maxRecDepth 100000 in
theorem law_loop {p : Program} {l : Launch} {e : Env} {s : State} {m : MethodId} {below : List Frame} {meth : Method} {c : Code} {D : va_G} {dA dZ dJ : ClassId} {ad1 ad2 : Nat → Nat} {o0 b L : Nat} {xs : Nat → Int32} (C : lwC p l s m meth c b L xs D dA dZ dJ) (hr : meth.sig.returnType = ret) (hlocks : meth.locks = false) :
    ∀ (x : FS × NS × (Nat → Int64)) (H : Heap) (locs : List Loc) (ls : Array Slot), lwI s D dA dZ dJ ad1 ad2 o0 b 0 x H locs ls → W p l e room_1 s m #[Value.ref b] below meth c H locs (15 + 3 * 0) (11776 + 19 * 0) (lw_Z below #[Value.ref b] s) (F0 m 23 ls []) := by
  obtain ⟨hx, hb, hml, hown, hts, hX, hbl, hL, hK, hK2, hth, hfl⟩ := id C
  refine w_loopL (L / 4) 15 11776 (lwI s D dA dZ dJ ad1 ad2 o0 b) ?_ ?_
  · intro j x H locs ls hj hI hk
    have hI0 := hI
    obtain ⟨hl, hP, hD, hS, hR, hM⟩ := hI
    have h4 : 4 * j + 4 ≤ L := by omega
    refine lv_iload hx hb dL_law_23 (lv_at hl 4 rfl) ?_
    refine lv_aload_n hx hb dL_law_25 rfl (lv_at hl 0 rfl) ?_
    refine va_slen hx hb hX hbl (Nat.not_le.mpr hbl) hS dL_law_26 ?_
    refine lv_iconst (v := nI 4) hx hb dL_law_27 (by decide) ?_
    refine lv_isub hx hb dL_law_28 ?_
    refine lv_icmp_gt hx hb (tgt := 642) dL_law_29 (by decide) (fun c1 => ?_) (fun c1 => ?_)
    · exact absurd ((law_cmp hL (by omega)).mp c1) (by omega)
    · refine lv_aload_n hx hb dL_law_32 rfl (lv_at hl 0 rfl) ?_
      refine lv_iload hx hb dL_law_33 (lv_at hl 4 rfl) ?_
      refine lw_sld hx hb hX hbl hS (k := 4 * j) (by omega) hL dL_law_35 ?_
      refine lv_bipush (v := nI 15) hx hb dL_law_36 (by decide) ?_
      refine lv_iand hx hb dL_law_38 ?_
      obtain ⟨k, hk16, ek⟩ := and15 (xs (4 * j))
      refine bw_top ek ?_
      have K : ∀ (x : FS × NS × (Nat → Int64)) (H : Heap) (locs : List Loc) (ls : Array Slot), lwI s D dA dZ dJ ad1 ad2 o0 b j x H locs ls → W p l e room_1 s m #[Value.ref b] below meth c H locs (15 + 3 * j + 3) (11776 + 19 * j + 19) (lw_Z below #[Value.ref b] s) (F0 m 636 ls []) := by
        intro x H locs ls hI
        obtain ⟨hl, hP, hD, hS, hR, hM⟩ := hI
        refine lv_iinc (v := nI (4 * (j + 1))) (lv' := [(4, .int (nI (4 * (j + 1)))), (0, .ref b), (1, .ref (ad1 0)), (2, .ref (ad2 0)), (3, .ref o0)]) hx hb dL_law_636 hl (k := 4) rfl (nI_add (4 * j) 4) (by decide) rfl (fun ls hl => ?_)
        refine lv_goto (tgt := 23) hx hb dL_law_639 (by decide) ?_
        refine W.widen (k := 15 + 3 * (j + 1)) (n := 11776 + 19 * (j + 1)) (by omega) (by omega) ?_
        exact hk x _ _ _ ⟨lv_sub hl [1, 2, 3, 4, 0] rfl, hP, hD, hS, hR, hM⟩
      have hcl : 15 + 3 * j + 3 ≤ 600000 ∧ 11776 + 19 * j + 19 ≤ 7290000 := ⟨by omega, by omega⟩
      have hcs : k = 0 ∨ k = 1 ∨ k = 2 ∨ k = 3 ∨ k = 4 ∨ k = 5 ∨ k = 6 ∨ k = 7 ∨ k = 8 ∨ k = 9 ∨ k = 10 ∨ k = 11 ∨ k = 12 ∨ 13 ≤ k := by omega
      rcases hcs with rfl | rfl | rfl | rfl | rfl | rfl | rfl | rfl | rfl | rfl | rfl | rfl | rfl | h13
      · refine lv_tableIn (tgt := 104) (off := 65) hx hb dL_law_39 (by decide) (by decide) rfl (by decide) ?_
        exact law_0 C h4 hcl hI0 K
      · refine lv_tableIn (tgt := 153) (off := 114) hx hb dL_law_39 (by decide) (by decide) rfl (by decide) ?_
        exact law_1 C h4 hcl hI0 K
      · refine lv_tableIn (tgt := 202) (off := 163) hx hb dL_law_39 (by decide) (by decide) rfl (by decide) ?_
        exact law_2 C h4 hcl hI0 K
      · refine lv_tableIn (tgt := 239) (off := 200) hx hb dL_law_39 (by decide) (by decide) rfl (by decide) ?_
        exact law_3 C h4 hcl hI0 K
      · refine lv_tableIn (tgt := 304) (off := 265) hx hb dL_law_39 (by decide) (by decide) rfl (by decide) ?_
        exact law_4 C h4 hcl hI0 K
      · refine lv_tableIn (tgt := 317) (off := 278) hx hb dL_law_39 (by decide) (by decide) rfl (by decide) ?_
        exact law_5 C h4 hcl hI0 K
      · refine lv_tableIn (tgt := 342) (off := 303) hx hb dL_law_39 (by decide) (by decide) rfl (by decide) ?_
        exact law_6 C h4 hcl hI0 K
      · refine lv_tableIn (tgt := 379) (off := 340) hx hb dL_law_39 (by decide) (by decide) rfl (by decide) ?_
        exact law_7 C h4 hcl hI0 K
      · refine lv_tableIn (tgt := 416) (off := 377) hx hb dL_law_39 (by decide) (by decide) rfl (by decide) ?_
        exact law_8 C h4 hcl hI0 K
      · refine lv_tableIn (tgt := 465) (off := 426) hx hb dL_law_39 (by decide) (by decide) rfl (by decide) ?_
        exact law_9 C h4 hcl hI0 K
      · refine lv_tableIn (tgt := 514) (off := 475) hx hb dL_law_39 (by decide) (by decide) rfl (by decide) ?_
        exact law_10 C h4 hcl hI0 K
      · refine lv_tableIn (tgt := 610) (off := 571) hx hb dL_law_39 (by decide) (by decide) rfl (by decide) ?_
        exact law_11 C h4 hcl hI0 K
      · refine lv_tableIn (tgt := 623) (off := 584) hx hb dL_law_39 (by decide) (by decide) rfl (by decide) ?_
        exact law_12 C h4 hcl hI0 K
      · refine lv_tableOut (tgt := 636) hx hb dL_law_39 (Or.inr (by rw [nI_toInt (by omega)]; omega)) (by decide) ?_
        refine W.widen (k := 15 + 3 * j + 3) (n := 11776 + 19 * j + 19) (by omega) (by omega) ?_
        exact K x H locs ls hI0
  · intro x H locs ls hI
    obtain ⟨hl, hP, hD, hS, hR, hM⟩ := hI
    refine lv_iload hx hb dL_law_23 (lv_at hl 4 rfl) ?_
    refine lv_aload_n hx hb dL_law_25 rfl (lv_at hl 0 rfl) ?_
    refine va_slen hx hb hX hbl (Nat.not_le.mpr hbl) hS dL_law_26 ?_
    refine lv_iconst (v := nI 4) hx hb dL_law_27 (by decide) ?_
    refine lv_isub hx hb dL_law_28 ?_
    refine lv_icmp_gt hx hb (tgt := 642) dL_law_29 (by decide) (fun c1 => ?_) (fun c1 => ?_)
    · refine lv_iconst (v := 1) hx hb dL_law_642 (by decide) ?_
      refine va_forget hS.2.2 ?_
      refine W.widen (k := 600000) (n := 7290000) (by omega) (by omega) ?_
      exact lw_ret hx hb hr hlocks dL_law_643
    · exact absurd ((law_cmp hL (by omega)).mpr (by omega)) c1

set_option maxHeartbeats 4000000 in
set_option maxRecDepth 100000 in
theorem whole_start {p : Program} {e : Env} {s : State} {m : MethodId} {below : List Frame} {meth : Method} {c : Code} (l : Launch) (hfl : l.flags = flags0) {b L : Nat} {xs : Nat → Int32} (hL : L ≤ 256) (C0 : lw_At p s m meth c b L xs) : W p l e room_1 s m #[Value.ref b] below meth c s.heap [] 0 0 (lw_Z below #[Value.ref b] s) (entryFrame m ([Value.ref b] : List Value).toArray 7) := by
  obtain ⟨hx, hb, hr, hml, hown, hts0, hX, hbl, hlocks, hgv⟩ := C0
  have hts : ∀ w ∈ lw_all, w.before #[Value.ref b] s = true := fun w h => hts0 w (lw_all_tbl h)
  have hown : s.vm.findClass RX0 = some m.cls := hown
  have hb : c.code = cL_law := hb
  have hA : ∀ q : Nat, s.heap.size ≤ q → (fun q : Nat => s.heap.size ≤ q) q := fun _ h => h
  obtain ⟨c0, iS0, hKn0⟩ := u_known (C := RX1) (T := TX1) (N := 8) (n := 8) hts in_X1 (hts _ q21)
  obtain ⟨c1, iS1, hKn1⟩ := u_known (C := RX2) (T := TX2) (N := 7) (n := 7) hts in_X2 (hts _ q220)
  obtain ⟨D, hKc⟩ : ∃ D : va_G, ∀ (k : Nat) (q : vw_C), vwCl[k]? = some q → u_Kn s q.1 q.2.1 q.2.2 (D.1 k) (D.2 k) := by
    refine ⟨(fun k => if k = 0 then c0 else c1, fun k => if k = 0 then iS0 else iS1), ?_⟩
    intro k q hq
    match k, hq with
    | 0, hq => cases hq; exact hKn0
    | 1, hq => cases hq; exact hKn1
    | k + 2, hq => simp [vwCl] at hq
  obtain ⟨dA, hA1, hA2⟩ := arr_known (hts _ q53)
  obtain ⟨dZ, hZ1, hZ2⟩ := arr_known (hts _ q247)
  have hK : va_K D vwCl (tyW dA dZ) s := ⟨hKc, fun k q h => by
    match k, h with
    | 0, h => cases h; exact ⟨hA1, hA2⟩
    | 1, h => cases h; exact ⟨hZ1, hZ2⟩
    | k + 2, h => simp [tyW] at h⟩
  have hth : thOK s := by
    have hW : s.WarmedH s.vm := State.WarmedH.refl s
    have hg := flat_of_before _ hgv
    have hC0 := hts0 thC (th_tbl _ List.mem_cons_self)
    have hU0 := hts0 thU (th_tbl _ (List.mem_cons_of_mem _ List.mem_cons_self))
    have hL0 := hts0 thL (th_tbl _ (List.mem_cons_of_mem _ (List.mem_cons_of_mem _ List.mem_cons_self)))
    have hUr : (Cond.isRef (.static "java/lang/Throwable" "UNASSIGNED_STACK" "[Ljava/lang/StackTraceElement;")).before #[Value.ref b] s = true := hg _ (by decide +kernel)
    have hLr : (Cond.isRef (.static "java/lang/Throwable" "SUPPRESSED_SENTINEL" "Ljava/util/List;")).before #[Value.ref b] s = true := hg _ (by decide +kernel)
    refine ⟨fun w hw => ?_, va_Nw.of (w := thC) rfl hC0, ls_move hW (fun _ _ => rfl) hU0, ls_move hW (fun _ _ => rfl) hL0, rs_move hW (fun _ _ => rfl) hU0 hUr, rs_move hW (fun _ _ => rfl) hL0 hLr⟩
    have h0 := hts0 w (th_tbl w (List.mem_cons_of_mem _ (List.mem_cons_of_mem _ (List.mem_cons_of_mem _ hw))))
    simp only [thTab, List.mem_cons, List.not_mem_nil, or_false] at hw
    rcases hw with rfl | rfl | rfl | rfl | rfl | rfl <;> exact va_Nw.of rfl h0
  have hS : va_S (fun q : Nat => s.heap.size ≤ q) s.heap s.heap [] := va_S.rf
  have hP : va_P D vwCl [] s.heap := fun k q h => by simp at h
  have hD : va_D (fun q : Nat => s.heap.size ≤ q) [] := ⟨fun i j p q h => by simp at h, fun k q h => by simp at h⟩
  have hl := lv_entry ([.ref b]) (n := 7) (Nat.le_of_ble_eq_true rfl)
  rw [lg_entry_eq]
  generalize (lg_sl ([.ref b]) ++ List.replicate (7 - (lg_sl ([.ref b])).length) Slot.unset).toArray = ls at hl ⊢
  have hl : lv_has ls 7 [(0, .ref b)] := hl
  refine va_new (ci := 0) (fs := [.null, .int 0, .null, .null, .null, .null, .null, .null]) (C := RX1) (T := TX1) (N := 8) hx hb hts in_X1 tyX1 tyX1_ok hown (hts _ q20) (hts _ q21) (hts _ q13) hK hP hD hS hA rfl (fun j hj => by rcases (show j = 0 ∨ j = 1 ∨ j = 2 ∨ j = 3 ∨ j = 4 ∨ j = 5 ∨ j = 6 ∨ j = 7 by omega) with rfl | rfl | rfl | rfl | rfl | rfl | rfl | rfl <;> rfl) (Nat.le_of_ble_eq_true rfl) (Nat.le_of_ble_eq_true rfl) dL_law_0 (fun a1 H hP1 hD1 hS1 => ?_)
  have hP1 : va_P D vwCl [(a1, .inr (0, [.null, .int 0, .null, .null, .null, .null, .null, .null]))] H := hP1
  have hD1 : va_D (fun q : Nat => s.heap.size ≤ q) [(a1, .inr (0, [.null, .int 0, .null, .null, .null, .null, .null, .null]))] := hD1
  refine W.widen (k := 1) (n := 8) (Nat.le_of_ble_eq_true rfl) (Nat.le_of_ble_eq_true rfl) ?_
  refine lv_dup hx hb dL_law_3 rfl ?_
  have hFc := va_free (wc := [(a1, .inr (0, [.null, .int 0, .null, .null, .null, .null, .null, .null]))]) hD1 hS1 hA [0] rfl
  refine va_callv (va_runI (As := []) (rest := [.ref a1]) ⟨hx, hb, hml, hown, hts⟩ (met_X1_init l D dA dZ a1 H.size) (cwI 0 hts (lw_meth q24) rfl rfl rfl (hts _ q13) (hts _ q22) (hts _ q23) rfl (by decide +kernel) ⟨(Nat.le_of_ble_eq_true rfl), (Nat.le_of_ble_eq_true rfl)⟩) ⟨wPre_blind _ D dA dZ _ H.size, fun U hU hW => ⟨rfl, by rw [hU], by rw [hU]; exact hP1, va_K.moved hW.alike hK, hD1.weaken (fun _ _ _ _ => trivial)⟩⟩ rfl rfl hl.1 rfl (lv_room (Nat.le_of_ble_eq_true rfl)) dL_law_4 ⟨(Nat.le_of_ble_eq_true rfl), (Nat.le_of_ble_eq_true rfl)⟩) hS1 (fun q _ h => hFc q h) hFc (fun u t H1 locs ht hvm hw hB hz1 hk1 hS2 => ?_)
  obtain ⟨ad1, u⟩ := u
  have hw1 : ad1 0 = a1 := hw.1
  have hw2 : u = u0 := hw.2
  rw [hw2] at hB
  obtain ⟨hB1, hB2⟩ := hB
  rw [ht] at hB1
  obtain ⟨hP2, hD2⟩ := va_join (wr := []) (w1 := fcU dA ad1 u0) hP1 hD1 [0] [] rfl rfl (by decide) (by decide) hk1 hFc hB1 hB2
  have hP2 : va_P D vwCl (fcU dA ad1 u0) H1 := hP2
  have hD2 : va_D (fun q : Nat => s.heap.size ≤ q) (fcU dA ad1 u0) := hD2
  refine W.widen (k := 8) (n := 952) (Nat.le_of_ble_eq_true rfl) (Nat.le_of_ble_eq_true rfl) ?_
  rw [← hw1]
  refine lv_astore_n (lv' := [(1, .ref (ad1 0)), (0, .ref b)]) hx hb dL_law_7 rfl hl (by decide) rfl (fun ls hl => ?_)
  refine va_new (ci := 1) (fs := [.int 0, .null, .null, .null, .null, .null, .int 0]) (C := RX2) (T := TX2) (N := 7) hx hb hts in_X2 tyX2 tyX2_ok hown (hts _ q219) (hts _ q220) (hts _ q14) hK hP2 hD2 hS2 hA rfl (fun j hj => by rcases (show j = 0 ∨ j = 1 ∨ j = 2 ∨ j = 3 ∨ j = 4 ∨ j = 5 ∨ j = 6 by omega) with rfl | rfl | rfl | rfl | rfl | rfl | rfl <;> rfl) (Nat.le_of_ble_eq_true rfl) (Nat.le_of_ble_eq_true rfl) dL_law_8 (fun a2 H2 hP3 hD3 hS3 => ?_)
  have hP3 : va_P D vwCl (fcU dA ad1 u0 ++ [(a2, .inr (1, [.int 0, .null, .null, .null, .null, .null, .int 0]))]) H2 := hP3
  have hD3 : va_D (fun q : Nat => s.heap.size ≤ q) (fcU dA ad1 u0 ++ [(a2, .inr (1, [.int 0, .null, .null, .null, .null, .null, .int 0]))]) := hD3
  refine W.widen (k := 9) (n := 959) (Nat.le_of_ble_eq_true rfl) (Nat.le_of_ble_eq_true rfl) ?_
  refine lv_dup hx hb dL_law_11 rfl ?_
  have hPc := hP3.sub (ws' := [(a2, .inr (1, [.int 0, .null, .null, .null, .null, .null, .int 0]))]) [8] rfl
  have hDc := hD3.sub (ws' := [(a2, .inr (1, [.int 0, .null, .null, .null, .null, .null, .int 0]))]) [8] (by decide) rfl
  have hFc2 := va_free (wc := [(a2, .inr (1, [.int 0, .null, .null, .null, .null, .null, .int 0]))]) hD3 hS3 hA [8] rfl
  refine va_callv (va_runI (As := []) (rest := [.ref a2]) ⟨hx, hb, hml, hown, hts⟩ (met_X2_init l D dA dZ a2 H2.size) (cwI 0 hts (lw_meth q223) rfl rfl rfl (hts _ q14) (hts _ q221) (hts _ q222) rfl (by decide +kernel) ⟨(Nat.le_of_ble_eq_true rfl), (Nat.le_of_ble_eq_true rfl)⟩) ⟨wPre_blind _ D dA dZ _ H2.size, fun U hU hW => ⟨rfl, by rw [hU], by rw [hU]; exact hPc, va_K.moved hW.alike hK, hDc.weaken (fun _ _ _ _ => trivial)⟩⟩ rfl rfl hl.1 rfl (lv_room (Nat.le_of_ble_eq_true rfl)) dL_law_12 ⟨(Nat.le_of_ble_eq_true rfl), (Nat.le_of_ble_eq_true rfl)⟩) hS3 (fun q _ h => hFc2 q h) hFc2 (fun n t2 H3 locs ht2 hvm2 hv hB3 hz3 hk3 hS4 => ?_)
  obtain ⟨ad2, n⟩ := n
  have hw3 : ad2 0 = a2 := hv.1
  have hw4 : n = (0, z0, zN) := hv.2
  rw [hw4] at hB3
  obtain ⟨hB4, hB5⟩ := hB3
  rw [ht2] at hB4
  obtain ⟨hP4, hD4⟩ := va_join (wr := fcU dA ad1 u0) (w1 := mdU dA dZ ad2 (0, z0, zN)) hP3 hD3 [8] [0, 1, 2, 3, 4, 5, 6, 7] rfl rfl (by decide) (by decide) hk3 hFc2 hB4 hB5
  refine W.widen (k := 14) (n := 11775) (Nat.le_of_ble_eq_true rfl) (Nat.le_of_ble_eq_true rfl) ?_
  rw [← hw3]
  refine lv_astore_n (lv' := [(2, .ref (ad2 0)), (1, .ref (ad1 0)), (0, .ref b)]) hx hb dL_law_15 rfl hl (by decide) rfl (fun ls hl => ?_)
  refine lv_iconst (v := nI 1) hx hb dL_law_16 (by decide) ?_
  refine va_newa (atype := .long) (ty := .long) (N' := 1) (a0 := (1, .inr (.inl (fun _ => 0)))) hx hb (hts _ q340) rfl hK hP4 hD4 hS4 hA (fun cA => vp_cell_l _ _ _) (by decide) (by decide) (by decide) (Nat.le_of_ble_eq_true rfl) (Nat.le_of_ble_eq_true rfl) dL_law_17 (fun o0 dJ H4 hK5 hP5 hD5 hS5 => ?_)
  refine W.widen (k := 15 + 3 * 0) (n := 11776 + 19 * 0) (Nat.le_of_ble_eq_true rfl) (Nat.le_of_ble_eq_true rfl) ?_
  refine lv_astore_n (lv' := [(3, .ref o0), (2, .ref (ad2 0)), (1, .ref (ad1 0)), (0, .ref b)]) hx hb dL_law_19 rfl hl (by decide) rfl (fun ls hl => ?_)
  refine lv_iconst (v := nI 0) hx hb dL_law_20 (by decide) ?_
  refine lv_istore (lv' := [(4, .int (nI 0)), (3, .ref o0), (2, .ref (ad2 0)), (1, .ref (ad1 0)), (0, .ref b)]) hx hb dL_law_21 hl (by decide) rfl (fun ls hl => ?_)
  exact law_loop (D := D) (dA := dA) (dZ := dZ) (dJ := dJ) (ad1 := ad1) (ad2 := ad2) (o0 := o0) ⟨hx, hb, hml, hown, hts, hX, hbl, hL, hK, hK5.sub [2] rfl, hth, hfl⟩ hr hlocks (u0, (0, z0, zN), fun _ => 0) _ _ _ ⟨lv_sub hl [4, 3, 2, 1, 0] rfl, hP5, hD5, hS5, z0_Rp, z0_ok⟩
end
section
set_option maxRecDepth 100000
set_option maxHeartbeats 4000000 in
theorem lw_walk (l : Launch) (hfl : l.flags = flags0) (b : Addr) (xs : List Int32) : MetFree l x (headSpec (Jvm.Cond.code x code maxLocals ret :: tables_1) room_1) (lw_P b xs) (fun _ _ _ _ _ => True) lw_Q := by
  refine MetFree.of_bodyS (code := code) (maxLocals := maxLocals) (ret := ret) (by decide) ?_ ?_
  · intro args s m h hn
    obtain ⟨meth, c, h1, h2, h3, h4, h5, h6, -, -⟩ := Cond.code_spec hn (atoms_spec (ws := Jvm.Cond.code x code maxLocals ret :: tables_1) h _ List.mem_cons_self)
    exact ⟨meth, c, h1, h2, h3, h4, h5, h6⟩
  · intro p e s m args below meth c s₁ B hml0 hP _
    obtain ⟨rfl, hx, hbd, hgv⟩ := hP
    obtain ⟨scr, harrAt, hlist, hof, hsmall⟩ := hx
    obtain ⟨hcb, hkn, -, -⟩ := State.arrayAt?_spec harrAt
    have hown : s.vm.findClass R_law = some m.cls := findClass_of_methodNamed B.named
    have hts0 : ∀ c ∈ (Jvm.Cond.code x code maxLocals ret :: tables_1), c.before #[Value.ref b] s = true := atoms_spec (ws := Jvm.Cond.code x code maxLocals ret :: tables_1) B.pre
    have hts : ∀ w ∈ lw_tbl, w.before #[Value.ref b] s = true := k2_hts_sels lw_privs (fun w hw => hts0 w (List.mem_cons_of_mem _ hw)) lw_privs_ok
    have hml : c.maxLocals = 7 := B.maxLocals_eq (hts0 _ List.mem_cons_self)
    have X₀ : Stand p l e room_1 s m #[Value.ref b] below meth c s₁ [] 0 0 := Stand.of_body B
    have hh0 : s₁.heap = s.heap := by rw [B.state]; rfl
    have hsz : scr.slots.size = xs.length := by rw [← Array.length_toList, hlist, List.length_map]
    have hval : ∀ j : Nat, j < xs.length → scr.slots[j]? = some (.int (xs.getD j 0)) := fun j hj => by
      rw [← Array.getElem?_toList, hlist]
      simp [hj]
    have hbl : b < s.heap.size := (Array.getElem?_eq_some_iff.mp hcb).1
    have hX : va_X b xs.length (fun j => xs.getD j 0) s s.heap := ⟨scr, hcb, hof, hkn, hsz, hval⟩
    have K : W p l e room_1 s m #[Value.ref b] below meth c s₁.heap [] 0 0 (lw_Z below #[Value.ref b] s) (entryFrame m ([Value.ref b] : List Value).toArray 7) := by
      rw [hh0]
      exact whole_start l hfl hbd ⟨B.exec, B.bytes, B.returns, hml, hown, hts, hX, hbl, B.notSynchronized, hgv⟩
    obtain ⟨t, a1, o, b1, b2, b3⟩ := K s₁ rfl X₀
    exact ⟨t, o, a1, b1, b2, b3⟩
theorem lw_pre_spec {args : Array Value} {s : State} (h : (Jvm.Cond.and given_1 narrow_1).before args s = true) (hr : rest_1_c.before args s = true) : ∃ (b : Addr) (xs : List Int32), lw_P b xs args s := by
  have hs := flat_of_before _ h
  have hq := flat_of_before _ hr
  have hc : (Cond.count 1).before args s = true := hs _ (by decide +kernel)
  have harr : (Cond.arrayOf (.arg 0) .int).before args s = true := hs _ (by decide +kernel)
  have hle : (Cond.le (.length (.arg 0)) (.int 256)).before args s = true := hs _ (by decide +kernel)
  have hlen : (Cond.isInt (.length (.arg 0))).before args s = true := hq _ (by decide +kernel)
  have hall : (Cond.all (.arg 0) (.isInt (.elem (.arg 0) (.index 0)))).before args s = true := hq _ (by decide +kernel)
  obtain ⟨b, xs, hb, hx⟩ := State.ints_of_pre rfl harr hlen hall
  have hsm : xs.length < 2 ^ 31 := hx.choose_spec.2.2.2
  have hev : (Term.length (.arg 0)).eval args s none [] s = some (.int xs.length.toInt32) := hx.length_eval hb
  have hv := Cond.le_ints hev (show (Term.int 256).eval args s none [] s = some (.int 256) from rfl)
  have hd : xs.length.toInt32 ≤ 256 := by
    simpa [Cond.before, Cond.holds, hv] using hle
  have hN : xs.length ≤ 256 := (Int32.ofNat_le_ofNat hsm (by decide)).mp (show Int32.ofNat xs.length ≤ Int32.ofNat 256 from hd)
  exact ⟨b, xs, Cond.one_arg hc (show args[0]? = some (.ref b) from hb), hx, hN, h⟩
theorem lw_comes (l : Launch) (hfl : l.flags = flags0) : Comes l x (Jvm.Cond.code x code maxLocals ret :: tables_1) room_1 (fun tb e args s => Calls_1 tb e args s ∧ rest_1 tb e args s ∧ Pre_1 tb e args s)
    (fun _ _ args s o t => lw_Q args s o t) := by
  intro p e ha hc hk s m args below hf hfit hheap happ hpre
  obtain ⟨b, xs, hP⟩ := lw_pre_spec hpre.2.2 hpre.2.1
  obtain ⟨k, o, h1, h2, h3, hQ⟩ := lw_walk l hfl b xs p e ha hc hk s m args below hf ((Spec.applies_iff_loose hf).mp happ).1 hP trivial
  exact ⟨k, o, h1, h2, h3, hQ⟩
theorem lw_frame {s t : State} {o : Outcome} {args : Array Value} (h : Framed s o t [] 600000 7290000) :
    Framed s o t (fieldLocs frame_1_writes args s ++ arrayLocs frame_1_arrays args s ++ staticLocs frame_1_statics s) 600000 7290000 := h
theorem lw_limb (L : Cond) (hL : ∀ (args : Array Value) (s t : State), L.after args s (.returned (some (.int 1))) t = true) :
    ArmFor flags0 classFile x code maxLocals ret World_1 tables_1 room_1 Calls_1 rest_1 Pre_1
      (fun tb e a s o t => postC L tb e a s o t ∧ Framed s o t (fieldLocs frame_1_writes a s ++ arrayLocs frame_1_arrays a s ++ staticLocs frame_1_statics s) 600000 7290000) := by
  intro l hfl _ _ p e ha hc hk s m args below hf hfit hheap happ hpre
  obtain ⟨k, o, h1, h2, h3, rfl, hF⟩ := lw_comes l hfl p e ha hc hk s m args below hf hfit hheap happ hpre
  exact ⟨k, _, h1, h2, h3, hL args s _, lw_frame hF⟩
theorem i_vc : Claimed_1_1 ∧ Claimed_1_2 := ⟨lw_limb limb_1_1 (fun args s t => by simp [limb_1_1, Cond.after, Cond.holds, Cond.value]), lw_limb limb_1_2 (fun args s t => Cond.after_iff.mpr (by
  first | (rw [show limb_1_2 = Cond.eq .result (.int 1) from rfl, Cond.eq_ints (x := 1) (y := 1) rfl rfl]; simp; done) | (simp [limb_1_2, Cond.value, Term.eval]; done)))⟩
end
